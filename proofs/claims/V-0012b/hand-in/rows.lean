section
/-! rows of the kit, pasted -/
theorem pk_us {f : Nat → Int32} {k : Nat} {x : Int32} : upd f k x k = x := if_pos rfl
theorem pk_un {f : Nat → Int32} {k j : Nat} {x : Int32} (h : j ≠ k) : upd f k x j = f j := if_neg h
theorem pk_sub {a b : Nat} (h : b ≤ a) : nI a - nI b = nI (a - b) := by
  obtain ⟨c, rfl⟩ : ∃ c, a = c + b := ⟨a - b, by omega⟩
  rw [← nI_add, Int32.add_sub_cancel, Nat.add_sub_cancel]
theorem pk_m1 (n : Nat) : nI (n + 1) + (-1) = nI n := by
  rw [← nI_1, Int32.add_assoc, show (1 : Int32) + (-1) = 0 from rfl, Int32.add_zero]
theorem pk_mul (a b : Nat) : nI a * nI b = nI (a * b) := (Int32.ofNat_mul a b).symm
theorem pk_div {a d : Nat} (ha : a < 2 ^ 31) (h0 : 0 < d) (hd : d < 2 ^ 31) : nI a / nI d = nI (a / d) := by
  apply Int32.toInt_inj.mp
  rw [lg_idiv_nonneg (by rw [nI_toInt ha]; omega) (by rw [nI_toInt hd]; omega), nI_toInt ha, nI_toInt hd, nI_toInt (Nat.lt_of_le_of_lt (Nat.div_le_self a d) ha)]
  first | rfl | exact (Int.natCast_ediv _ _).symm
theorem pk_rem {a d : Nat} (ha : a < 2 ^ 31) (h0 : 0 < d) (hd : d < 2 ^ 31) : nI a - nI a / nI d * nI d = nI (a % d) := by
  rw [pk_div ha h0 hd, pk_mul, pk_sub (Nat.div_mul_le_self a d)]
  exact congrArg nI (by have := Nat.div_add_mod' a d; omega)
theorem pk_ix (x : Int32) {n : Nat} (hn : n < 2 ^ 31) : x < 0 ∨ nI n ≤ x ∨ ∃ j : Nat, j < n ∧ x = nI j := by
  by_cases h : x < 0
  · exact Or.inl h
  · obtain ⟨j, hj, rfl⟩ := nI_of h
    by_cases h2 : j < n
    · exact Or.inr (Or.inr ⟨j, h2, rfl⟩)
    · exact Or.inr (Or.inl (nI_le (by omega) hj))
theorem pk_le {x y : Int32} {A B : Prop} (a b : Nat) (f : a ≤ b → A) (g : b < a → B) (hx : x = nI a := by rfl) (hy : y = nI b := by rfl) (ha : a < 2 ^ 31 := by omega) (hb : b < 2 ^ 31 := by omega) : (x ≤ y → A) ∧ (¬ x ≤ y → B) := by
  subst hx hy
  rw [nI_leI ha hb]
  exact ⟨f, fun z => g (by omega)⟩
theorem pk_lt {x y : Int32} {A B : Prop} (a b : Nat) (f : a < b → A) (g : b ≤ a → B) (hx : x = nI a := by rfl) (hy : y = nI b := by rfl) (ha : a < 2 ^ 31 := by omega) (hb : b < 2 ^ 31 := by omega) : (x < y → A) ∧ (¬ x < y → B) := by
  subst hx hy
  rw [nI_ltI ha hb]
  exact ⟨f, fun z => g (by omega)⟩
theorem pk_eq {x y : Int32} {A B : Prop} (a b : Nat) (f : a = b → A) (g : a ≠ b → B) (hx : x = nI a := by rfl) (hy : y = nI b := by rfl) (ha : a < 2 ^ 31 := by omega) (hb : b < 2 ^ 31 := by omega) : (x = y → A) ∧ (¬ x = y → B) := by
  subst hx hy
  rw [nI_eq ha hb]
  exact ⟨f, g⟩
theorem pk_in {x : Int32} (n N : Nat) (h : n < N) (hx : x = nI n := by rfl) (hN : N < 2 ^ 31 := by omega) : vp_in x N := by
  subst hx
  exact vp_in_nI h hN
theorem pk_cl {x : Int32} (n : Nat) (hx : x = nI n := by rfl) (h : n < 2 ^ 31 := by omega) : x.toNatClampNeg = n := by
  subst hx
  exact nI_clamp h
theorem pk_tn {n : Nat} (h : n < 2 ^ 32) : (nI n).toBitVec.toNat = n := Nat.mod_eq_of_lt h
theorem pk_least (P : Nat → Prop) (h : ∃ k, P k) : ∃ k, P k ∧ ∀ j, j < k → ¬ P j := by
  obtain ⟨k, hk⟩ := h
  induction k using Nat.strongRecOn with
  | ind k ih =>
    by_cases e : ∃ j, j < k ∧ P j
    · obtain ⟨j, hj, pj⟩ := e
      exact ih j hj pj
    · exact ⟨k, hk, fun j hj pj => e ⟨j, hj, pj⟩⟩
def bt (x : Int32) (i : Nat) : Bool := x.toBitVec.getLsbD i
theorem b_ext {x y : Int32} (h : ∀ i, i < 32 → bt x i = bt y i) : x = y := Int32.toBitVec_inj.mp (BitVec.eq_of_getLsbD_eq (fun i hi => h i hi))
theorem b_or (x y : Int32) (i : Nat) : bt (x ||| y) i = (bt x i || bt y i) := by unfold bt; rw [Int32.toBitVec_or, BitVec.getLsbD_or]
theorem b_and (x y : Int32) (i : Nat) : bt (x &&& y) i = (bt x i && bt y i) := by unfold bt; rw [Int32.toBitVec_and, BitVec.getLsbD_and]
theorem b_xor (x y : Int32) (i : Nat) : bt (x ^^^ y) i = (bt x i ^^ bt y i) := by unfold bt; rw [Int32.toBitVec_xor, BitVec.getLsbD_xor]
theorem b_big {x : Int32} {i : Nat} (h : 32 ≤ i) : bt x i = false := BitVec.getLsbD_of_ge _ _ h
theorem b_m1 : ∀ i, i < 32 → bt (-1) i = true := by decide +kernel
theorem b_0 (i : Nat) : bt 0 i = false := BitVec.getLsbD_zero
theorem s_l : ∀ n, n < 32 → ((nI n &&& 31).toBitVec.smod 32).toNat = n := by decide +kernel
theorem b_shl (n : Nat) (hn : n < 32) (x : Int32) {i : Nat} (hi : i < 32) : bt (x <<< (nI n &&& 31)) i = (decide (n ≤ i) && bt x (i - n)) := by
  unfold bt
  rw [Int32.toBitVec_shiftLeft]
  show (x.toBitVec <<< ((nI n &&& 31).toBitVec.smod 32).toNat).getLsbD i = _
  rw [s_l n hn, BitVec.getLsbD_shiftLeft]
  rcases Nat.lt_or_ge i n with h | h
  · simp [h, Nat.not_le.mpr h]
  · simp [hi, h, Nat.not_lt.mpr h]
theorem b_sshr (n : Nat) (hn : n < 32) (x : Int32) {i : Nat} (hi : i < 32) : bt (x >>> (nI n &&& 31)) i = if n + i < 32 then bt x (n + i) else bt x 31 := by
  unfold bt
  rw [Int32.toBitVec_shiftRight]
  show (x.toBitVec.sshiftRight ((nI n &&& 31).toBitVec.smod 32).toNat).getLsbD i = _
  rw [s_l n hn, BitVec.getLsbD_sshiftRight, BitVec.msb_eq_getLsbD_last]
  simp [hi]
end
section
/-! own rows: bits of an Int32, sets by bits, counts -/
theorem qa_b1 : ∀ i, i < 32 → bt 1 i = decide (i = 0) := by decide +kernel
theorem qa_one {i : Nat} (hi : i < 32) (j : Nat) : bt ((1 : Int32) <<< (nI i &&& 31)) j = decide (j = i) := by
  rcases Nat.lt_or_ge j 32 with h | h
  · rw [b_shl i hi 1 h]
    by_cases e : j = i
    · subst e
      rw [Nat.sub_self, qa_b1 0 (by decide)]
      simp
    · by_cases h2 : i ≤ j
      · rw [qa_b1 (j - i) (by omega)]
        have h3 : ¬ (j - i = 0) := by omega
        simp [e, h3]
      · simp [e, h2]
  · rw [b_big h]
    have h3 : ¬ (j = i) := by omega
    simp [h3]
theorem qa_eq0 {x : Int32} : x = 0 ↔ ∀ j, bt x j = false := by
  constructor
  · intro h j
    rw [h, b_0]
  · intro h
    apply b_ext
    intro i _
    rw [h i, b_0]
theorem qa_ne0 {x : Int32} (h : ¬ x = 0) : ∃ j, bt x j = true := by
  apply Classical.byContradiction
  intro hn
  apply h
  rw [qa_eq0]
  intro j
  cases hb : bt x j
  · rfl
  · exact absurd ⟨j, hb⟩ hn
theorem qa_nz {x : Int32} {j : Nat} (h : bt x j = true) : ¬ x = 0 := by
  intro e
  rw [e, b_0] at h
  exact Bool.noConfusion h
theorem qa_lt {x : Int32} {j : Nat} (h : bt x j = true) : j < 32 := by
  rcases Nat.lt_or_ge j 32 with h2 | h2
  · exact h2
  · rw [b_big h2] at h
    exact Bool.noConfusion h
theorem qa_tst (x : Int32) {i : Nat} (hi : i < 32) : (x &&& ((1 : Int32) <<< (nI i &&& 31))) = 0 ↔ bt x i = false := by
  rw [qa_eq0]
  constructor
  · intro h
    have h1 := h i
    rw [b_and, qa_one hi] at h1
    simpa using h1
  · intro h j
    rw [b_and, qa_one hi]
    by_cases e : j = i
    · rw [e, h]; rfl
    · simp [e]
theorem qa_shr (x : Int32) {i : Nat} (hi : i < 32) : ((x >>> (nI i &&& 31)) &&& 1) = 0 ↔ bt x i = false := by
  rw [qa_eq0]
  constructor
  · intro h
    have h1 := h 0
    rw [b_and, b_sshr i hi x (by decide), qa_b1 0 (by decide), Nat.add_zero, if_pos hi] at h1
    simpa using h1
  · intro h j
    rcases Nat.lt_or_ge j 32 with h2 | h2
    · rw [b_and, qa_b1 j h2]
      by_cases e : j = 0
      · subst e
        rw [b_sshr i hi x (by decide), Nat.add_zero, if_pos hi, h]; rfl
      · simp [e]
    · exact b_big h2
theorem qa_t1 {x : Int32} {i : Nat} {P Q : Prop} (hi : i < 32) (h : bt x i = true) (b : Q) : ((x &&& ((1 : Int32) <<< (nI i &&& 31))) = 0 → P) ∧ (¬ (x &&& ((1 : Int32) <<< (nI i &&& 31))) = 0 → Q) :=
  br_f (fun e => by rw [qa_tst x hi, h] at e; exact Bool.noConfusion e) b
theorem qa_t0 {x : Int32} {i : Nat} {P Q : Prop} (hi : i < 32) (h : bt x i = false) (a : P) : ((x &&& ((1 : Int32) <<< (nI i &&& 31))) = 0 → P) ∧ (¬ (x &&& ((1 : Int32) <<< (nI i &&& 31))) = 0 → Q) :=
  br_t ((qa_tst x hi).mpr h) a
theorem qa_s1 {x : Int32} {i : Nat} {P Q : Prop} (hi : i < 32) (h : bt x i = true) (b : Q) : (((x >>> (nI i &&& 31)) &&& 1) = 0 → P) ∧ (¬ ((x >>> (nI i &&& 31)) &&& 1) = 0 → Q) :=
  br_f (fun e => by rw [qa_shr x hi, h] at e; exact Bool.noConfusion e) b
theorem qa_s0 {x : Int32} {i : Nat} {P Q : Prop} (hi : i < 32) (h : bt x i = false) (a : P) : (((x >>> (nI i &&& 31)) &&& 1) = 0 → P) ∧ (¬ ((x >>> (nI i &&& 31)) &&& 1) = 0 → Q) :=
  br_t ((qa_shr x hi).mpr h) a
theorem qa_orb (x : Int32) {i : Nat} (hi : i < 32) (j : Nat) : bt (x ||| ((1 : Int32) <<< (nI i &&& 31))) j = (bt x j || decide (j = i)) := by
  rw [b_or, qa_one hi]
theorem qa_not (x : Int32) (j : Nat) : bt (x ^^^ (-1)) j = (decide (j < 32) && !bt x j) := by
  rcases Nat.lt_or_ge j 32 with h | h
  · rw [b_xor, b_m1 j h]
    simp [h]
  · rw [b_big h]
    have h3 : ¬ (j < 32) := by omega
    simp [h3]
theorem qa_diff (x y : Int32) (j : Nat) : bt (x &&& (y ^^^ (-1))) j = (bt x j && !bt y j) := by
  rw [b_and, qa_not]
  rcases Nat.lt_or_ge j 32 with h | h
  · simp [h]
  · rw [b_big h]; rfl
theorem qa_clr (x : Int32) {i : Nat} (hi : i < 32) (j : Nat) : bt (x &&& (((1 : Int32) <<< (nI i &&& 31)) ^^^ (-1))) j = (bt x j && !decide (j = i)) := by
  rw [qa_diff, qa_one hi]
/-- the set of the j below m with c j -/
def qa_sF (c : Nat → Bool) : Nat → Int32
  | 0 => 0
  | m + 1 => if c m = true then qa_sF c m ||| ((1 : Int32) <<< (nI m &&& 31)) else qa_sF c m
theorem qa_sFt {c : Nat → Bool} {m : Nat} (h : c m = true) : qa_sF c m ||| ((1 : Int32) <<< (nI m &&& 31)) = qa_sF c (m + 1) := by
  show _ = if c m = true then _ else _
  rw [if_pos h]
theorem qa_sFf {c : Nat → Bool} {m : Nat} (h : c m = false) : qa_sF c m = qa_sF c (m + 1) := by
  show _ = if c m = true then _ else _
  rw [if_neg (by rw [h]; exact Bool.noConfusion)]
theorem qa_sFb (c : Nat → Bool) : ∀ m, m ≤ 32 → ∀ j, bt (qa_sF c m) j = (decide (j < m) && c j) := by
  intro m
  induction m with
  | zero =>
    intro _ j
    show bt 0 j = _
    rw [b_0]
    simp
  | succ m ih =>
    intro hm j
    have ih := ih (by omega) j
    show bt (if c m = true then _ else _) j = _
    by_cases hc : c m = true
    · rw [if_pos hc, qa_orb _ (by omega), ih]
      by_cases e : j = m
      · subst e
        simp [hc]
      · by_cases h2 : j < m
        · have h3 : j < m + 1 := by omega
          simp [h2, h3, e]
        · have h3 : ¬ j < m + 1 := by omega
          simp [h2, h3, e]
    · rw [if_neg hc, ih]
      by_cases e : j = m
      · subst e
        have hc' : c j = false := by simpa using hc
        simp [hc']
      · by_cases h2 : j < m
        · have h3 : j < m + 1 := by omega
          simp [h2, h3]
        · have h3 : ¬ j < m + 1 := by omega
          simp [h2, h3]
/-- how many j below m have c j -/
def qa_cn (c : Nat → Bool) : Nat → Nat
  | 0 => 0
  | m + 1 => (if c m = true then 1 else 0) + qa_cn c m
theorem qa_cnS (c : Nat → Bool) (m : Nat) : qa_cn c (m + 1) = (if c m = true then 1 else 0) + qa_cn c m := rfl
theorem qa_cn_le (c : Nat → Bool) : ∀ m, qa_cn c m ≤ m := by
  intro m
  induction m with
  | zero => exact Nat.le_refl _
  | succ m ih =>
    rw [qa_cnS]
    by_cases h : c m = true
    · rw [if_pos h]; omega
    · rw [if_neg h]; omega
theorem qa_cn_mono {c c' : Nat → Bool} : ∀ m, (∀ j, j < m → c j = true → c' j = true) → qa_cn c m ≤ qa_cn c' m := by
  intro m
  induction m with
  | zero => intro _; exact Nat.le_refl _
  | succ m ih =>
    intro h
    have ih := ih (fun j hj => h j (by omega))
    rw [qa_cnS, qa_cnS]
    by_cases h1 : c m = true
    · rw [if_pos h1, if_pos (h m (by omega) h1)]; omega
    · rw [if_neg h1]; omega
theorem qa_cn_congr {c c' : Nat → Bool} (m : Nat) (h : ∀ j, j < m → c j = c' j) : qa_cn c m = qa_cn c' m :=
  Nat.le_antisymm (qa_cn_mono m (fun j hj e => by rw [← h j hj]; exact e)) (qa_cn_mono m (fun j hj e => by rw [h j hj]; exact e))
theorem qa_cn_slt {c c' : Nat → Bool} {i : Nat} : ∀ m, i < m → (∀ j, j < m → c j = true → c' j = true) → c i = false → c' i = true → qa_cn c m < qa_cn c' m := by
  intro m
  induction m with
  | zero => intro h; omega
  | succ m ih =>
    intro hi h h0 h1
    rw [qa_cnS, qa_cnS]
    by_cases e : i = m
    · subst e
      have h2 := qa_cn_mono (c := c) (c' := c') i (fun j hj => h j (by omega))
      rw [if_pos h1, if_neg (by rw [h0]; exact Bool.noConfusion)]
      omega
    · have ih := ih (by omega) (fun j hj => h j (by omega)) h0 h1
      by_cases h3 : c m = true
      · rw [if_pos h3, if_pos (h m (by omega) h3)]; omega
      · rw [if_neg h3]; omega
theorem qa_cn_lt {c : Nat → Bool} {i : Nat} (m : Nat) (hi : i < m) (h : c i = false) : qa_cn c m < m := by
  have h1 := qa_cn_slt (c := c) (c' := fun _ => true) m hi (fun _ _ _ => rfl) h rfl
  have h2 := qa_cn_le (fun _ => true) m
  omega
theorem qa_cn_up {c c' : Nat → Bool} {i : Nat} : ∀ m, i < m → c i = false → c' i = true → (∀ j, j < m → j ≠ i → c' j = c j) → qa_cn c' m = qa_cn c m + 1 := by
  intro m
  induction m with
  | zero => intro h; omega
  | succ m ih =>
    intro hi h0 h1 h
    rw [qa_cnS, qa_cnS]
    by_cases e : i = m
    · subst e
      have h2 := qa_cn_congr (c := c') (c' := c) i (fun j hj => h j (by omega) (by omega))
      rw [if_pos h1, if_neg (by rw [h0]; exact Bool.noConfusion), h2]
      omega
    · have ih := ih (by omega) h0 h1 (fun j hj => h j (by omega))
      rw [h m (by omega) (fun z => e z.symm), ih]
      omega
/-- sums -/
def qa_sm (f : Nat → Nat) : Nat → Nat
  | 0 => 0
  | m + 1 => f m + qa_sm f m
theorem qa_smS (f : Nat → Nat) (m : Nat) : qa_sm f (m + 1) = f m + qa_sm f m := rfl
theorem qa_sm_congr {f g : Nat → Nat} : ∀ m, (∀ j, j < m → f j = g j) → qa_sm f m = qa_sm g m := by
  intro m
  induction m with
  | zero => intro _; rfl
  | succ m ih =>
    intro h
    rw [qa_smS, qa_smS, h m (by omega), ih (fun j hj => h j (by omega))]
theorem qa_sm_one {f g : Nat → Nat} {i : Nat} : ∀ m, i < m → (∀ j, j < m → j ≠ i → g j = f j) → qa_sm g m + f i = qa_sm f m + g i := by
  intro m
  induction m with
  | zero => intro h; omega
  | succ m ih =>
    intro hi h
    rw [qa_smS, qa_smS]
    by_cases e : i = m
    · subst e
      have h2 := qa_sm_congr (f := g) (g := f) i (fun j hj => h j (by omega) (by omega))
      omega
    · have ih := ih (by omega) (fun j hj => h j (by omega))
      have h3 := h m (by omega) (fun z => e z.symm)
      omega
theorem qa_sm_le {f : Nat → Nat} {b : Nat} : ∀ m, (∀ j, j < m → f j ≤ b) → qa_sm f m ≤ b * m := by
  intro m
  induction m with
  | zero => intro _; exact Nat.zero_le _
  | succ m ih =>
    intro h
    have ih := ih (fun j hj => h j (by omega))
    have h2 := h m (by omega)
    rw [qa_smS, Nat.mul_succ]
    omega
/-- different numbers below N that miss one are fewer than N -/
def qa_li (f : Nat → Nat) : Nat → List Nat
  | 0 => []
  | m + 1 => f m :: qa_li f m
theorem qa_li_mem {f : Nat → Nat} {x : Nat} : ∀ m, x ∈ qa_li f m → ∃ i, i < m ∧ f i = x := by
  intro m
  induction m with
  | zero => intro h; exact absurd h List.not_mem_nil
  | succ m ih =>
    intro h
    rcases List.mem_cons.mp h with h | h
    · exact ⟨m, by omega, h.symm⟩
    · obtain ⟨i, hi, e⟩ := ih h
      exact ⟨i, by omega, e⟩
theorem qa_li_len {f : Nat → Nat} : ∀ m, (qa_li f m).length = m := by
  intro m
  induction m with
  | zero => rfl
  | succ m ih =>
    show (qa_li f m).length + 1 = m + 1
    rw [ih]
theorem qa_li_nd {f : Nat → Nat} : ∀ m, (∀ i j, i < j → j < m → f i ≠ f j) → (qa_li f m).Nodup := by
  intro m
  induction m with
  | zero => intro _; exact List.nodup_nil
  | succ m ih =>
    intro h
    refine List.nodup_cons.mpr ⟨?_, ih (fun i j hi hj => h i j hi (by omega))⟩
    intro hm
    obtain ⟨i, hi, e⟩ := qa_li_mem m hm
    exact h i m hi (by omega) e
theorem qa_pig {f : Nat → Nat} {d N w : Nat} (hinj : ∀ i j, i < j → j < d → f i ≠ f j) (hlt : ∀ i, i < d → f i < N) (hw : w < N) (hm : ∀ i, i < d → f i ≠ w) : d < N := by
  rcases Nat.lt_or_ge d N with h | h
  · exact h
  · exfalso
    have h1 := covers_all N (qa_li f N) (qa_li_nd N (fun i j hi hj => hinj i j hi (by omega))) (fun x hx => by
      obtain ⟨i, hi, e⟩ := qa_li_mem N hx
      rw [← e]
      exact hlt i (by omega)) (qa_li_len N) w hw
    obtain ⟨i, hi, e⟩ := qa_li_mem N h1
    exact hm i (by omega) e
end
section
/-! reachability as a least set -/
def qg_R (A : Nat → Nat → Prop) (a b : Nat) : Prop := ∀ S : Nat → Prop, S a → (∀ x y, S x → A x y → S y) → S b
theorem qg_rf {A : Nat → Nat → Prop} {a : Nat} : qg_R A a a := fun _ h _ => h
theorem qg_st {A : Nat → Nat → Prop} {a b c : Nat} (h : qg_R A a b) (e : A b c) : qg_R A a c := fun S h0 hc => hc b c (h S h0 hc) e
theorem qg_tr {A : Nat → Nat → Prop} {a b c : Nat} (h : qg_R A a b) (g : qg_R A b c) : qg_R A a c := fun S h0 hc => g S (h S h0 hc) hc
theorem qg_ed {A : Nat → Nat → Prop} {a b : Nat} (e : A a b) : qg_R A a b := qg_st qg_rf e
theorem qg_mono {A B : Nat → Nat → Prop} {a b : Nat} (h : ∀ x y, A x y → B x y) (r : qg_R A a b) : qg_R B a b := fun S h0 hc => r S h0 (fun x y hx hA => hc x y hx (h x y hA))
/-! Tarjan's search, over numbers: o order (0: not met), l low, e edges left, pa path (d), pe pending (h) -/
def qt_u (f : Nat → Nat) (k x : Nat) : Nat → Nat := fun j => if j = k then x else f j
theorem qt_us {f : Nat → Nat} {k x : Nat} : qt_u f k x k = x := if_pos rfl
theorem qt_un {f : Nat → Nat} {k x j : Nat} (h : j ≠ k) : qt_u f k x j = f j := if_neg h
theorem qt_self (f : Nat → Nat) (k : Nat) : qt_u f k (f k) = f := by
  funext j
  by_cases h : j = k
  · rw [h, qt_us]
  · rw [qt_un h]
def qt_T (V : Nat → Prop) (A : Nat → Nat → Prop) (o l : Nat → Nat) (e : Nat → Nat → Prop) (pa pe : Nat → Nat) (d h vis : Nat) : Prop :=
  (∀ v, o v ≠ 0 → V v) ∧
  (∀ v, o v ≤ vis) ∧
  (∀ i, i < d → ∃ j, j < h ∧ pe j = pa i) ∧
  (∀ j, j < h → o (pe j) ≠ 0) ∧
  (∀ i j, i < j → j < d → o (pa i) < o (pa j)) ∧
  (∀ i j, i < j → j < h → o (pe i) < o (pe j)) ∧
  (∀ i j, i < d → j < h → o (pa i) ≤ o (pe j) → qg_R A (pa i) (pe j)) ∧
  (∀ j, j < h → ∃ i, i < d ∧ o (pa i) ≤ o (pe j) ∧ qg_R A (pe j) (pa i)) ∧
  (∀ v w, o v ≠ 0 → A v w → ¬ e v w → o w ≠ 0) ∧
  (∀ v w, o v ≠ 0 → e v w → ∃ i, i < d ∧ pa i = v) ∧
  (∀ v w, o v ≠ 0 → (∀ j, j < h → pe j ≠ v) → A v w → ∀ j, j < h → pe j ≠ w) ∧
  (∀ i j w, i < d → j < h → o (pa i) ≤ o (pe j) → (i + 1 < d → o (pe j) < o (pa (i + 1))) → A (pe j) w → ¬ e (pe j) w → (∃ j', j' < h ∧ pe j' = w) → l (pa i) ≤ o w) ∧
  (∀ i, i < d → l (pa i) ≤ o (pa i) ∧ ∃ j, j < h ∧ o (pe j) = l (pa i) ∧ qg_R A (pa i) (pe j))
section
variable {V : Nat → Prop} {A : Nat → Nat → Prop} {o l : Nat → Nat} {e : Nat → Nat → Prop} {pa pe : Nat → Nat} {d h vis : Nat}
theorem qt_top (T : qt_T V A o l e pa pe d h vis) {i : Nat} (hi : i < d) : o (pa i) ≤ o (pa (d - 1)) := by
  obtain ⟨Ta, Tf, Te, Tb, Tc, Td, Tg, Th, Ti, Tj, Tk, Tl, Tm⟩ := T
  by_cases h1 : i = d - 1
  · rw [h1]; exact Nat.le_refl _
  · exact Nat.le_of_lt (Tc i (d - 1) (by omega) (by omega))
theorem qt_gray (T : qt_T V A o l e pa pe d h vis) {i : Nat} (hi : i < d) : o (pa i) ≠ 0 := by
  obtain ⟨Ta, Tf, Te, Tb, Tc, Td, Tg, Th, Ti, Tj, Tk, Tl, Tm⟩ := T
  obtain ⟨j, hj, ej⟩ := Te i hi
  rw [← ej]
  exact Tb j hj
theorem qt_gg (T : qt_T V A o l e pa pe d h vis) {i : Nat} (hi : i < d) : qg_R A (pa i) (pa (d - 1)) := by
  have ht := qt_top T hi
  obtain ⟨Ta, Tf, Te, Tb, Tc, Td, Tg, Th, Ti, Tj, Tk, Tl, Tm⟩ := T
  obtain ⟨j, hj, ej⟩ := Te (d - 1) (by omega)
  rw [← ej] at ht ⊢
  exact Tg i j hi hj ht
/-- a met vertex that isn't pending has no edge left, and its edges go to met ones -/
theorem qt_done (T : qt_T V A o l e pa pe d h vis) {v w : Nat} (hv : o v ≠ 0) (hp : ∀ j, j < h → pe j ≠ v) (hA : A v w) : o w ≠ 0 := by
  obtain ⟨Ta, Tf, Te, Tb, Tc, Td, Tg, Th, Ti, Tj, Tk, Tl, Tm⟩ := T
  refine Ti v w hv hA (fun he => ?_)
  obtain ⟨i, hi, ei⟩ := Tj v w hv he
  obtain ⟨j, hj, ej⟩ := Te i hi
  exact hp j hj (ej.trans ei)
theorem qt_enter (T : qt_T V A o l e pa pe d h vis) {w : Nat} {e1 e' : Nat → Nat → Prop} (hw : o w = 0) (hV : V w)
    (hd : 0 < d → A (pa (d - 1)) w) (he1 : ∀ a b, e1 a b → e a b) (he2 : ∀ a b, e a b → e1 a b ∨ b = w)
    (hew : ∀ a b, a ≠ w → (e' a b ↔ e1 a b)) (hew' : ∀ b, A w b → e' w b) :
    qt_T V A (qt_u o w (vis + 1)) (qt_u l w (vis + 1)) e' (qt_u pa d w) (qt_u pe h w) (d + 1) (h + 1) (vis + 1) := by
  have hgg := @qt_gg V A o l e pa pe d h vis T
  have hdone := @qt_done V A o l e pa pe d h vis T
  obtain ⟨Ta, Tf, Te, Tb, Tc, Td, Tg, Th, Ti, Tj, Tk, Tl, Tm⟩ := T
  have hpw : ∀ j, j < h → pe j ≠ w := fun j hj ee => Tb j hj (by rw [ee]; exact hw)
  have hgw : ∀ i, i < d → pa i ≠ w := fun i hi ee => by
    obtain ⟨j, hj, ej⟩ := Te i hi
    exact hpw j hj (ej.trans ee)
  have pP : ∀ j, j < h → qt_u pe h w j = pe j := fun j hj => qt_un (by omega)
  have pG : ∀ i, i < d → qt_u pa d w i = pa i := fun i hi => qt_un (by omega)
  have pPh : qt_u pe h w h = w := qt_us
  have pGd : qt_u pa d w d = w := qt_us
  have oW : qt_u o w (vis + 1) w = vis + 1 := qt_us
  have oN : ∀ v, v ≠ w → qt_u o w (vis + 1) v = o v := fun v hv => qt_un hv
  have lW : qt_u l w (vis + 1) w = vis + 1 := qt_us
  have lN' : ∀ v, v ≠ w → qt_u l w (vis + 1) v = l v := fun v hv => qt_un hv
  have oP : ∀ j, j < h → qt_u o w (vis + 1) (qt_u pe h w j) = o (pe j) := fun j hj => by rw [pP j hj, oN _ (hpw j hj)]
  have oG : ∀ i, i < d → qt_u o w (vis + 1) (qt_u pa d w i) = o (pa i) := fun i hi => by rw [pG i hi, oN _ (hgw i hi)]
  have oPh : qt_u o w (vis + 1) (qt_u pe h w h) = vis + 1 := by rw [pPh, oW]
  have oGd : qt_u o w (vis + 1) (qt_u pa d w d) = vis + 1 := by rw [pGd, oW]
  refine ⟨?_, ?_, ?_, ?_, ?_, ?_, ?_, ?_, ?_, ?_, ?_, ?_, ?_⟩
  · intro v hv
    by_cases hc : v = w
    · rw [hc]; exact hV
    · rw [oN v hc] at hv
      exact Ta v hv
  · intro v
    by_cases hc : v = w
    · rw [hc, oW]; exact Nat.le_refl _
    · rw [oN v hc]
      have := Tf v
      omega
  · intro i hi
    by_cases hc : i = d
    · exact ⟨h, by omega, by rw [hc, pPh, pGd]⟩
    · obtain ⟨j, hj, ej⟩ := Te i (by omega)
      exact ⟨j, by omega, by rw [pP j hj, pG i (by omega)]; exact ej⟩
  · intro j hj
    by_cases hc : j = h
    · rw [hc, oPh]; omega
    · rw [oP j (by omega)]; exact Tb j (by omega)
  · intro i j hij hj
    rw [oG i (by omega)]
    by_cases hc : j = d
    · rw [hc, oGd]
      have := Tf (pa i)
      omega
    · rw [oG j (by omega)]; exact Tc i j hij (by omega)
  · intro i j hij hj
    rw [oP i (by omega)]
    by_cases hc : j = h
    · rw [hc, oPh]
      have := Tf (pe i)
      omega
    · rw [oP j (by omega)]; exact Td i j hij (by omega)
  · intro i j hi hj hle
    by_cases hci : i = d
    · rw [hci, oGd] at hle
      by_cases hcj : j = h
      · rw [hci, hcj, pGd, pPh]; exact qg_rf
      · rw [oP j (by omega)] at hle
        have := Tf (pe j)
        omega
    · rw [oG i (by omega)] at hle
      rw [pG i (by omega)]
      by_cases hcj : j = h
      · rw [hcj, pPh]
        exact qg_st (hgg (by omega)) (hd (by omega))
      · rw [oP j (by omega)] at hle
        rw [pP j (by omega)]
        exact Tg i j (by omega) (by omega) hle
  · intro j hj
    by_cases hcj : j = h
    · exact ⟨d, by omega, by rw [hcj, oGd, oPh]; exact Nat.le_refl _, by rw [hcj, pGd, pPh]; exact qg_rf⟩
    · obtain ⟨i, hi, hle, hr⟩ := Th j (by omega)
      exact ⟨i, by omega, by rw [oG i hi, oP j (by omega)]; exact hle, by rw [pG i hi, pP j (by omega)]; exact hr⟩
  · intro v w2 hv hA hne
    by_cases hc2 : w2 = w
    · rw [hc2, oW]; omega
    · rw [oN w2 hc2]
      by_cases hc : v = w
      · exfalso
        rw [hc] at hA hne
        exact hne (hew' w2 hA)
      · rw [oN v hc] at hv
        refine Ti v w2 hv hA (fun he => ?_)
        rcases he2 v w2 he with h1 | h1
        · exact hne ((hew v w2 hc).mpr h1)
        · exact hc2 h1
  · intro v w2 hv he
    by_cases hc : v = w
    · exact ⟨d, by omega, by rw [pGd, hc]⟩
    · rw [oN v hc] at hv
      obtain ⟨i, hi, ei⟩ := Tj v w2 hv (he1 v w2 ((hew v w2 hc).mp he))
      exact ⟨i, by omega, by rw [pG i hi]; exact ei⟩
  · intro v w2 hv hp hA j hj
    have hvw : v ≠ w := fun ee => hp h (by omega) (by rw [pPh, ee])
    rw [oN v hvw] at hv
    have hp' : ∀ j, j < h → pe j ≠ v := fun j hj ee => hp j (by omega) (by rw [pP j hj]; exact ee)
    by_cases hcj : j = h
    · rw [hcj, pPh]
      intro ee
      exact hdone hv hp' hA (by rw [← ee]; exact hw)
    · rw [pP j (by omega)]
      exact Tk v w2 hv hp' hA j (by omega)
  · intro i j w2 hi hj hle hnext hA hne hP
    by_cases hcj : j = h
    · exfalso
      rw [hcj, pPh] at hA hne
      exact hne (hew' w2 hA)
    · have hj' : j < h := by omega
      rw [oP j hj'] at hle hnext
      rw [pP j hj'] at hA hne
      by_cases hci : i = d
      · rw [hci, oGd] at hle
        have := Tf (pe j)
        omega
      · have hi' : i < d := by omega
        rw [oG i hi'] at hle
        rw [pG i hi', lN' _ (hgw i hi')]
        by_cases hc2 : w2 = w
        · rw [hc2, oW]
          have h1 := (Tm i hi').1
          have h2 := Tf (pa i)
          omega
        · rw [oN w2 hc2]
          obtain ⟨j', hj'', ej'⟩ := hP
          have hj3 : j' ≠ h := fun ee => hc2 (by rw [← ej', ee, pPh])
          refine Tl i j w2 hi' hj' hle (fun hn => ?_) hA (fun he => ?_) ⟨j', by omega, by rw [← ej', pP j' (by omega)]⟩
          · have h5 := hnext (by omega)
            rw [oG (i + 1) hn] at h5
            exact h5
          · rcases he2 _ w2 he with h1 | h1
            · exact hne ((hew _ w2 (hpw j hj')).mpr h1)
            · exact hc2 h1
  · intro i hi
    by_cases hci : i = d
    · rw [hci, pGd, lW, oW]
      exact ⟨Nat.le_refl _, h, by omega, oPh, by rw [pPh]; exact qg_rf⟩
    · have hi' : i < d := by omega
      rw [pG i hi', lN' _ (hgw i hi'), oN _ (hgw i hi')]
      obtain ⟨h1, j, hj, ej, hr⟩ := Tm i hi'
      exact ⟨h1, j, by omega, by rw [oP j hj]; exact ej, by rw [pP j hj]; exact hr⟩
theorem qt_edge (T : qt_T V A o l e pa pe d h vis) {v w m : Nat} {e1 : Nat → Nat → Prop} (hd : 0 < d) (hv : pa (d - 1) = v) (hA : A v w) (hw : o w ≠ 0)
    (he1 : ∀ a b, e1 a b ↔ (e a b ∧ ¬ (a = v ∧ b = w))) (hm1 : m ≤ l v) (hm2 : (∃ j, j < h ∧ pe j = w) → m ≤ o w)
    (hm3 : m = l v ∨ ((∃ j, j < h ∧ pe j = w) ∧ m = o w)) : qt_T V A o (qt_u l v m) e1 pa pe d h vis := by
  have htop := @qt_top V A o l e pa pe d h vis T
  obtain ⟨Ta, Tf, Te, Tb, Tc, Td, Tg, Th, Ti, Tj, Tk, Tl, Tm⟩ := T
  have hll : ∀ x, qt_u l v m x ≤ l x := fun x => by
    by_cases hx : x = v
    · rw [hx, qt_us]; exact hm1
    · rw [qt_un hx]; exact Nat.le_refl _
  refine ⟨Ta, Tf, Te, Tb, Tc, Td, Tg, Th, ?_, ?_, Tk, ?_, ?_⟩
  · intro a b ha hab hne
    by_cases hx : e a b
    · by_cases hy : a = v ∧ b = w
      · rw [hy.2]; exact hw
      · exact absurd ((he1 a b).mpr ⟨hx, hy⟩) hne
    · exact Ti a b ha hab hx
  · intro a b ha he
    exact Tj a b ha ((he1 a b).mp he).1
  · intro i j w2 hi hj hle hnext hAj hne hP
    by_cases hx : e (pe j) w2
    · by_cases hy : pe j = v ∧ w2 = w
      · have hid : i = d - 1 := by
          apply Classical.byContradiction
          intro hc
          have h1 := hnext (by omega)
          have h2 := htop (i := i + 1) (by omega)
          rw [hv, ← hy.1] at h2
          omega
        rw [hid, hv, qt_us, hy.2]
        rw [hy.2] at hP
        exact hm2 hP
      · exact absurd ((he1 _ _).mpr ⟨hx, hy⟩) hne
    · exact Nat.le_trans (hll _) (Tl i j w2 hi hj hle hnext hAj hx hP)
  · intro i hi
    obtain ⟨h1, j, hj, ej, hr⟩ := Tm i hi
    refine ⟨Nat.le_trans (hll _) h1, ?_⟩
    by_cases hx : pa i = v
    · rw [hx, qt_us]
      rcases hm3 with h3 | ⟨⟨j', hj', ej'⟩, h3⟩
      · exact ⟨j, hj, by rw [h3, ej, hx], by rw [← hx]; exact hr⟩
      · exact ⟨j', hj', by rw [h3, ej'], by rw [ej']; exact qg_ed hA⟩
    · rw [qt_un hx]
      exact ⟨j, hj, ej, hr⟩
theorem qt_leave1 (T : qt_T V A o l e pa pe d h vis) {v : Nat} (hd : 0 < d) (hv : pa (d - 1) = v) (hl : l v ≠ o v) : 1 < d ∧ ∃ i j, i < d - 1 ∧ j < h ∧ o (pe j) = l v ∧ qg_R A v (pe j) ∧ o (pa i) ≤ o (pe j) ∧ qg_R A (pe j) (pa i) ∧ l v < o v := by
  obtain ⟨Ta, Tf, Te, Tb, Tc, Td, Tg, Th, Ti, Tj, Tk, Tl, Tm⟩ := T
  obtain ⟨h1, j, hj, ej, hr⟩ := Tm (d - 1) (by omega)
  rw [hv] at h1 ej hr
  obtain ⟨i, hi, hle, hr2⟩ := Th j hj
  have hid : i ≠ d - 1 := fun ee => by
    rw [ee, hv] at hle
    omega
  exact ⟨by omega, i, j, by omega, hj, ej, hr, hle, hr2, by omega⟩
theorem qt_leave (T : qt_T V A o l e pa pe d h vis) {v u m : Nat} (hd : 0 < d) (hv : pa (d - 1) = v) (hu : pa (d - 2) = u) (hne : ∀ w, ¬ e v w) (hl : l v ≠ o v)
    (hm1 : m ≤ l u) (hm2 : m ≤ l v) (hm3 : m = l u ∨ m = l v) : qt_T V A o (qt_u l u m) e pa pe (d - 1) h vis := by
  obtain ⟨hd1, i0, j0, hi0, hj0, ej0, hr0, hle0, hr1, hlv⟩ := qt_leave1 T hd hv hl
  have hgg := @qt_gg V A o l e pa pe d h vis T
  have hgray := @qt_gray V A o l e pa pe d h vis T
  obtain ⟨Ta, Tf, Te, Tb, Tc, Td, Tg, Th, Ti, Tj, Tk, Tl, Tm⟩ := T
  have hll : ∀ x, qt_u l u m x ≤ l x := fun x => by
    by_cases hx : x = u
    · rw [hx, qt_us]; exact hm1
    · rw [qt_un hx]; exact Nat.le_refl _
  refine ⟨Ta, Tf, fun i hi => Te i (by omega), Tb, fun i j hij hj => Tc i j hij (by omega), Td, fun i j hi hj => Tg i j (by omega) hj, ?_, Ti, ?_, Tk, ?_, ?_⟩
  · intro j hj
    obtain ⟨i, hi, hle, hr⟩ := Th j hj
    by_cases hid : i = d - 1
    · rw [hid, hv] at hle hr
      refine ⟨i0, hi0, ?_, qg_tr hr (qg_tr hr0 hr1)⟩
      omega
    · exact ⟨i, by omega, hle, hr⟩
  · intro a b ha he
    obtain ⟨i, hi, ei⟩ := Tj a b ha he
    by_cases hid : i = d - 1
    · rw [hid, hv] at ei
      rw [← ei] at he
      exact absurd he (hne b)
    · exact ⟨i, by omega, ei⟩
  · intro i j w2 hi hj hle hnext hAj hx hP
    by_cases hid : i = d - 2
    · rw [hid, hu, qt_us]
      by_cases hs : o (pe j) < o v
      · have h1 := Tl i j w2 (by omega) hj hle (fun _ => by rw [hid, show d - 2 + 1 = d - 1 from by omega, hv]; exact hs) hAj hx hP
        rw [hid, hu] at h1
        omega
      · have h1 := Tl (d - 1) j w2 (by omega) hj (by rw [hv]; omega) (fun hc => by omega) hAj hx hP
        rw [hv] at h1
        omega
    · have h1 := Tl i j w2 (by omega) hj hle (fun _ => hnext (by omega)) hAj hx hP
      exact Nat.le_trans (hll _) h1
  · intro i hi
    obtain ⟨h1, j, hj, ej, hr⟩ := Tm i (by omega)
    refine ⟨Nat.le_trans (hll _) h1, ?_⟩
    by_cases hx : pa i = u
    · rw [hx, qt_us]
      rcases hm3 with h3 | h3
      · exact ⟨j, hj, by rw [h3, ej, hx], by rw [← hx]; exact hr⟩
      · refine ⟨j0, hj0, by rw [h3, ej0], ?_⟩
        have h5 := hgg (i := d - 2) (by omega)
        rw [hu, hv] at h5
        exact qg_tr h5 hr0
    · rw [qt_un hx]
      exact ⟨j, hj, ej, hr⟩
/-- closing the component of v, whose place among the pending is jv -/
theorem qt_cl1 (T : qt_T V A o l e pa pe d h vis) {v jv : Nat} (hd : 0 < d) (hv : pa (d - 1) = v) (hne : ∀ w, ¬ e v w) (hl : l v = o v) (hjv : jv < h) (ejv : pe jv = v) {j w : Nat} (hj0 : jv ≤ j) (hj : j < h) (hA : A (pe j) w) :
    o w ≠ 0 ∧ ∀ j', j' < jv → pe j' ≠ w := by
  have htop := @qt_top V A o l e pa pe d h vis T
  obtain ⟨Ta, Tf, Te, Tb, Tc, Td, Tg, Th, Ti, Tj, Tk, Tl, Tm⟩ := T
  have hoj : o v ≤ o (pe j) := by
    rw [← ejv]
    by_cases hc : jv = j
    · rw [hc]; exact Nat.le_refl _
    · exact Nat.le_of_lt (Td jv j (by omega) hj)
  have hnej : ¬ e (pe j) w := fun he => by
    obtain ⟨i, hi, ei⟩ := Tj _ w (Tb j hj) he
    by_cases hid : i = d - 1
    · rw [hid, hv] at ei
      rw [← ei] at he
      exact hne w he
    · have h1 := Tc i (d - 1) (by omega) (by omega)
      rw [ei, hv] at h1
      omega
  refine ⟨Ti _ w (Tb j hj) hA hnej, fun j' hj' ee => ?_⟩
  have h1 := Tl (d - 1) j w (by omega) hj (by rw [hv]; exact hoj) (fun hc => by omega) hA hnej ⟨j', by omega, ee⟩
  rw [hv, hl] at h1
  have h2 := Td j' jv hj' hjv
  rw [ee, ejv] at h2
  omega
theorem qt_close (T : qt_T V A o l e pa pe d h vis) {v jv : Nat} (hd : 0 < d) (hv : pa (d - 1) = v) (hne : ∀ w, ¬ e v w) (hl : l v = o v) (hjv : jv < h) (ejv : pe jv = v) :
    qt_T V A o l e pa pe (d - 1) jv vis := by
  have hcl := fun {j w : Nat} => @qt_cl1 V A o l e pa pe d h vis T v jv hd hv hne hl hjv ejv j w
  have hdone := @qt_done V A o l e pa pe d h vis T
  obtain ⟨Ta, Tf, Te, Tb, Tc, Td, Tg, Th, Ti, Tj, Tk, Tl, Tm⟩ := T
  have hlow : ∀ i, i < d - 1 → o (pa i) < o v := fun i hi => by
    have h1 := Tc i (d - 1) (by omega) (by omega)
    rw [hv] at h1
    exact h1
  have hplow : ∀ j, j < jv → o (pe j) < o v := fun j hj => by
    have h1 := Td j jv hj hjv
    rw [ejv] at h1
    exact h1
  have hbelow : ∀ j, j < h → o (pe j) < o v → j < jv := fun j hj hlt => by
    apply Classical.byContradiction
    intro hc
    by_cases he : jv = j
    · rw [← he, ejv] at hlt
      omega
    · have h1 := Td jv j (by omega) hj
      rw [ejv] at h1
      omega
  refine ⟨Ta, Tf, ?_, fun j hj => Tb j (by omega), fun i j hij hj => Tc i j hij (by omega), fun i j hij hj => Td i j hij (by omega), fun i j hi hj => Tg i j (by omega) (by omega), ?_, Ti, ?_, ?_, ?_, ?_⟩
  · intro i hi
    obtain ⟨j, hj, ej⟩ := Te i (by omega)
    refine ⟨j, hbelow j hj ?_, ej⟩
    rw [ej]
    exact hlow i hi
  · intro j hj
    obtain ⟨i, hi, hle, hr⟩ := Th j (by omega)
    have hid : i ≠ d - 1 := fun ee => by
      rw [ee, hv] at hle
      have := hplow j hj
      omega
    exact ⟨i, by omega, hle, hr⟩
  · intro a b ha he
    obtain ⟨i, hi, ei⟩ := Tj a b ha he
    by_cases hid : i = d - 1
    · rw [hid, hv] at ei
      rw [← ei] at he
      exact absurd he (hne b)
    · exact ⟨i, by omega, ei⟩
  · intro a b ha hp hA j hj
    by_cases hpa : ∀ j, j < h → pe j ≠ a
    · exact Tk a b ha hpa hA j (by omega)
    · have ⟨j2, hj2, ej2⟩ : ∃ j2, j2 < h ∧ pe j2 = a := by
        apply Classical.byContradiction
        intro hc
        exact hpa (fun j hj ee => hc ⟨j, hj, ee⟩)
      have h3 : jv ≤ j2 := by
        apply Classical.byContradiction
        intro hc
        exact hp j2 (by omega) ej2
      rw [← ej2] at hA
      exact (hcl h3 hj2 hA).2 j hj
  · intro i j w2 hi hj hle hnext hAj hx hP
    obtain ⟨j', hj', ej'⟩ := hP
    refine Tl i j w2 (by omega) (by omega) hle (fun hn => ?_) hAj hx ⟨j', by omega, ej'⟩
    by_cases hid : i + 1 < d - 1
    · exact hnext hid
    · rw [show i + 1 = d - 1 from by omega, hv]
      exact hplow j hj
  · intro i hi
    obtain ⟨h1, j, hj, ej, hr⟩ := Tm i (by omega)
    refine ⟨h1, j, hbelow j hj ?_, ej, hr⟩
    have := hlow i hi
    omega
theorem qt_scc (T : qt_T V A o l e pa pe d h vis) {v jv : Nat} (hd : 0 < d) (hv : pa (d - 1) = v) (hne : ∀ w, ¬ e v w) (hl : l v = o v) (hjv : jv < h) (ejv : pe jv = v)
    {s : Nat} (hs0 : jv ≤ s) (hs : s < h) (w : Nat) : (∃ j, jv ≤ j ∧ j < h ∧ pe j = w) ↔ (qg_R A (pe s) w ∧ qg_R A w (pe s)) := by
  have hcl := fun {j w : Nat} => @qt_cl1 V A o l e pa pe d h vis T v jv hd hv hne hl hjv ejv j w
  have hdone := @qt_done V A o l e pa pe d h vis T
  have hgg := @qt_gg V A o l e pa pe d h vis T
  obtain ⟨Ta, Tf, Te, Tb, Tc, Td, Tg, Th, Ti, Tj, Tk, Tl, Tm⟩ := T
  have hov : ∀ j, jv ≤ j → j < h → o v ≤ o (pe j) := fun j hj0 hj => by
    rw [← ejv]
    by_cases hc : jv = j
    · rw [hc]; exact Nat.le_refl _
    · exact Nat.le_of_lt (Td jv j (by omega) hj)
  have hfrom : ∀ j, jv ≤ j → j < h → qg_R A v (pe j) := fun j hj0 hj => by
    have h1 := Tg (d - 1) j (by omega) hj (by rw [hv]; exact hov j hj0 hj)
    rw [hv] at h1
    exact h1
  have hto : ∀ j, j < h → qg_R A (pe j) v := fun j hj => by
    obtain ⟨i, hi, hle, hr⟩ := Th j hj
    have h1 := hgg (i := i) hi
    rw [hv] at h1
    exact qg_tr hr h1
  constructor
  · rintro ⟨j, hj0, hj, rfl⟩
    exact ⟨qg_tr (hto s hs) (hfrom j hj0 hj), qg_tr (hto j hj) (hfrom s hs0 hs)⟩
  · rintro ⟨h1, h2⟩
    have hdn : ∀ x, (o x ≠ 0 ∧ ∀ j, j < h → pe j ≠ x) → ¬ qg_R A x (pe s) := fun x hx hr => by
      have h5 := hr (fun y => o y ≠ 0 ∧ ∀ j, j < h → pe j ≠ y) hx (fun a b ha hab => ⟨hdone ha.1 ha.2 hab, Tk a b ha.1 ha.2 hab⟩)
      exact h5.2 s hs rfl
    have h6 := h1 (fun y => (o y ≠ 0 ∧ ∀ j, j < h → pe j ≠ y) ∨ (∃ j, jv ≤ j ∧ j < h ∧ pe j = y)) (Or.inr ⟨s, hs0, hs, rfl⟩) (fun a b ha hab => by
      rcases ha with ha | ⟨j, hj0, hj, ej⟩
      · exact Or.inl ⟨hdone ha.1 ha.2 hab, Tk a b ha.1 ha.2 hab⟩
      · rw [← ej] at hab
        have h7 := hcl hj0 hj hab
        by_cases hc : ∃ j, j < h ∧ pe j = b
        · obtain ⟨j2, hj2, ej2⟩ := hc
          refine Or.inr ⟨j2, ?_, hj2, ej2⟩
          apply Classical.byContradiction
          intro hn
          exact h7.2 j2 (by omega) ej2
        · exact Or.inl ⟨h7.1, fun j hj ee => hc ⟨j, hj, ee⟩⟩)
    rcases h6 with h6 | h6
    · exact absurd h2 (hdn w h6)
    · exact h6
end
end
section
/-! pure facts of execution: Y's closure by passes, components after whole ones were taken away -/
theorem qe_half {sc cm : Nat → Prop} {dp : Nat → Nat → Prop} (h1 : ∀ a b, sc a → cm a → dp a b → cm b → sc b) {i w : Nat} (hs : sc i) (hc : cm i)
    (r : qg_R (fun a b => cm a ∧ dp a b ∧ cm b) i w) : qg_R (fun a b => sc a ∧ sc b ∧ dp a b) i w ∧ sc w ∧ cm w :=
  r (fun y => qg_R (fun a b => sc a ∧ sc b ∧ dp a b) i y ∧ sc y ∧ cm y) ⟨qg_rf, hs, hc⟩ (fun x y hx hA => by
    have hsy := h1 x y hx.2.1 hx.2.2 hA.2.1 hA.2.2
    exact ⟨qg_st hx.1 ⟨hx.2.1, hsy, hA.2.1⟩, hsy, hA.2.2⟩)
theorem qe_half2 {sc cm : Nat → Prop} {dp : Nat → Nat → Prop} (h1 : ∀ a b, sc a → cm a → dp a b → cm b → sc b)
    (h2 : ∀ a b, sc a → cm a → qg_R (fun a b => sc a ∧ sc b ∧ dp a b) a b → qg_R (fun a b => sc a ∧ sc b ∧ dp a b) b a → cm b)
    {i w : Nat} (hs : sc i) (hc : cm i) (r : qg_R (fun a b => sc a ∧ sc b ∧ dp a b) i w) (r2 : qg_R (fun a b => sc a ∧ sc b ∧ dp a b) w i) :
    qg_R (fun a b => cm a ∧ dp a b ∧ cm b) i w ∧ sc w ∧ cm w := by
  have h := r (fun y => qg_R (fun a b => sc a ∧ sc b ∧ dp a b) y i → qg_R (fun a b => cm a ∧ dp a b ∧ cm b) i y ∧ sc y ∧ cm y) (fun _ => ⟨qg_rf, hs, hc⟩) (fun x y hx hA hr => by
    have hxi : qg_R (fun a b => sc a ∧ sc b ∧ dp a b) x i := qg_tr (qg_ed hA) hr
    have hx := hx hxi
    have hix := (qe_half h1 hs hc hx.1).1
    have hiy := qg_st hix hA
    have hcy := h2 i y hs hc hiy hr
    exact ⟨qg_st hx.1 ⟨hx.2.2, hA.2.2, hcy⟩, hA.2.1, hcy⟩)
  exact h r2
theorem qe_comp {sc cm : Nat → Prop} {dp : Nat → Nat → Prop} (h1 : ∀ a b, sc a → cm a → dp a b → cm b → sc b)
    (h2 : ∀ a b, sc a → cm a → qg_R (fun a b => sc a ∧ sc b ∧ dp a b) a b → qg_R (fun a b => sc a ∧ sc b ∧ dp a b) b a → cm b)
    {i : Nat} (hs : sc i) (hc : cm i) (w : Nat) : (qg_R (fun a b => cm a ∧ dp a b ∧ cm b) i w ∧ qg_R (fun a b => cm a ∧ dp a b ∧ cm b) w i) ↔
      (qg_R (fun a b => sc a ∧ sc b ∧ dp a b) i w ∧ qg_R (fun a b => sc a ∧ sc b ∧ dp a b) w i) := by
  constructor
  · rintro ⟨a, b⟩
    have ha := qe_half h1 hs hc a
    have hb := qe_half h1 ha.2.1 ha.2.2 b
    exact ⟨ha.1, hb.1⟩
  · rintro ⟨a, b⟩
    have ha := qe_half2 h1 h2 hs hc a b
    have hb := qe_half2 h1 h2 ha.2.1 ha.2.2 b a
    exact ⟨ha.1, hb.1⟩
/-- one pass of Y's reach from j on, m steps -/
def qe_ps (c : Nat → Bool) (g : Nat → Int32) : Nat → Nat → Int32 → Int32
  | 0, _, s => s
  | m + 1, j, s => qe_ps c g m (j + 1) (if bt s j = true ∧ c j = true then s ||| g j else s)
theorem qe_psS (c : Nat → Bool) (g : Nat → Int32) (m j : Nat) (s : Int32) : qe_ps c g (m + 1) j s = qe_ps c g m (j + 1) (if bt s j = true ∧ c j = true then s ||| g j else s) := rfl
theorem qe_ps_t {c : Nat → Bool} {g : Nat → Int32} {m j : Nat} {s : Int32} (h : bt s j = true) (hc : c j = true) : qe_ps c g m (j + 1) (s ||| g j) = qe_ps c g (m + 1) j s := by
  rw [qe_psS, if_pos ⟨h, hc⟩]
theorem qe_ps_f {c : Nat → Bool} {g : Nat → Int32} {m j : Nat} {s : Int32} (h : ¬ (bt s j = true ∧ c j = true)) : qe_ps c g m (j + 1) s = qe_ps c g (m + 1) j s := by
  rw [qe_psS, if_neg h]
theorem qe_ps_up {c : Nat → Bool} {g : Nat → Int32} {b : Nat} : ∀ m j s, bt s b = true → bt (qe_ps c g m j s) b = true := by
  intro m
  induction m with
  | zero => intro j s h; exact h
  | succ m ih =>
    intro j s h
    rw [qe_psS]
    apply ih
    by_cases hc : bt s j = true ∧ c j = true
    · rw [if_pos hc, b_or, h]; rfl
    · rw [if_neg hc]; exact h
theorem qe_ps_in {c : Nat → Bool} {g : Nat → Int32} {P : Nat → Prop} : ∀ m j s, (∀ b, bt s b = true → P b) → (∀ a b, P a → a < j + m → c a = true → bt (g a) b = true → P b) → ∀ b, bt (qe_ps c g m j s) b = true → P b := by
  intro m
  induction m with
  | zero => intro j s h _; exact h
  | succ m ih =>
    intro j s h hc
    rw [qe_psS]
    refine ih (j + 1) _ ?_ (fun a b hP ha => hc a b hP (by omega))
    intro b hb
    by_cases hj : bt s j = true ∧ c j = true
    · rw [if_pos hj, b_or] at hb
      cases hsb : bt s b
      · rw [hsb] at hb
        exact hc j b (h j hj.1) (by omega) hj.2 hb
      · exact h b hsb
    · rw [if_neg hj] at hb
      exact h b hb
theorem qe_ps_cl {c : Nat → Bool} {g : Nat → Int32} : ∀ m j s, qe_ps c g m j s = s → ∀ a, j ≤ a → a < j + m → bt s a = true → c a = true → ∀ b, bt (g a) b = true → bt s b = true := by
  intro m
  induction m with
  | zero => intro j s _ a h1 h2; omega
  | succ m ih =>
    intro j s h a h1 h2 hsa hca b hb
    rw [qe_psS] at h
    by_cases hj : bt s j = true ∧ c j = true
    · rw [if_pos hj] at h
      have hsub : ∀ x, bt (g j) x = true → bt s x = true := fun x hx => by
        have h3 := qe_ps_up (c := c) (g := g) (b := x) m (j + 1) (s ||| g j) (by rw [b_or, hx, Bool.or_true])
        rw [h] at h3
        exact h3
      have hsg : s ||| g j = s := by
        apply b_ext
        intro x _
        rw [b_or]
        cases hx : bt (g j) x
        · rw [Bool.or_false]
        · rw [hsub x hx]; rfl
      by_cases haj : a = j
      · rw [haj] at hb
        exact hsub b hb
      · rw [hsg] at h
        exact ih (j + 1) s h a (by omega) (by omega) hsa hca b hb
    · rw [if_neg hj] at h
      by_cases haj : a = j
      · rw [haj] at hsa hca
        exact absurd ⟨hsa, hca⟩ hj
      · exact ih (j + 1) s h a (by omega) (by omega) hsa hca b hb
/-- how many bits below 24 a set has -/
def qe_pc (s : Int32) : Nat := qa_cn (bt s) 24
theorem qe_pc_le (s : Int32) : qe_pc s ≤ 24 := qa_cn_le _ _
theorem qe_pc_lt {s s' : Int32} {i : Nat} (hi : i < 24) (h : ∀ j, j < 24 → bt s j = true → bt s' j = true) (h0 : bt s i = false) (h1 : bt s' i = true) : qe_pc s < qe_pc s' := qa_cn_slt 24 hi h h0 h1
theorem qe_pc_dn {s s' : Int32} {i : Nat} (hi : i < 24) (h1 : bt s i = true) (h : ∀ j, bt s' j = (bt s j && !decide (j = i))) : qe_pc s' + 1 = qe_pc s := by
  refine (qa_cn_up (c := bt s') (c' := bt s) (i := i) 24 hi ?_ h1 ?_).symm
  · rw [h i]; simp
  · intro j _ hj
    rw [h j]
    simp [hj]
theorem qe_pc_0 {s : Int32} (h : qe_pc s = 0) {i : Nat} (hi : i < 24) : bt s i = false := by
  cases hb : bt s i
  · rfl
  · exfalso
    have h1 := qe_pc_lt (s := 0) (s' := s) hi (fun j _ h => by rw [b_0] at h; exact Bool.noConfusion h) (b_0 i) hb
    omega
/-- a set that grew has more bits -/
theorem qe_grow {s s' : Int32} (hb : ∀ j, bt s' j = true → j < 24) (hs : ∀ j, bt s j = true → bt s' j = true) (hne : ¬ s' = s) : qe_pc s < qe_pc s' := by
  have ⟨i, h0, h1⟩ : ∃ i, bt s i = false ∧ bt s' i = true := by
    apply Classical.byContradiction
    intro hn
    apply hne
    apply b_ext
    intro i _
    cases h1 : bt s' i
    · cases h0 : bt s i
      · rfl
      · rw [hs i h0] at h1; exact Bool.noConfusion h1
    · cases h0 : bt s i
      · exact absurd ⟨i, h0, h1⟩ hn
      · rfl
  exact qe_pc_lt (hb i h1) (fun j _ h => hs j h) h0 h1
/-- the best of the set s below i: least q, then least number -/
def qe_B (s : Int32) (q : Nat → Int32) (i c : Nat) : Prop := bt s c = true ∧ c < i ∧ ∀ j, j < i → bt s j = true → q c ≤ q j ∧ (j < c → q c < q j)
theorem qe_B_u {s : Int32} {q : Nat → Int32} {i c c' : Nat} (h : qe_B s q i c) (h' : qe_B s q i c') : c = c' := by
  rcases Nat.lt_trichotomy c c' with h1 | h1 | h1
  · exact absurd ((h'.2.2 c h.2.1 h.1).2 h1) (Int32.not_lt.mpr (h.2.2 c' h'.2.1 h'.1).1)
  · exact h1
  · exact absurd ((h.2.2 c' h'.2.1 h'.1).2 h1) (Int32.not_lt.mpr (h'.2.2 c h.2.1 h.1).1)
theorem qe_B_0 {s : Int32} {q : Nat → Int32} {i c : Nat} (h : qe_B s q i c) (hi : bt s i = false) : qe_B s q (i + 1) c :=
  ⟨h.1, by have := h.2.1; omega, fun j hj hb => by
    by_cases e : j = i
    · rw [e, hi] at hb; exact Bool.noConfusion hb
    · exact h.2.2 j (by omega) hb⟩
theorem qe_B_keep {s : Int32} {q : Nat → Int32} {i c : Nat} (h : qe_B s q i c) (hq : q c ≤ q i) : qe_B s q (i + 1) c :=
  ⟨h.1, by have := h.2.1; omega, fun j hj hb => by
    by_cases e : j = i
    · rw [e]; exact ⟨hq, fun hlt => by have := h.2.1; omega⟩
    · exact h.2.2 j (by omega) hb⟩
theorem qe_B_new {s : Int32} {q : Nat → Int32} {i c : Nat} (h : qe_B s q i c) (hi : bt s i = true) (hq : ¬ q c ≤ q i) : qe_B s q (i + 1) i :=
  ⟨hi, by omega, fun j hj hb => by
    by_cases e : j = i
    · rw [e]; exact ⟨Int32.le_refl _, fun hlt => by omega⟩
    · have h1 := (h.2.2 j (by omega) hb).1
      have h2 : q i < q c := Int32.not_le.mp hq
      have h3 : q i < q j := Int32.lt_of_lt_of_le h2 h1
      exact ⟨Int32.le_of_lt h3, fun _ => h3⟩⟩
theorem qe_B_fst {s : Int32} {q : Nat → Int32} {i : Nat} (hi : bt s i = true) (h0 : ∀ j, j < i → bt s j = false) : qe_B s q (i + 1) i :=
  ⟨hi, by omega, fun j hj hb => by
    by_cases e : j = i
    · rw [e]; exact ⟨Int32.le_refl _, fun hlt => by omega⟩
    · rw [h0 j (by omega)] at hb; exact Bool.noConfusion hb⟩
theorem qe_B_ex {s : Int32} {q : Nat → Int32} : ∀ i, (∃ j, j < i ∧ bt s j = true) → ∃ c, qe_B s q i c := by
  intro i
  induction i with
  | zero => rintro ⟨j, hj, _⟩; omega
  | succ i ih =>
    rintro ⟨j, hj, hb⟩
    by_cases hx : ∃ j, j < i ∧ bt s j = true
    · obtain ⟨c, hc⟩ := ih hx
      cases hi : bt s i
      · exact ⟨c, qe_B_0 hc hi⟩
      · by_cases hq : q c ≤ q i
        · exact ⟨c, qe_B_keep hc hq⟩
        · exact ⟨i, qe_B_new hc hi hq⟩
    · have h0 : ∀ j, j < i → bt s j = false := fun j hj => by
        cases h1 : bt s j
        · rfl
        · exact absurd ⟨j, hj, h1⟩ hx
      have e : j = i := by
        apply Classical.byContradiction
        intro hn
        exact hx ⟨j, by omega, hb⟩
      rw [e] at hb
      exact ⟨i, qe_B_fst hb h0⟩
theorem qe_B_ext {s : Int32} {q : Nat → Int32} {i k c : Nat} (h : qe_B s q i c) (hik : i ≤ k) (hb : ∀ j, i ≤ j → bt s j = false) : qe_B s q k c :=
  ⟨h.1, by have := h.2.1; omega, fun j _ hj => by
    by_cases e : j < i
    · exact h.2.2 j e hj
    · rw [hb j (by omega)] at hj; exact Bool.noConfusion hj⟩
/-- the least member -/
theorem qe_least {s : Int32} (h : ¬ s = 0) : ∃ i, bt s i = true ∧ ∀ j, j < i → bt s j = false := by
  obtain ⟨i, hi, hm⟩ := pk_least (fun j => bt s j = true) (qa_ne0 h)
  exact ⟨i, hi, fun j hj => by
    cases h1 : bt s j
    · rfl
    · exact absurd h1 (hm j hj)⟩
end
section
/-! the invariant's pieces -/
def qi_Bd (k : Nat) (v : Int32) : Prop := ∃ j, j ≤ k ∧ v = nI j
def qi_Bs (n : Nat) (v : Int32) : Prop := ∀ j, n ≤ j → bt v j = false
def qi_Al (P : Int32 → Prop) (f : Nat → Int32) : Prop := ∀ x, x < 72 → P (f x)
theorem qi_Al_u {P : Int32 → Prop} {f : Nat → Int32} {v : Int32} {x : Nat} (h : qi_Al P f) (hv : P v) : qi_Al P (upd f x v) := fun y hy => by
  by_cases e : y = x
  · rw [e, pk_us]; exact hv
  · rw [pk_un e]; exact h y hy
theorem qi_Al_m {P Q : Int32 → Prop} {f : Nat → Int32} (m : ∀ v, P v → Q v) (h : qi_Al P f) : qi_Al Q f := fun x hx => m _ (h x hx)
theorem qi_Bd_m {k k' : Nat} (hk : k ≤ k') {v : Int32} (h : qi_Bd k v) : qi_Bd k' v := by
  obtain ⟨j, hj, e⟩ := h
  exact ⟨j, by omega, e⟩
theorem qi_Bd_0 (k : Nat) : qi_Bd k 0 := ⟨0, Nat.zero_le _, rfl⟩
theorem qi_Bs_0 (n : Nat) : qi_Bs n 0 := fun j _ => b_0 j
theorem qi_Bs_or {n : Nat} {a b : Int32} (ha : qi_Bs n a) (hb : qi_Bs n b) : qi_Bs n (a ||| b) := fun j hj => by rw [b_or, ha j hj, hb j hj]; rfl
theorem qi_Bs_lt {n : Nat} {a : Int32} (ha : qi_Bs n a) {j : Nat} (h : bt a j = true) : j < n := by
  apply Classical.byContradiction
  intro hc
  rw [ha j (by omega)] at h
  exact Bool.noConfusion h
theorem qi_Bs_sF {n : Nat} (hn : n ≤ 32) (c : Nat → Bool) : qi_Bs n (qa_sF c n) := fun j hj => by
  rw [qa_sFb c n hn j]
  have h : ¬ j < n := by omega
  simp [h]
/-- what a field j of a message may hold -/
def qi_F (k n j : Nat) (v : Int32) : Prop := (j = 1 → qi_Bd 2 v) ∧ (j = 2 → qi_Bd 2 v) ∧ (j = 3 → qi_Bd (n - 1) v) ∧ (j = 4 → qi_Bd k v) ∧ (j = 7 → qi_Bd 3 v) ∧ (j = 8 → qi_Bd 7 v) ∧ (j = 10 → qi_Bd k v) ∧ (j = 11 → qi_Bs n v)
theorem qi_F_m {k k' n j : Nat} (hk : k ≤ k') {v : Int32} (h : qi_F k n j v) : qi_F k' n j v :=
  ⟨h.1, h.2.1, h.2.2.1, fun e => qi_Bd_m hk (h.2.2.2.1 e), h.2.2.2.2.1, h.2.2.2.2.2.1, fun e => qi_Bd_m hk (h.2.2.2.2.2.2.1 e), h.2.2.2.2.2.2.2⟩
theorem qi_F_0 (k n j : Nat) : qi_F k n j 0 :=
  ⟨fun _ => qi_Bd_0 _, fun _ => qi_Bd_0 _, fun _ => qi_Bd_0 _, fun _ => qi_Bd_0 _, fun _ => qi_Bd_0 _, fun _ => qi_Bd_0 _, fun _ => qi_Bd_0 _, fun _ => qi_Bs_0 _⟩
theorem qi_F0 {k n : Nat} {v : Int32} : qi_F k n 0 v := ⟨nofun, nofun, nofun, nofun, nofun, nofun, nofun, nofun⟩
theorem qi_F1 {k n : Nat} {v : Int32} (h : qi_Bd 2 v) : qi_F k n 1 v := ⟨fun _ => h, nofun, nofun, nofun, nofun, nofun, nofun, nofun⟩
theorem qi_F2 {k n : Nat} {v : Int32} (h : qi_Bd 2 v) : qi_F k n 2 v := ⟨nofun, fun _ => h, nofun, nofun, nofun, nofun, nofun, nofun⟩
theorem qi_F3 {k n : Nat} {v : Int32} (h : qi_Bd (n - 1) v) : qi_F k n 3 v := ⟨nofun, nofun, fun _ => h, nofun, nofun, nofun, nofun, nofun⟩
theorem qi_F4 {k n : Nat} {v : Int32} (h : qi_Bd k v) : qi_F k n 4 v := ⟨nofun, nofun, nofun, fun _ => h, nofun, nofun, nofun, nofun⟩
theorem qi_F5 {k n : Nat} {v : Int32} : qi_F k n 5 v := ⟨nofun, nofun, nofun, nofun, nofun, nofun, nofun, nofun⟩
theorem qi_F6 {k n : Nat} {v : Int32} : qi_F k n 6 v := ⟨nofun, nofun, nofun, nofun, nofun, nofun, nofun, nofun⟩
theorem qi_F7 {k n : Nat} {v : Int32} (h : qi_Bd 3 v) : qi_F k n 7 v := ⟨nofun, nofun, nofun, nofun, fun _ => h, nofun, nofun, nofun⟩
theorem qi_F8 {k n : Nat} {v : Int32} (h : qi_Bd 7 v) : qi_F k n 8 v := ⟨nofun, nofun, nofun, nofun, nofun, fun _ => h, nofun, nofun⟩
theorem qi_F9 {k n : Nat} {v : Int32} : qi_F k n 9 v := ⟨nofun, nofun, nofun, nofun, nofun, nofun, nofun, nofun⟩
theorem qi_F10 {k n : Nat} {v : Int32} (h : qi_Bd k v) : qi_F k n 10 v := ⟨nofun, nofun, nofun, nofun, nofun, nofun, fun _ => h, nofun⟩
theorem qi_F11 {k n : Nat} {v : Int32} (h : qi_Bs n v) : qi_F k n 11 v := ⟨nofun, nofun, nofun, nofun, nofun, nofun, nofun, fun _ => h⟩
def qi_P (k n : Nat) (po : Nat → Int32) : Prop := ∀ s j, j < 12 → qi_F k n j (po (s * 12 + j))
def qi_G (k n : Nat) (go : Nat → Int32) : Prop := ∀ j, j < 12 → qi_F k n j (go j)
theorem qi_P_m {k k' n : Nat} (hk : k ≤ k') {po : Nat → Int32} (h : qi_P k n po) : qi_P k' n po := fun s j hj => qi_F_m hk (h s j hj)
theorem qi_G_m {k k' n : Nat} (hk : k ≤ k') {go : Nat → Int32} (h : qi_G k n go) : qi_G k' n go := fun j hj => qi_F_m hk (h j hj)
theorem qi_P_u {k n : Nat} {po : Nat → Int32} {s j : Nat} {v : Int32} (h : qi_P k n po) (hj : j < 12) (hv : qi_F k n j v) : qi_P k n (upd po (s * 12 + j) v) := fun s' j' hj' => by
  by_cases e : s' * 12 + j' = s * 12 + j
  · have e2 : j' = j := by omega
    rw [e, pk_us, e2]; exact hv
  · rw [pk_un e]; exact h s' j' hj'
theorem qi_G_u {k n : Nat} {go : Nat → Int32} {j : Nat} {v : Int32} (h : qi_G k n go) (hv : qi_F k n j v) : qi_G k n (upd go j v) := fun j' hj' => by
  by_cases e : j' = j
  · rw [e, pk_us]; exact hv
  · rw [pk_un e]; exact h j' hj'
def qi_PH (st ph : Nat → Int32) : Prop := ∀ x, x < 72 → ¬ ph x = 0 → st x < 3
def qi_RS (st rs : Nat → Int32) : Prop := ∀ x, x < 72 → ¬ rs x = 0 → st x = 4
def qi_ex (st : Nat → Int32) (r : Nat) : Nat → Bool := fun i => decide (st (r * 24 + i) = 4)
def qi_LI (n : Nat) (st ll li ly : Nat → Int32) : Prop := ∀ r, r < 3 → ll r = nI (qa_cn (qi_ex st r) n) ∧ ∀ m, m < qa_cn (qi_ex st r) n → ∃ i, i < n ∧ li (r * 24 + m) = nI i ∧ ly (r * 24 + m) = nI i ∧ st (r * 24 + i) = 4
def qi_UP (up : Int32) (dn : Nat → Int32) : Prop := ∀ r, r < 3 → (bt up r = true ∧ dn r = 0) ∨ (bt up r = false ∧ dn r = 1)
theorem qi_ne4 {v : Int32} (h : v < 3) : ¬ v = 4 := fun e => by
  rw [e] at h
  exact absurd h (by decide)
/-- writes of a status at x, where neither the old nor the new is EXECUTED -/
theorem qi_PH_u {st ph : Nat → Int32} {x : Nat} {s p : Int32} (h : qi_PH st ph) (hs : ¬ p = 0 → s < 3) : qi_PH (upd st x s) (upd ph x p) := fun y hy hp => by
  by_cases e : y = x
  · rw [e, pk_us] at hp ⊢
    exact hs hp
  · rw [pk_un e] at hp ⊢
    exact h y hy hp
theorem qi_PH_s {st ph : Nat → Int32} {x : Nat} {s : Int32} (h : qi_PH st ph) (hs : ¬ ph x = 0 → s < 3) : qi_PH (upd st x s) ph := fun y hy hp => by
  by_cases e : y = x
  · rw [e] at hp
    rw [e, pk_us]
    exact hs hp
  · rw [pk_un e]
    exact h y hy hp
theorem qi_PH_p {st ph : Nat → Int32} {x : Nat} {p : Int32} (h : qi_PH st ph) (hs : ¬ p = 0 → st x < 3) : qi_PH st (upd ph x p) := fun y hy hp => by
  by_cases e : y = x
  · rw [e] at hp ⊢
    rw [pk_us] at hp
    exact hs hp
  · rw [pk_un e] at hp
    exact h y hy hp
theorem qi_RS_s {st rs : Nat → Int32} {x : Nat} {s : Int32} (h : qi_RS st rs) (hx : ¬ st x = 4) (hx2 : x < 72) : qi_RS (upd st x s) rs := fun y hy hp => by
  by_cases e : y = x
  · rw [e] at hp
    exact absurd (h x hx2 hp) hx
  · rw [pk_un e]
    exact h y hy hp
theorem qi_ex_u {st : Nat → Int32} {x r : Nat} {s : Int32} (hx : ¬ st x = 4) (hs : ¬ s = 4) : qi_ex (upd st x s) r = qi_ex st r := by
  funext i
  unfold qi_ex
  by_cases e : r * 24 + i = x
  · rw [e, pk_us, decide_eq_false hx, decide_eq_false hs]
  · rw [pk_un e]
theorem qi_LI_s {n : Nat} {st ll li ly : Nat → Int32} {x : Nat} {s : Int32} (h : qi_LI n st ll li ly) (hx : ¬ st x = 4) (hs : ¬ s = 4) : qi_LI n (upd st x s) ll li ly := fun r hr => by
  rw [qi_ex_u hx hs]
  obtain ⟨h1, h2⟩ := h r hr
  refine ⟨h1, fun m hm => ?_⟩
  obtain ⟨i, hi, e1, e2, e3⟩ := h2 m hm
  refine ⟨i, hi, e1, e2, ?_⟩
  have e : ¬ r * 24 + i = x := fun e => hx (by rw [← e]; exact e3)
  rw [pk_un e]
  exact e3
/-- the invariant -/
def qi_I (k n kk pp : Nat) (S up : Int32) (dn st op ky sq de ba ph re rs li ly ll po go : Nat → Int32) : Prop :=
  (3 ≤ n ∧ n ≤ 24 ∧ kk ≤ 8 ∧ pp ≤ 64 ∧ 3 * S = nI n) ∧ qi_UP up dn ∧ qi_Al (qi_Bd 3) op ∧ qi_Al (qi_Bd 7) ky ∧ qi_Al (qi_Bd k) sq ∧ qi_Al (qi_Bs n) de ∧ qi_Al (qi_Bd k) ba ∧ qi_Al (qi_Bs 3) re ∧ qi_PH st ph ∧ qi_RS st rs ∧ qi_LI n st ll li ly ∧ qi_P k n po ∧ qi_G k n go
theorem qi_I_m {k k' n kk pp : Nat} {S up : Int32} {dn st op ky sq de ba ph re rs li ly ll po go : Nat → Int32} (hk : k ≤ k') (h : qi_I k n kk pp S up dn st op ky sq de ba ph re rs li ly ll po go) :
    qi_I k' n kk pp S up dn st op ky sq de ba ph re rs li ly ll po go := by
  obtain ⟨h1, h2, h3, h4, h5, h6, h7, h8, h9, h10, h11, h12, h13⟩ := h
  exact ⟨h1, h2, h3, h4, qi_Al_m (fun _ => qi_Bd_m hk) h5, h6, qi_Al_m (fun _ => qi_Bd_m hk) h7, h8, h9, h10, h11, qi_P_m hk h12, qi_G_m hk h13⟩
/-! walking helpers -/
theorem qw_ix (r i : Nat) : nI r * 24 + nI i = nI (r * 24 + i) := by
  rw [show nI r * 24 = nI (r * 24) from pk_mul r 24, nI_add]
theorem qw_ix8 (r i : Nat) : nI r * 8 + nI i = nI (r * 8 + i) := by
  rw [show nI r * 8 = nI (r * 8) from pk_mul r 8, nI_add]
theorem qw_ix12 (r i : Nat) : nI r * 12 + nI i = nI (r * 12 + i) := by
  rw [show nI r * 12 = nI (r * 12) from pk_mul r 12, nI_add]
theorem qw_m12 (r : Nat) : nI r * 12 = nI (r * 12) := pk_mul r 12
theorem qw_in {x : Int32} {N : Nat} {P : Prop} (a : Nat) (hx : x = nI a) (ha : a < N) (hN : N < 2 ^ 31) (h : P) : vp_in x N ∧ P := ⟨by rw [hx]; exact vp_in_nI ha hN, h⟩
theorem qw_st {x : Int32} {f : Nat → Int32} {v : Int32} {N : Nat} {P : (Nat → Int32) → Prop} (a : Nat) (hx : x = nI a) (ha : a < N) (hN : N < 2 ^ 31) (h : P (upd f a v)) : vp_in x N ∧ (∀ y, y = upd f x.toNatClampNeg v → P y) :=
  ⟨by rw [hx]; exact vp_in_nI ha hN, fun y e => by rw [e, hx, nI_clamp (by omega)]; exact h⟩
/-- a store at nI a -/
theorem qw_sa {f : Nat → Int32} {v : Int32} {N : Nat} {P : (Nat → Int32) → Prop} (a : Nat) (ha : a < N) (hN : N < 2 ^ 31) (h : P (upd f a v)) : vp_in (nI a) N ∧ (∀ y, y = upd f (nI a).toNatClampNeg v → P y) := qw_st a rfl ha hN h
end
section
/-! sending: free slots, one message, messages to the others -/
def qs_fre (po : Nat → Int32) (pp s : Nat) : Prop := s < pp ∧ po (s * 12) = 0 ∧ ∀ s', s' < s → ¬ po (s' * 12) = 0
def qs_ful (po : Nat → Int32) (pp : Nat) : Prop := ∀ s', s' < pp → ¬ po (s' * 12) = 0
theorem qs_or (po : Nat → Int32) (pp : Nat) : (∃ s, qs_fre po pp s) ∨ qs_ful po pp := by
  by_cases h : ∃ s, s < pp ∧ po (s * 12) = 0
  · obtain ⟨s, hs, hm⟩ := pk_least (fun s => s < pp ∧ po (s * 12) = 0) h
    exact Or.inl ⟨s, hs.1, hs.2, fun s' h' e => hm s' h' ⟨by have := hs.1; omega, e⟩⟩
  · exact Or.inr (fun s hs e => h ⟨s, hs, e⟩)
def qs_5 (po : Nat → Int32) (a : Nat) (kd f t i b : Int32) : Nat → Int32 := upd (upd (upd (upd (upd po a kd) (a + 1) f) (a + 2) t) (a + 3) i) (a + 4) b
def qs_R (po : Nat → Int32) (a : Nat) (o y v q d : Int32) : Nat → Int32 := upd (upd (upd (upd (upd po (a + 7) o) (a + 8) y) (a + 9) v) (a + 10) q) (a + 11) d
def qs_2 (po : Nat → Int32) (a : Nat) (q d : Int32) : Nat → Int32 := upd (upd po (a + 10) q) (a + 11) d
def qs_7 (po : Nat → Int32) (a : Nat) (s b : Int32) : Nat → Int32 := upd (upd po (a + 5) s) (a + 6) b
theorem qs_5P {k n : Nat} {po : Nat → Int32} {s : Nat} {kd f t i b : Int32} (h : qi_P k n po) (hf : qi_Bd 2 f) (ht : qi_Bd 2 t) (hi : qi_Bd (n - 1) i) (hb : qi_Bd k b) : qi_P k n (qs_5 po (s * 12) kd f t i b) :=
  qi_P_u (qi_P_u (qi_P_u (qi_P_u (qi_P_u (j := 0) h (by decide) qi_F0) (by decide) (qi_F1 hf)) (by decide) (qi_F2 ht)) (by decide) (qi_F3 hi)) (by decide) (qi_F4 hb)
theorem qs_RP {k n : Nat} {po : Nat → Int32} {s : Nat} {o y v q d : Int32} (h : qi_P k n po) (ho : qi_Bd 3 o) (hy : qi_Bd 7 y) (hq : qi_Bd k q) (hd : qi_Bs n d) : qi_P k n (qs_R po (s * 12) o y v q d) :=
  qi_P_u (qi_P_u (qi_P_u (qi_P_u (qi_P_u h (by decide) (qi_F7 ho)) (by decide) (qi_F8 hy)) (by decide) qi_F9) (by decide) (qi_F10 hq)) (by decide) (qi_F11 hd)
theorem qs_2P {k n : Nat} {po : Nat → Int32} {s : Nat} {q d : Int32} (h : qi_P k n po) (hq : qi_Bd k q) (hd : qi_Bs n d) : qi_P k n (qs_2 po (s * 12) q d) :=
  qi_P_u (qi_P_u h (by decide) (qi_F10 hq)) (by decide) (qi_F11 hd)
theorem qs_7P {k n : Nat} {po : Nat → Int32} {s : Nat} {x b : Int32} (h : qi_P k n po) : qi_P k n (qs_7 po (s * 12) x b) :=
  qi_P_u (qi_P_u h (by decide) qi_F5) (by decide) qi_F6
theorem qs_uc {f : Nat → Int32} {a b : Nat} {x y : Int32} (h : a ≠ b) : upd (upd f a x) b y = upd (upd f b y) a x := by
  funext j
  unfold upd
  by_cases h1 : j = a
  · have h2 : ¬ j = b := fun e => h (h1.symm.trans e)
    simp only [if_pos h1, if_neg h2]
  · by_cases h2 : j = b
    · simp only [if_neg h1, if_pos h2]
    · simp only [if_neg h1, if_neg h2]
theorem qs_7R (po : Nat → Int32) (a : Nat) (s b o y v q d : Int32) : qs_7 (qs_R po a o y v q d) a s b = qs_R (qs_7 po a s b) a o y v q d := by
  funext j
  unfold qs_7 qs_R upd
  by_cases h5 : j = a + 5
  · subst h5; simp
  · by_cases h6 : j = a + 6
    · subst h6; simp
    · simp only [if_neg h5, if_neg h6]
section
variable {n kk pp : Nat} {up lost vis dpt hgt ons : Int32} {st op ky va sq de ba rb ph re rs li ll ce po go ord low edg pth pnd mem nds : Nat → Int32}
theorem qx_fr1 {post : Int32 → Prop} (hp : pp ≤ 64) {s : Nat} (hs : qs_fre po pp s) (h : post (nI s)) : wpX_freeSlot post (nI n, nI kk, nI pp, up, lost, vis, dpt, hgt, ons, st, op, ky, va, sq, de, ba, rb, ph, re, rs, li, ll, ce, po, go, ord, low, edg, pth, pnd, mem, nds) := by
  obtain ⟨hs, h0, hm⟩ := hs
  have key : ∀ m j, j + m = s → wX_freeSlot_2 post (nI n) (nI kk) (nI pp) up lost vis dpt hgt ons st op ky va sq de ba rb ph re rs li ll ce po go ord low edg pth pnd mem nds (m + 1) (nI j) := by
    intro m
    induction m with
    | zero =>
      intro j hj
      have e : j = s := by omega
      subst e
      refine br_f (nI_ge hs (by omega)) ?_
      rw [qw_m12, nI_clamp (by omega)]
      exact ⟨vp_in_nI (by omega) (by omega), br_t h0 h⟩
    | succ m ih =>
      intro j hj
      refine br_f (nI_ge (by omega) (by omega)) ?_
      rw [qw_m12, nI_clamp (by omega)]
      refine ⟨vp_in_nI (by omega) (by omega), br_f (hm j (by omega)) (nm_r (nI_1 j) ?_)⟩
      exact ih (j + 1) (by omega)
  exact ⟨s + 1, key s 0 (by omega)⟩
theorem qx_fr0 {post : Int32 → Prop} (hp : pp ≤ 64) (hm : qs_ful po pp) (h : post (-1)) : wpX_freeSlot post (nI n, nI kk, nI pp, up, lost, vis, dpt, hgt, ons, st, op, ky, va, sq, de, ba, rb, ph, re, rs, li, ll, ce, po, go, ord, low, edg, pth, pnd, mem, nds) := by
  have key : ∀ m j, j + m = pp → wX_freeSlot_2 post (nI n) (nI kk) (nI pp) up lost vis dpt hgt ons st op ky va sq de ba rb ph re rs li ll ce po go ord low edg pth pnd mem nds (m + 1) (nI j) := by
    intro m
    induction m with
    | zero =>
      intro j hj
      exact br_t (nI_le (by omega) (by omega)) h
    | succ m ih =>
      intro j hj
      refine br_f (nI_ge (by omega) (by omega)) ?_
      rw [qw_m12, nI_clamp (by omega)]
      refine ⟨vp_in_nI (by omega) (by omega), br_f (hm j (by omega)) (nm_r (nI_1 j) ?_)⟩
      exact ih (j + 1) (by omega)
  exact ⟨pp + 1, key pp 0 (by omega)⟩
theorem qx_send1 {post : Int32 → SX → Prop} (hp : pp ≤ 64) {s : Nat} (hs : qs_fre po pp s) {kd f t i b : Int32} (h : post (nI (s * 12)) (nI n, nI kk, nI pp, up, lost, vis, dpt, hgt, ons, st, op, ky, va, sq, de, ba, rb, ph, re, rs, li, ll, ce, qs_5 po (s * 12) kd f t i b, go, ord, low, edg, pth, pnd, mem, nds)) : wpX_send post (nI n, nI kk, nI pp, up, lost, vis, dpt, hgt, ons, st, op, ky, va, sq, de, ba, rb, ph, re, rs, li, ll, ce, po, go, ord, low, edg, pth, pnd, mem, nds) kd f t i b := by
  have hs1 := hs.1
  unfold wpX_send
  refine qx_fr1 hp hs ?_
  refine br_t (nI_pos' (by omega)) ?_
  refine nm_r (e' := nI (s * 12)) (qw_m12 s) ?_
  refine qw_sa (s * 12) (by omega) (by omega) ?_
  refine qw_st (s * 12 + 1) (nI_add _ 1) (by omega) (by omega) ?_
  refine qw_st (s * 12 + 2) (nI_add _ 2) (by omega) (by omega) ?_
  refine qw_st (s * 12 + 3) (nI_add _ 3) (by omega) (by omega) ?_
  refine qw_st (s * 12 + 4) (nI_add _ 4) (by omega) (by omega) ?_
  exact h
theorem qx_send0 {post : Int32 → SX → Prop} (hp : pp ≤ 64) (hs : qs_ful po pp) {kd f t i b : Int32} (h : post (-1) (nI n, nI kk, nI pp, up, lost + 1, vis, dpt, hgt, ons, st, op, ky, va, sq, de, ba, rb, ph, re, rs, li, ll, ce, po, go, ord, low, edg, pth, pnd, mem, nds)) : wpX_send post (nI n, nI kk, nI pp, up, lost, vis, dpt, hgt, ons, st, op, ky, va, sq, de, ba, rb, ph, re, rs, li, ll, ce, po, go, ord, low, edg, pth, pnd, mem, nds) kd f t i b := by
  unfold wpX_send
  refine qx_fr0 hp hs ?_
  refine br_f (by decide) ?_
  exact nm_e h
theorem qx_sendR1 {post : Int32 → SX → Prop} (hp : pp ≤ 64) {s : Nat} (hs : qs_fre po pp s) {kd t b : Int32} {r i : Nat} (hr : r < 3) (hi : i < 24) (h : post (nI (s * 12)) (nI n, nI kk, nI pp, up, lost, vis, dpt, hgt, ons, st, op, ky, va, sq, de, ba, rb, ph, re, rs, li, ll, ce, qs_R (qs_5 po (s * 12) kd (nI r) t (nI i) b) (s * 12) (op (r * 24 + i)) (ky (r * 24 + i)) (va (r * 24 + i)) (sq (r * 24 + i)) (de (r * 24 + i)), go, ord, low, edg, pth, pnd, mem, nds)) : wpX_sendRecord post (nI n, nI kk, nI pp, up, lost, vis, dpt, hgt, ons, st, op, ky, va, sq, de, ba, rb, ph, re, rs, li, ll, ce, po, go, ord, low, edg, pth, pnd, mem, nds) kd (nI r) t (nI i) b := by
  have hs1 := hs.1
  unfold wpX_sendRecord
  refine qx_send1 hp hs ?_
  refine br_f (nI_pos (by omega)) ?_
  refine nm_r (e' := nI (r * 24 + i)) (qw_ix r i) ?_
  rw [nI_clamp (n := r * 24 + i) (by omega)]
  refine qw_in (r * 24 + i) rfl (by omega) (by omega) (qw_st (s * 12 + 7) (nI_add _ 7) (by omega) (by omega) ?_)
  refine qw_in (r * 24 + i) rfl (by omega) (by omega) (qw_st (s * 12 + 8) (nI_add _ 8) (by omega) (by omega) ?_)
  refine qw_in (r * 24 + i) rfl (by omega) (by omega) (qw_st (s * 12 + 9) (nI_add _ 9) (by omega) (by omega) ?_)
  refine qw_in (r * 24 + i) rfl (by omega) (by omega) (qw_st (s * 12 + 10) (nI_add _ 10) (by omega) (by omega) ?_)
  refine qw_in (r * 24 + i) rfl (by omega) (by omega) (qw_st (s * 12 + 11) (nI_add _ 11) (by omega) (by omega) ?_)
  exact h
theorem qx_sendR0 {post : Int32 → SX → Prop} (hp : pp ≤ 64) (hs : qs_ful po pp) {kd f t i b : Int32} (h : post (-1) (nI n, nI kk, nI pp, up, lost + 1, vis, dpt, hgt, ons, st, op, ky, va, sq, de, ba, rb, ph, re, rs, li, ll, ce, po, go, ord, low, edg, pth, pnd, mem, nds)) : wpX_sendRecord post (nI n, nI kk, nI pp, up, lost, vis, dpt, hgt, ons, st, op, ky, va, sq, de, ba, rb, ph, re, rs, li, ll, ce, po, go, ord, low, edg, pth, pnd, mem, nds) kd f t i b := by
  unfold wpX_sendRecord
  refine qx_send0 hp hs ?_
  exact br_t (by decide) h
end
section
variable {n kk pp : Nat} {S lost : Int32} {dn st op ky va sq de ba rb ph re rs ce ly ll po go : Nat → Int32}
theorem qy_fr1 {post : Int32 → Prop} (hp : pp ≤ 64) {s : Nat} (hs : qs_fre po pp s) (h : post (nI s)) : wpY_emptySlot post (S, nI kk, nI pp, lost, dn, st, op, ky, va, sq, de, ba, rb, ph, re, rs, ce, ly, ll, po, go) := by
  obtain ⟨hs, h0, hm⟩ := hs
  have key : ∀ m j, j + m = s → wY_emptySlot_2 post S (nI kk) (nI pp) lost dn st op ky va sq de ba rb ph re rs ce ly ll po go (m + 1) (nI j) := by
    intro m
    induction m with
    | zero =>
      intro j hj
      have e : j = s := by omega
      subst e
      refine br_f (nI_ge hs (by omega)) ?_
      rw [qw_m12, nI_clamp (by omega)]
      exact ⟨vp_in_nI (by omega) (by omega), br_t h0 h⟩
    | succ m ih =>
      intro j hj
      refine br_f (nI_ge (by omega) (by omega)) ?_
      rw [qw_m12, nI_clamp (by omega)]
      refine ⟨vp_in_nI (by omega) (by omega), br_f (hm j (by omega)) (nm_r (nI_1 j) ?_)⟩
      exact ih (j + 1) (by omega)
  exact ⟨s + 1, key s 0 (by omega)⟩
theorem qy_fr0 {post : Int32 → Prop} (hp : pp ≤ 64) (hm : qs_ful po pp) (h : post (-1)) : wpY_emptySlot post (S, nI kk, nI pp, lost, dn, st, op, ky, va, sq, de, ba, rb, ph, re, rs, ce, ly, ll, po, go) := by
  have key : ∀ m j, j + m = pp → wY_emptySlot_2 post S (nI kk) (nI pp) lost dn st op ky va sq de ba rb ph re rs ce ly ll po go (m + 1) (nI j) := by
    intro m
    induction m with
    | zero =>
      intro j hj
      exact br_t (nI_le (by omega) (by omega)) h
    | succ m ih =>
      intro j hj
      refine br_f (nI_ge (by omega) (by omega)) ?_
      rw [qw_m12, nI_clamp (by omega)]
      refine ⟨vp_in_nI (by omega) (by omega), br_f (hm j (by omega)) (nm_r (nI_1 j) ?_)⟩
      exact ih (j + 1) (by omega)
  exact ⟨pp + 1, key pp 0 (by omega)⟩
theorem qy_send0 {post : SY → Prop} (hp : pp ≤ 64) (hs : qs_ful po pp) {kd f t i b : Int32} (h : post (S, nI kk, nI pp, lost + 1, dn, st, op, ky, va, sq, de, ba, rb, ph, re, rs, ce, ly, ll, po, go)) : wpY_send post (S, nI kk, nI pp, lost, dn, st, op, ky, va, sq, de, ba, rb, ph, re, rs, ce, ly, ll, po, go) kd f t i b := by
  unfold wpY_send
  refine qy_fr0 hp hs ?_
  refine br_f (by decide) ?_
  exact nm_e h
/-- the first five fields, then the join -/
theorem qy_64 {post : SY → Prop} {s : Nat} (hs : s < 64) {kd f t i b x8 z : Int32} (h7 : ¬ kd = 7) (h : wY_send_155 post kd (nI (s * 12)) x8 z S (nI kk) (nI pp) lost dn st op ky va sq de ba rb ph re rs ce ly ll (qs_5 po (s * 12) kd f t i b) go) : wY_send_64 post kd f t i b (nI (s * 12)) x8 z S (nI kk) (nI pp) lost dn st op ky va sq de ba rb ph re rs ce ly ll po go := by
  unfold wY_send_64
  refine qw_sa (s * 12) (by omega) (by omega) ?_
  refine qw_st (s * 12 + 1) (nI_add _ 1) (by omega) (by omega) ?_
  refine qw_st (s * 12 + 2) (nI_add _ 2) (by omega) (by omega) ?_
  refine qw_st (s * 12 + 3) (nI_add _ 3) (by omega) (by omega) ?_
  refine qw_st (s * 12 + 4) (nI_add _ 4) (by omega) (by omega) ?_
  exact br_f h7 h
theorem qy_647 {post : SY → Prop} {s : Nat} (hs : s < 64) {f t i b z : Int32} {x : Nat} (hx : x < 72) (h : wY_send_155 post 7 (nI (s * 12)) (nI x) z S (nI kk) (nI pp) lost dn st op ky va sq de ba rb ph re rs ce ly ll (qs_7 (qs_5 po (s * 12) 7 f t i b) (s * 12) (st x) (rb x)) go) : wY_send_64 post 7 f t i b (nI (s * 12)) (nI x) z S (nI kk) (nI pp) lost dn st op ky va sq de ba rb ph re rs ce ly ll po go := by
  unfold wY_send_64
  refine qw_sa (s * 12) (by omega) (by omega) ?_
  refine qw_st (s * 12 + 1) (nI_add _ 1) (by omega) (by omega) ?_
  refine qw_st (s * 12 + 2) (nI_add _ 2) (by omega) (by omega) ?_
  refine qw_st (s * 12 + 3) (nI_add _ 3) (by omega) (by omega) ?_
  refine qw_st (s * 12 + 4) (nI_add _ 4) (by omega) (by omega) ?_
  refine br_t rfl ?_
  rw [nI_clamp (n := x) (by omega)]
  refine qw_in x rfl hx (by omega) (qw_st (s * 12 + 5) (nI_add _ 5) (by omega) (by omega) ?_)
  refine qw_in x rfl hx (by omega) (qw_st (s * 12 + 6) (nI_add _ 6) (by omega) (by omega) ?_)
  exact h
theorem qy_221 {post : SY → Prop} {s : Nat} (hs : s < 64) {x : Nat} (hx : x < 72) (h : post (S, nI kk, nI pp, lost, dn, st, op, ky, va, sq, de, ba, rb, ph, re, rs, ce, ly, ll, qs_2 po (s * 12) (sq x) (de x), go)) : wY_send_221 post (nI (s * 12)) (nI x) S (nI kk) (nI pp) lost dn st op ky va sq de ba rb ph re rs ce ly ll po go := by
  unfold wY_send_221
  rw [nI_clamp (n := x) (by omega)]
  refine qw_in x rfl hx (by omega) (qw_st (s * 12 + 10) (nI_add _ 10) (by omega) (by omega) ?_)
  refine qw_in x rfl hx (by omega) (qw_st (s * 12 + 11) (nI_add _ 11) (by omega) (by omega) ?_)
  exact h
theorem qy_155C {post : SY → Prop} {s : Nat} (hs : s < 64) {kd : Int32} {x : Nat} (hx : x < 72) (h : post (S, nI kk, nI pp, lost, dn, st, op, ky, va, sq, de, ba, rb, ph, re, rs, ce, ly, ll, qs_R po (s * 12) (op x) (ky x) (va x) (sq x) (de x), go)) : wY_send_155 post kd (nI (s * 12)) (nI x) 1 S (nI kk) (nI pp) lost dn st op ky va sq de ba rb ph re rs ce ly ll po go := by
  unfold wY_send_155
  refine br_f (by decide) ?_
  rw [nI_clamp (n := x) (by omega)]
  refine qw_in x rfl hx (by omega) (qw_st (s * 12 + 7) (nI_add _ 7) (by omega) (by omega) ?_)
  refine qw_in x rfl hx (by omega) (qw_st (s * 12 + 8) (nI_add _ 8) (by omega) (by omega) ?_)
  refine qw_in x rfl hx (by omega) (qw_st (s * 12 + 9) (nI_add _ 9) (by omega) (by omega) ?_)
  unfold wY_send_211
  refine br_f (by decide) ?_
  refine qy_221 hs hx ?_
  exact h
/-- kinds with a command -/
theorem qy_sendC {post : SY → Prop} (hp : pp ≤ 64) {s : Nat} (hs : qs_fre po pp s) {kd t b : Int32} (hk : kd = 1 ∨ kd = 3 ∨ kd = 5) {r i : Nat} (hr : r < 3) (hi : i < 24) (h : post (S, nI kk, nI pp, lost, dn, st, op, ky, va, sq, de, ba, rb, ph, re, rs, ce, ly, ll, qs_R (qs_5 po (s * 12) kd (nI r) t (nI i) b) (s * 12) (op (r * 24 + i)) (ky (r * 24 + i)) (va (r * 24 + i)) (sq (r * 24 + i)) (de (r * 24 + i)), go)) : wpY_send post (S, nI kk, nI pp, lost, dn, st, op, ky, va, sq, de, ba, rb, ph, re, rs, ce, ly, ll, po, go) kd (nI r) t (nI i) b := by
  have hs1 := hs.1
  have h7 : ¬ kd = 7 := by rcases hk with e | e | e <;> rw [e] <;> decide
  have K : wY_send_59 post kd (nI r) t (nI i) b (nI (s * 12)) (nI (r * 24 + i)) S (nI kk) (nI pp) lost dn st op ky va sq de ba rb ph re rs ce ly ll po go := by
    unfold wY_send_59
    refine qy_64 (by omega) h7 ?_
    exact qy_155C (by omega) (by omega) h
  unfold wpY_send
  refine qy_fr1 hp hs ?_
  refine br_t (nI_pos' (by omega)) ?_
  refine nm_r (e' := nI (s * 12)) (qw_m12 s) ?_
  refine nm_r (e' := nI (r * 24 + i)) (qw_ix r i) ?_
  rcases hk with e | e | e
  · exact br_t e K
  · exact br_f (by rw [e]; decide) (br_t e K)
  · exact br_f (by rw [e]; decide) (br_f (by rw [e]; decide) (br_t e K))
theorem qy_send7 {post : SY → Prop} (hp : pp ≤ 64) {s : Nat} (hs : qs_fre po pp s) {t b : Int32} {r i : Nat} (hr : r < 3) (hi : i < 24) (h : post (S, nI kk, nI pp, lost, dn, st, op, ky, va, sq, de, ba, rb, ph, re, rs, ce, ly, ll, qs_R (qs_7 (qs_5 po (s * 12) 7 (nI r) t (nI i) b) (s * 12) (st (r * 24 + i)) (rb (r * 24 + i))) (s * 12) (op (r * 24 + i)) (ky (r * 24 + i)) (va (r * 24 + i)) (sq (r * 24 + i)) (de (r * 24 + i)), go)) : wpY_send post (S, nI kk, nI pp, lost, dn, st, op, ky, va, sq, de, ba, rb, ph, re, rs, ce, ly, ll, po, go) 7 (nI r) t (nI i) b := by
  have hs1 := hs.1
  have K : wY_send_59 post 7 (nI r) t (nI i) b (nI (s * 12)) (nI (r * 24 + i)) S (nI kk) (nI pp) lost dn st op ky va sq de ba rb ph re rs ce ly ll po go := by
    unfold wY_send_59
    refine qy_647 (by omega) (by omega) ?_
    exact qy_155C (by omega) (by omega) h
  unfold wpY_send
  refine qy_fr1 hp hs ?_
  refine br_t (nI_pos' (by omega)) ?_
  refine nm_r (e' := nI (s * 12)) (qw_m12 s) ?_
  refine nm_r (e' := nI (r * 24 + i)) (qw_ix r i) ?_
  exact br_f (by decide) (br_f (by decide) (br_f (by decide) (br_t rfl K)))
/-- kinds without a record; and 2 -/
theorem qy_sendN {post : SY → Prop} (hp : pp ≤ 64) {s : Nat} (hs : qs_fre po pp s) {kd t b : Int32} (hk : kd = 4 ∨ kd = 6 ∨ kd = 8) {r i : Nat} (hr : r < 3) (hi : i < 24) (h : post (S, nI kk, nI pp, lost, dn, st, op, ky, va, sq, de, ba, rb, ph, re, rs, ce, ly, ll, qs_5 po (s * 12) kd (nI r) t (nI i) b, go)) : wpY_send post (S, nI kk, nI pp, lost, dn, st, op, ky, va, sq, de, ba, rb, ph, re, rs, ce, ly, ll, po, go) kd (nI r) t (nI i) b := by
  have hs1 := hs.1
  have h1 : ¬ kd = 1 := by rcases hk with e | e | e <;> rw [e] <;> decide
  have h2 : ¬ kd = 2 := by rcases hk with e | e | e <;> rw [e] <;> decide
  have h3 : ¬ kd = 3 := by rcases hk with e | e | e <;> rw [e] <;> decide
  have h5 : ¬ kd = 5 := by rcases hk with e | e | e <;> rw [e] <;> decide
  have h7 : ¬ kd = 7 := by rcases hk with e | e | e <;> rw [e] <;> decide
  unfold wpY_send
  refine qy_fr1 hp hs ?_
  refine br_t (nI_pos' (by omega)) ?_
  refine nm_r (e' := nI (s * 12)) (qw_m12 s) ?_
  refine nm_r (e' := nI (r * 24 + i)) (qw_ix r i) ?_
  refine br_f h1 (br_f h3 (br_f h5 (br_f h7 ?_)))
  refine qy_64 (by omega) h7 ?_
  unfold wY_send_155
  refine br_t rfl ?_
  unfold wY_send_211
  exact br_t rfl (br_f h2 h)
theorem qy_send2 {post : SY → Prop} (hp : pp ≤ 64) {s : Nat} (hs : qs_fre po pp s) {t b : Int32} {r i : Nat} (hr : r < 3) (hi : i < 24) (h : post (S, nI kk, nI pp, lost, dn, st, op, ky, va, sq, de, ba, rb, ph, re, rs, ce, ly, ll, qs_2 (qs_5 po (s * 12) 2 (nI r) t (nI i) b) (s * 12) (sq (r * 24 + i)) (de (r * 24 + i)), go)) : wpY_send post (S, nI kk, nI pp, lost, dn, st, op, ky, va, sq, de, ba, rb, ph, re, rs, ce, ly, ll, po, go) 2 (nI r) t (nI i) b := by
  have hs1 := hs.1
  unfold wpY_send
  refine qy_fr1 hp hs ?_
  refine br_t (nI_pos' (by omega)) ?_
  refine nm_r (e' := nI (s * 12)) (qw_m12 s) ?_
  refine nm_r (e' := nI (r * 24 + i)) (qw_ix r i) ?_
  refine br_f (by decide) (br_f (by decide) (br_f (by decide) (br_f (by decide) ?_)))
  refine qy_64 (by omega) (by decide) ?_
  unfold wY_send_155
  refine br_t rfl ?_
  unfold wY_send_211
  refine br_t rfl (br_t rfl ?_)
  exact qy_221 (by omega) (by omega) h
end
end
section
/-! one outcome of sending for both sides -/
section
variable {n kk pp : Nat} {up lost vis dpt hgt ons : Int32} {st op ky va sq de ba rb ph re rs li ll ce po go ord low edg pth pnd mem nds : Nat → Int32} {S : Int32} {dn ly : Nat → Int32}
theorem qs_one {k : Nat} (hp : pp ≤ 64) (hn : n ≤ 24) {kd b : Int32} (hk : kd = 1 ∨ kd = 3 ∨ kd = 5) {r t i : Nat} (hr : r < 3) (ht : t < 3) (hi : i < n) (hP : qi_P k n po) (hb : qi_Bd k b)
    (ho : qi_Bd 3 (op (r * 24 + i))) (hy : qi_Bd 7 (ky (r * 24 + i))) (hq : qi_Bd k (sq (r * 24 + i))) (hd : qi_Bs n (de (r * 24 + i))) :
    ∃ po' lost', qi_P k n po' ∧ (∀ post : Int32 → SX → Prop, (∀ q, post q (nI n, nI kk, nI pp, up, lost', vis, dpt, hgt, ons, st, op, ky, va, sq, de, ba, rb, ph, re, rs, li, ll, ce, po', go, ord, low, edg, pth, pnd, mem, nds)) → wpX_sendRecord post (nI n, nI kk, nI pp, up, lost, vis, dpt, hgt, ons, st, op, ky, va, sq, de, ba, rb, ph, re, rs, li, ll, ce, po, go, ord, low, edg, pth, pnd, mem, nds) kd (nI r) (nI t) (nI i) b) ∧
      (∀ post : SY → Prop, post (S, nI kk, nI pp, lost', dn, st, op, ky, va, sq, de, ba, rb, ph, re, rs, ce, ly, ll, po', go) → wpY_send post (S, nI kk, nI pp, lost, dn, st, op, ky, va, sq, de, ba, rb, ph, re, rs, ce, ly, ll, po, go) kd (nI r) (nI t) (nI i) b) := by
  rcases qs_or po pp with ⟨s, hs⟩ | hf
  · refine ⟨qs_R (qs_5 po (s * 12) kd (nI r) (nI t) (nI i) b) (s * 12) (op (r * 24 + i)) (ky (r * 24 + i)) (va (r * 24 + i)) (sq (r * 24 + i)) (de (r * 24 + i)), lost, ?_, ?_, ?_⟩
    · exact qs_RP (qs_5P hP ⟨r, by omega, rfl⟩ ⟨t, by omega, rfl⟩ ⟨i, by omega, rfl⟩ hb) ho hy hq hd
    · intro post h
      exact qx_sendR1 hp hs hr (by omega) (h _)
    · intro post h
      exact qy_sendC hp hs hk hr (by omega) h
  · exact ⟨po, lost + 1, hP, fun post h => qx_sendR0 hp hf (h _), fun post h => qy_send0 hp hf h⟩
theorem qs_oth3 {k : Nat} (hp : pp ≤ 64) (hn : n ≤ 24) {kd b : Int32} (hk : kd = 1 ∨ kd = 3 ∨ kd = 5) {r i : Nat} (hr : r < 3) (hi : i < n) (hb : qi_Bd k b)
    (ho : qi_Bd 3 (op (r * 24 + i))) (hy : qi_Bd 7 (ky (r * 24 + i))) (hq : qi_Bd k (sq (r * 24 + i))) (hd : qi_Bs n (de (r * 24 + i))) :
    ∀ m t, t + m = 3 → ∀ (po : Nat → Int32) (lost : Int32), qi_P k n po → ∃ po' lost', qi_P k n po' ∧ (∀ post : SX → Prop, post (nI n, nI kk, nI pp, up, lost', vis, dpt, hgt, ons, st, op, ky, va, sq, de, ba, rb, ph, re, rs, li, ll, ce, po', go, ord, low, edg, pth, pnd, mem, nds) → wX_sendRecordToOthers_3 post kd (nI r) (nI i) b (m + 1) (nI t) (nI n) (nI kk) (nI pp) up lost vis dpt hgt ons st op ky va sq de ba rb ph re rs li ll ce po go ord low edg pth pnd mem nds) ∧
      (∀ post : SY → Prop, post (S, nI kk, nI pp, lost', dn, st, op, ky, va, sq, de, ba, rb, ph, re, rs, ce, ly, ll, po', go) → wY_sendToOthers_3 post kd (nI r) (nI i) b (m + 1) (nI t) S (nI kk) (nI pp) lost dn st op ky va sq de ba rb ph re rs ce ly ll po go) := by
  intro m
  induction m with
  | zero =>
    intro t htm po lost hP
    have e : t = 3 := by omega
    subst e
    exact ⟨po, lost, hP, fun post h => br_t (by decide) h, fun post h => br_t (by decide) h⟩
  | succ m ih =>
    intro t htm po lost hP
    have h3 : ¬ (3 : Int32) ≤ nI t := nI_ge (b := 3) (by omega) (by decide)
    by_cases e : t = r
    · have e2 : nI t = nI r := by rw [e]
      obtain ⟨po', lost', p1, x1, y1⟩ := ih (t + 1) (by omega) po lost hP
      exact ⟨po', lost', p1, fun post h => br_f h3 (br_t e2 (nm_r (nI_1 t) (x1 post h))), fun post h => br_f h3 (br_t e2 (nm_r (nI_1 t) (y1 post h)))⟩
    · have e2 : ¬ nI t = nI r := fun z => e ((nI_eq (by omega) (by omega)).mp z)
      obtain ⟨po1, lost1, p0, x0, y0⟩ := qs_one (n := n) (kk := kk) (pp := pp) (up := up) (lost := lost) (vis := vis) (dpt := dpt) (hgt := hgt) (ons := ons) (st := st) (op := op) (ky := ky) (va := va) (sq := sq) (de := de) (ba := ba) (rb := rb) (ph := ph) (re := re) (rs := rs) (li := li) (ll := ll) (ce := ce) (po := po) (go := go) (ord := ord) (low := low) (edg := edg) (pth := pth) (pnd := pnd) (mem := mem) (nds := nds) (S := S) (dn := dn) (ly := ly) hp hn hk hr (by omega : t < 3) hi hP hb ho hy hq hd
      obtain ⟨po', lost', p1, x1, y1⟩ := ih (t + 1) (by omega) po1 lost1 p0
      exact ⟨po', lost', p1, fun post h => br_f h3 (br_f e2 (x0 _ (fun q => nm_r (nI_1 t) (x1 post h)))), fun post h => br_f h3 (br_f e2 (y0 _ (nm_r (nI_1 t) (y1 post h))))⟩
theorem qs_others {k : Nat} (hp : pp ≤ 64) (hn : n ≤ 24) {kd b : Int32} (hk : kd = 1 ∨ kd = 3 ∨ kd = 5) {r i : Nat} (hr : r < 3) (hi : i < n) (hP : qi_P k n po) (hb : qi_Bd k b)
    (ho : qi_Bd 3 (op (r * 24 + i))) (hy : qi_Bd 7 (ky (r * 24 + i))) (hq : qi_Bd k (sq (r * 24 + i))) (hd : qi_Bs n (de (r * 24 + i))) :
    ∃ po' lost', qi_P k n po' ∧ (∀ post : SX → Prop, post (nI n, nI kk, nI pp, up, lost', vis, dpt, hgt, ons, st, op, ky, va, sq, de, ba, rb, ph, re, rs, li, ll, ce, po', go, ord, low, edg, pth, pnd, mem, nds) → wpX_sendRecordToOthers post (nI n, nI kk, nI pp, up, lost, vis, dpt, hgt, ons, st, op, ky, va, sq, de, ba, rb, ph, re, rs, li, ll, ce, po, go, ord, low, edg, pth, pnd, mem, nds) kd (nI r) (nI i) b) ∧
      (∀ post : SY → Prop, post (S, nI kk, nI pp, lost', dn, st, op, ky, va, sq, de, ba, rb, ph, re, rs, ce, ly, ll, po', go) → wpY_sendToOthers post (S, nI kk, nI pp, lost, dn, st, op, ky, va, sq, de, ba, rb, ph, re, rs, ce, ly, ll, po, go) kd (nI r) (nI i) b) := by
  obtain ⟨po', lost', p1, x1, y1⟩ := qs_oth3 (n := n) (kk := kk) (pp := pp) (up := up) (vis := vis) (dpt := dpt) (hgt := hgt) (ons := ons) (st := st) (op := op) (ky := ky) (va := va) (sq := sq) (de := de) (ba := ba) (rb := rb) (ph := ph) (re := re) (rs := rs) (li := li) (ll := ll) (ce := ce) (go := go) (ord := ord) (low := low) (edg := edg) (pth := pth) (pnd := pnd) (mem := mem) (nds := nds) (S := S) (dn := dn) (ly := ly) hp hn hk hr hi hb ho hy hq hd 3 0 rfl po lost hP
  exact ⟨po', lost', p1, fun post h => ⟨4, x1 post h⟩, fun post h => ⟨4, y1 post h⟩⟩
/-- messages without a record -/
theorem qs_bare {k : Nat} (hp : pp ≤ 64) (hn : n ≤ 24) {kd b : Int32} (hk : kd = 4 ∨ kd = 6 ∨ kd = 8) {r t i : Nat} (hr : r < 3) (ht : t < 3) (hi : i < n) (hP : qi_P k n po) (hb : qi_Bd k b) :
    ∃ po' lost', qi_P k n po' ∧ (∀ post : Int32 → SX → Prop, (∀ q, post q (nI n, nI kk, nI pp, up, lost', vis, dpt, hgt, ons, st, op, ky, va, sq, de, ba, rb, ph, re, rs, li, ll, ce, po', go, ord, low, edg, pth, pnd, mem, nds)) → wpX_send post (nI n, nI kk, nI pp, up, lost, vis, dpt, hgt, ons, st, op, ky, va, sq, de, ba, rb, ph, re, rs, li, ll, ce, po, go, ord, low, edg, pth, pnd, mem, nds) kd (nI r) (nI t) (nI i) b) ∧
      (∀ post : SY → Prop, post (S, nI kk, nI pp, lost', dn, st, op, ky, va, sq, de, ba, rb, ph, re, rs, ce, ly, ll, po', go) → wpY_send post (S, nI kk, nI pp, lost, dn, st, op, ky, va, sq, de, ba, rb, ph, re, rs, ce, ly, ll, po, go) kd (nI r) (nI t) (nI i) b) := by
  rcases qs_or po pp with ⟨s, hs⟩ | hf
  · refine ⟨qs_5 po (s * 12) kd (nI r) (nI t) (nI i) b, lost, ?_, ?_, ?_⟩
    · exact qs_5P hP ⟨r, by omega, rfl⟩ ⟨t, by omega, rfl⟩ ⟨i, by omega, rfl⟩ hb
    · intro post h
      exact qx_send1 hp hs (h _)
    · intro post h
      exact qy_sendN hp hs hk hr (by omega) h
  · exact ⟨po, lost + 1, hP, fun post h => qx_send0 hp hf (h _), fun post h => qy_send0 hp hf h⟩
theorem qs_prep3 {k : Nat} (hp : pp ≤ 64) (hn : n ≤ 24) {b : Int32} {r i : Nat} (hr : r < 3) (hi : i < n) (hb : qi_Bd k b) :
    ∀ m t, t + m = 3 → ∀ (po : Nat → Int32) (lost : Int32), qi_P k n po → ∃ po' lost', qi_P k n po' ∧ (∀ post : SX → Prop, post (nI n, nI kk, nI pp, up, lost', vis, dpt, hgt, ons, st, op, ky, va, sq, de, ba, rb, ph, re, rs, li, ll, ce, po', go, ord, low, edg, pth, pnd, mem, nds) → wX_sendPrepare_3 post (nI r) (nI i) b (m + 1) (nI t) (nI n) (nI kk) (nI pp) up lost vis dpt hgt ons st op ky va sq de ba rb ph re rs li ll ce po go ord low edg pth pnd mem nds) ∧
      (∀ post : SY → Prop, post (S, nI kk, nI pp, lost', dn, st, op, ky, va, sq, de, ba, rb, ph, re, rs, ce, ly, ll, po', go) → wY_sendToOthers_3 post 6 (nI r) (nI i) b (m + 1) (nI t) S (nI kk) (nI pp) lost dn st op ky va sq de ba rb ph re rs ce ly ll po go) := by
  intro m
  induction m with
  | zero =>
    intro t htm po lost hP
    have e : t = 3 := by omega
    subst e
    exact ⟨po, lost, hP, fun post h => br_t (by decide) h, fun post h => br_t (by decide) h⟩
  | succ m ih =>
    intro t htm po lost hP
    have h3 : ¬ (3 : Int32) ≤ nI t := nI_ge (b := 3) (by omega) (by decide)
    by_cases e : t = r
    · have e2 : nI t = nI r := by rw [e]
      obtain ⟨po', lost', p1, x1, y1⟩ := ih (t + 1) (by omega) po lost hP
      exact ⟨po', lost', p1, fun post h => br_f h3 (br_t e2 (nm_r (nI_1 t) (x1 post h))), fun post h => br_f h3 (br_t e2 (nm_r (nI_1 t) (y1 post h)))⟩
    · have e2 : ¬ nI t = nI r := fun z => e ((nI_eq (by omega) (by omega)).mp z)
      obtain ⟨po1, lost1, p0, x0, y0⟩ := qs_bare (n := n) (kk := kk) (pp := pp) (up := up) (lost := lost) (vis := vis) (dpt := dpt) (hgt := hgt) (ons := ons) (st := st) (op := op) (ky := ky) (va := va) (sq := sq) (de := de) (ba := ba) (rb := rb) (ph := ph) (re := re) (rs := rs) (li := li) (ll := ll) (ce := ce) (po := po) (go := go) (ord := ord) (low := low) (edg := edg) (pth := pth) (pnd := pnd) (mem := mem) (nds := nds) (S := S) (dn := dn) (ly := ly) hp hn (kd := 6) (Or.inr (Or.inl rfl)) hr (by omega : t < 3) hi hP hb
      obtain ⟨po', lost', p1, x1, y1⟩ := ih (t + 1) (by omega) po1 lost1 p0
      exact ⟨po', lost', p1, fun post h => br_f h3 (br_f e2 (x0 _ (fun q => nm_r (nI_1 t) (x1 post h)))), fun post h => br_f h3 (br_f e2 (y0 _ (nm_r (nI_1 t) (y1 post h))))⟩
theorem qs_prep {k : Nat} (hp : pp ≤ 64) (hn : n ≤ 24) {b : Int32} {r i : Nat} (hr : r < 3) (hi : i < n) (hP : qi_P k n po) (hb : qi_Bd k b) :
    ∃ po' lost', qi_P k n po' ∧ (∀ post : SX → Prop, post (nI n, nI kk, nI pp, up, lost', vis, dpt, hgt, ons, st, op, ky, va, sq, de, ba, rb, ph, re, rs, li, ll, ce, po', go, ord, low, edg, pth, pnd, mem, nds) → wpX_sendPrepare post (nI n, nI kk, nI pp, up, lost, vis, dpt, hgt, ons, st, op, ky, va, sq, de, ba, rb, ph, re, rs, li, ll, ce, po, go, ord, low, edg, pth, pnd, mem, nds) (nI r) (nI i) b) ∧
      (∀ post : SY → Prop, post (S, nI kk, nI pp, lost', dn, st, op, ky, va, sq, de, ba, rb, ph, re, rs, ce, ly, ll, po', go) → wpY_sendToOthers post (S, nI kk, nI pp, lost, dn, st, op, ky, va, sq, de, ba, rb, ph, re, rs, ce, ly, ll, po, go) 6 (nI r) (nI i) b) := by
  obtain ⟨po', lost', p1, x1, y1⟩ := qs_prep3 (n := n) (kk := kk) (pp := pp) (up := up) (vis := vis) (dpt := dpt) (hgt := hgt) (ons := ons) (st := st) (op := op) (ky := ky) (va := va) (sq := sq) (de := de) (ba := ba) (rb := rb) (ph := ph) (re := re) (rs := rs) (li := li) (ll := ll) (ce := ce) (go := go) (ord := ord) (low := low) (edg := edg) (pth := pth) (pnd := pnd) (mem := mem) (nds := nds) (S := S) (dn := dn) (ly := ly) hp hn hr hi hb 3 0 rfl po lost hP
  exact ⟨po', lost', p1, fun post h => ⟨4, x1 post h⟩, fun post h => ⟨4, y1 post h⟩⟩
theorem qs_pao {k : Nat} (hp : pp ≤ 64) (hn : n ≤ 24) {b : Int32} {r t i : Nat} (hr : r < 3) (ht : t < 3) (hi : i < n) (hP : qi_P k n po) (hb : qi_Bd k b) (hq : qi_Bd k (sq (r * 24 + i))) (hd : qi_Bs n (de (r * 24 + i))) :
    ∃ po' lost', qi_P k n po' ∧ (∀ post : SX → Prop, post (nI n, nI kk, nI pp, up, lost', vis, dpt, hgt, ons, st, op, ky, va, sq, de, ba, rb, ph, re, rs, li, ll, ce, po', go, ord, low, edg, pth, pnd, mem, nds) → wpX_sendPreAcceptOk post (nI n, nI kk, nI pp, up, lost, vis, dpt, hgt, ons, st, op, ky, va, sq, de, ba, rb, ph, re, rs, li, ll, ce, po, go, ord, low, edg, pth, pnd, mem, nds) (nI r) (nI t) (nI i) b) ∧
      (∀ post : SY → Prop, post (S, nI kk, nI pp, lost', dn, st, op, ky, va, sq, de, ba, rb, ph, re, rs, ce, ly, ll, po', go) → wpY_send post (S, nI kk, nI pp, lost, dn, st, op, ky, va, sq, de, ba, rb, ph, re, rs, ce, ly, ll, po, go) 2 (nI r) (nI t) (nI i) b) := by
  rcases qs_or po pp with ⟨s, hs⟩ | hf
  · have hs1 := hs.1
    refine ⟨qs_2 (qs_5 po (s * 12) 2 (nI r) (nI t) (nI i) b) (s * 12) (sq (r * 24 + i)) (de (r * 24 + i)), lost, ?_, ?_, ?_⟩
    · exact qs_2P (qs_5P hP ⟨r, by omega, rfl⟩ ⟨t, by omega, rfl⟩ ⟨i, by omega, rfl⟩ hb) hq hd
    · intro post h
      unfold wpX_sendPreAcceptOk
      refine qx_send1 hp hs ?_
      refine br_f (nI_pos (by omega)) ?_
      refine nm_r (e' := nI (r * 24 + i)) (qw_ix r i) ?_
      rw [nI_clamp (n := r * 24 + i) (by omega)]
      refine qw_in (r * 24 + i) rfl (by omega) (by omega) (qw_st (s * 12 + 10) (nI_add _ 10) (by omega) (by omega) ?_)
      refine qw_in (r * 24 + i) rfl (by omega) (by omega) (qw_st (s * 12 + 11) (nI_add _ 11) (by omega) (by omega) ?_)
      exact h
    · intro post h
      exact qy_send2 hp hs hr (by omega) h
  · refine ⟨po, lost + 1, hP, fun post h => ?_, fun post h => qy_send0 hp hf h⟩
    unfold wpX_sendPreAcceptOk
    refine qx_send0 hp hf ?_
    exact br_t (by decide) h
theorem qs_pok {k : Nat} (hp : pp ≤ 64) (hn : n ≤ 24) {b : Int32} {r t i : Nat} (hr : r < 3) (ht : t < 3) (hi : i < n) (hP : qi_P k n po) (hb : qi_Bd k b)
    (ho : qi_Bd 3 (op (r * 24 + i))) (hy : qi_Bd 7 (ky (r * 24 + i))) (hq : qi_Bd k (sq (r * 24 + i))) (hd : qi_Bs n (de (r * 24 + i))) :
    ∃ po' lost', qi_P k n po' ∧ (∀ post : SX → Prop, post (nI n, nI kk, nI pp, up, lost', vis, dpt, hgt, ons, st, op, ky, va, sq, de, ba, rb, ph, re, rs, li, ll, ce, po', go, ord, low, edg, pth, pnd, mem, nds) → wpX_sendPrepareOk post (nI n, nI kk, nI pp, up, lost, vis, dpt, hgt, ons, st, op, ky, va, sq, de, ba, rb, ph, re, rs, li, ll, ce, po, go, ord, low, edg, pth, pnd, mem, nds) (nI r) (nI t) (nI i) b) ∧
      (∀ post : SY → Prop, post (S, nI kk, nI pp, lost', dn, st, op, ky, va, sq, de, ba, rb, ph, re, rs, ce, ly, ll, po', go) → wpY_send post (S, nI kk, nI pp, lost, dn, st, op, ky, va, sq, de, ba, rb, ph, re, rs, ce, ly, ll, po, go) 7 (nI r) (nI t) (nI i) b) := by
  rcases qs_or po pp with ⟨s, hs⟩ | hf
  · have hs1 := hs.1
    refine ⟨qs_R (qs_7 (qs_5 po (s * 12) 7 (nI r) (nI t) (nI i) b) (s * 12) (st (r * 24 + i)) (rb (r * 24 + i))) (s * 12) (op (r * 24 + i)) (ky (r * 24 + i)) (va (r * 24 + i)) (sq (r * 24 + i)) (de (r * 24 + i)), lost, ?_, ?_, ?_⟩
    · exact qs_RP (qs_7P (qs_5P hP ⟨r, by omega, rfl⟩ ⟨t, by omega, rfl⟩ ⟨i, by omega, rfl⟩ hb)) ho hy hq hd
    · intro post h
      rw [← qs_7R] at h
      unfold wpX_sendPrepareOk
      refine qx_sendR1 hp hs hr (by omega) ?_
      refine br_f (nI_pos (by omega)) ?_
      refine nm_r (e' := nI (r * 24 + i)) (qw_ix r i) ?_
      rw [nI_clamp (n := r * 24 + i) (by omega)]
      refine qw_in (r * 24 + i) rfl (by omega) (by omega) (qw_st (s * 12 + 5) (nI_add _ 5) (by omega) (by omega) ?_)
      refine qw_in (r * 24 + i) rfl (by omega) (by omega) (qw_st (s * 12 + 6) (nI_add _ 6) (by omega) (by omega) ?_)
      exact h
    · intro post h
      exact qy_send7 hp hs hr (by omega) h
  · refine ⟨po, lost + 1, hP, fun post h => ?_, fun post h => qy_send0 hp hf h⟩
    unfold wpX_sendPrepareOk
    refine qx_sendR0 hp hf ?_
    exact br_t (by decide) h
end
end
section
/-! localSet, localSeq, and the small checks -/
def qs_c (st op ky : Nat → Int32) (r i : Nat) (o y : Int32) : Nat → Bool := fun j =>
  decide (¬ j = i ∧ ¬ st (r * 24 + j) = 0 ∧ (op (r * 24 + j) = 0 ∨ (¬ o = 0 ∧ ky (r * 24 + j) = y ∧ (¬ op (r * 24 + j) = o ∨ op (r * 24 + j) = 2))))
section
variable {n kk pp : Nat} {up lost vis dpt hgt ons : Int32} {st op ky va sq de ba rb ph re rs li ll ce po go ord low edg pth pnd mem nds : Nat → Int32}
theorem qx_intf {post : Int32 → Prop} {a b o y : Int32} (ha : ¬ a = 0) (h1 : (¬ o = 0 ∧ b = y ∧ (¬ a = o ∨ a = 2)) → post 1) (h0 : ¬ (¬ o = 0 ∧ b = y ∧ (¬ a = o ∨ a = 2)) → post 0) : wpX_interfere post (nI n, nI kk, nI pp, up, lost, vis, dpt, hgt, ons, st, op, ky, va, sq, de, ba, rb, ph, re, rs, li, ll, ce, po, go, ord, low, edg, pth, pnd, mem, nds) a b o y := by
  unfold wpX_interfere
  refine br_f ha ?_
  refine br_c (fun ho => h0 (fun z => z.1 ho)) (fun ho => ?_)
  refine br_c (fun hb => ?_) (fun hb => h0 (fun z => hb z.2.1))
  refine br_c (fun hao => ?_) (fun hao => h1 ⟨ho, hb, Or.inl hao⟩)
  exact br_c (fun h2 => h1 ⟨ho, hb, Or.inr h2⟩) (fun h2 => h0 (fun z => z.2.2.elim (fun q => q hao) h2))
theorem qx_lset {post : Int32 → Prop} (hn : n ≤ 24) {r i : Nat} {o y : Int32} (hr : r < 3) (hi : i < 24) (h : post (qa_sF (qs_c st op ky r i o y) n)) : wpX_localSet post (nI n, nI kk, nI pp, up, lost, vis, dpt, hgt, ons, st, op, ky, va, sq, de, ba, rb, ph, re, rs, li, ll, ce, po, go, ord, low, edg, pth, pnd, mem, nds) (nI r) (nI i) o y := by
  have key : ∀ m j, j + m = n → wX_localSet_6 post (nI r) (nI i) o y (nI n) (nI kk) (nI pp) up lost vis dpt hgt ons st op ky va sq de ba rb ph re rs li ll ce po go ord low edg pth pnd mem nds (m + 1) (qa_sF (qs_c st op ky r i o y) j) (nI j) := by
    intro m
    induction m with
    | zero =>
      intro j hj
      have e : j = n := by omega
      subst e
      exact br_t (Int32.le_refl _) h
    | succ m ih =>
      intro j hj
      have ih := ih (j + 1) (by omega)
      have T : qs_c st op ky r i o y j = true → wX_localSet_74 post (wX_localSet_6 post (nI r) (nI i) o y (nI n) (nI kk) (nI pp) up lost vis dpt hgt ons st op ky va sq de ba rb ph re rs li ll ce po go ord low edg pth pnd mem nds (m + 1)) (nI r) (nI i) o y (qa_sF (qs_c st op ky r i o y) j) (nI j) (nI n) (nI kk) (nI pp) up lost vis dpt hgt ons st op ky va sq de ba rb ph re rs li ll ce po go ord low edg pth pnd mem nds := by
        intro hc
        unfold wX_localSet_74
        refine nm_r (qa_sFt hc) (nm_r (nI_1 j) ?_)
        exact ih
      have F : qs_c st op ky r i o y j = false → wX_localSet_6 post (nI r) (nI i) o y (nI n) (nI kk) (nI pp) up lost vis dpt hgt ons st op ky va sq de ba rb ph re rs li ll ce po go ord low edg pth pnd mem nds (m + 1) (qa_sF (qs_c st op ky r i o y) j) (nI (j + 1)) := by
        intro hc
        rw [qa_sFf hc]
        exact ih
      refine br_f (nI_ge (by omega) (by omega)) ?_
      refine nm_r (e' := nI (r * 24 + j)) (qw_ix r j) ?_
      rw [nI_clamp (n := r * 24 + j) (by omega)]
      by_cases hji : j = i
      · exact br_t (by rw [hji]) (nm_r (nI_1 j) (F (decide_eq_false (fun z => z.1 hji))))
      · refine br_f (fun z => hji ((nI_eq (by omega) (by omega)).mp z)) ?_
        refine qw_in (r * 24 + j) rfl (by omega) (by omega) ?_
        by_cases hs : st (r * 24 + j) = 0
        · exact br_t hs (nm_r (nI_1 j) (F (decide_eq_false (fun z => z.2.1 hs))))
        · refine br_f hs (qw_in (r * 24 + j) rfl (by omega) (by omega) ?_)
          by_cases ho : op (r * 24 + j) = 0
          · exact br_t ho (T (decide_eq_true ⟨hji, hs, Or.inl ho⟩))
          · refine br_f ho (qw_in (r * 24 + j) rfl (by omega) (by omega) (qw_in (r * 24 + j) rfl (by omega) (by omega) ?_))
            refine qx_intf ho (fun hI => ?_) (fun hI => ?_)
            · exact br_f (by decide) (T (decide_eq_true ⟨hji, hs, Or.inr hI⟩))
            · exact br_t rfl (nm_r (nI_1 j) (F (decide_eq_false (fun z => z.2.2.elim ho hI))))
  exact ⟨n + 1, key n 0 (by omega)⟩
end
section
variable {n kk pp : Nat} {S lost : Int32} {dn st op ky va sq de ba rb ph re rs ce ly ll po go : Nat → Int32}
theorem qy_lset {post : Int32 → Prop} (hn : n ≤ 24) (hS : 3 * S = nI n) {r i : Nat} {o y : Int32} (hr : r < 3) (hi : i < 24) (hop : qi_Al (qi_Bd 3) op) (h : post (qa_sF (qs_c st op ky r i o y) n)) : wpY_localSet post (S, nI kk, nI pp, lost, dn, st, op, ky, va, sq, de, ba, rb, ph, re, rs, ce, ly, ll, po, go) (nI r) (nI i) o y := by
  have key : ∀ m j, j + m = n → wY_localSet_6 post (nI r) (nI i) o y S (nI kk) (nI pp) lost dn st op ky va sq de ba rb ph re rs ce ly ll po go (m + 1) (qa_sF (qs_c st op ky r i o y) j) (nI j) := by
    intro m
    induction m with
    | zero =>
      intro j hj
      have e : j = n := by omega
      subst e
      refine br_t ?_ h
      rw [hS]
      exact Int32.le_refl _
    | succ m ih =>
      intro j hj
      have ih := ih (j + 1) (by omega)
      have T : qs_c st op ky r i o y j = true → wY_localSet_122 post (wY_localSet_6 post (nI r) (nI i) o y S (nI kk) (nI pp) lost dn st op ky va sq de ba rb ph re rs ce ly ll po go (m + 1)) (nI r) (nI i) o y (qa_sF (qs_c st op ky r i o y) j) (nI j) S (nI kk) (nI pp) lost dn st op ky va sq de ba rb ph re rs ce ly ll po go := by
        intro hc
        unfold wY_localSet_122
        refine nm_r (qa_sFt hc) (nm_r (nI_1 j) ?_)
        exact ih
      have F : qs_c st op ky r i o y j = false → wY_localSet_6 post (nI r) (nI i) o y S (nI kk) (nI pp) lost dn st op ky va sq de ba rb ph re rs ce ly ll po go (m + 1) (qa_sF (qs_c st op ky r i o y) j) (nI (j + 1)) := by
        intro hc
        rw [qa_sFf hc]
        exact ih
      have K : ∀ z : Int32, (¬ op (r * 24 + j) = 0 → (¬ z = 0 ↔ (¬ o = 0 ∧ ky (r * 24 + j) = y ∧ (¬ op (r * 24 + j) = o ∨ op (r * 24 + j) = 2)))) →
          wY_localSet_89 post (wY_localSet_6 post (nI r) (nI i) o y S (nI kk) (nI pp) lost dn st op ky va sq de ba rb ph re rs ce ly ll po go (m + 1)) (nI r) (nI i) o y (qa_sF (qs_c st op ky r i o y) j) (nI j) (nI (r * 24 + j)) z S (nI kk) (nI pp) lost dn st op ky va sq de ba rb ph re rs ce ly ll po go := by
        intro z hz
        unfold wY_localSet_89
        rw [nI_clamp (n := r * 24 + j) (by omega)]
        by_cases hji : j = i
        · exact br_t (by rw [hji]) (nm_r (nI_1 j) (F (decide_eq_false (fun z => z.1 hji))))
        · refine br_f (fun z => hji ((nI_eq (by omega) (by omega)).mp z)) ?_
          refine qw_in (r * 24 + j) rfl (by omega) (by omega) ?_
          by_cases hs : st (r * 24 + j) = 0
          · exact br_t hs (nm_r (nI_1 j) (F (decide_eq_false (fun z => z.2.1 hs))))
          · refine br_f hs (qw_in (r * 24 + j) rfl (by omega) (by omega) ?_)
            by_cases ho : op (r * 24 + j) = 0
            · exact br_t ho (T (decide_eq_true ⟨hji, hs, Or.inl ho⟩))
            · refine br_f ho ?_
              by_cases hz0 : z = 0
              · exact br_t hz0 (nm_r (nI_1 j) (F (decide_eq_false (fun q => q.2.2.elim ho (fun q2 => (hz ho).mpr q2 hz0)))))
              · exact br_f hz0 (T (decide_eq_true ⟨hji, hs, Or.inr ((hz ho).mp hz0)⟩))
      have K0 : ¬ (¬ op (r * 24 + j) = 0 ∧ ¬ o = 0 ∧ ky (r * 24 + j) = y ∧ (¬ op (r * 24 + j) = o ∨ op (r * 24 + j) = 2)) →
          wY_localSet_88 post (wY_localSet_6 post (nI r) (nI i) o y S (nI kk) (nI pp) lost dn st op ky va sq de ba rb ph re rs ce ly ll po go (m + 1)) (nI r) (nI i) o y (qa_sF (qs_c st op ky r i o y) j) (nI j) (nI (r * 24 + j)) S (nI kk) (nI pp) lost dn st op ky va sq de ba rb ph re rs ce ly ll po go := by
        intro hI
        unfold wY_localSet_88
        exact K 0 (fun hop => ⟨fun q => absurd rfl q, fun q => absurd ⟨hop, q⟩ hI⟩)
      have K1 : (¬ o = 0 ∧ ky (r * 24 + j) = y ∧ (¬ op (r * 24 + j) = o ∨ op (r * 24 + j) = 2)) →
          wY_localSet_84 post (wY_localSet_6 post (nI r) (nI i) o y S (nI kk) (nI pp) lost dn st op ky va sq de ba rb ph re rs ce ly ll po go (m + 1)) (nI r) (nI i) o y (qa_sF (qs_c st op ky r i o y) j) (nI j) (nI (r * 24 + j)) S (nI kk) (nI pp) lost dn st op ky va sq de ba rb ph re rs ce ly ll po go := by
        intro hI
        unfold wY_localSet_84
        exact K 1 (fun _ => ⟨fun _ => hI, fun _ => by decide⟩)
      have hopj : op (r * 24 + j) = 0 ∨ op (r * 24 + j) = 1 ∨ op (r * 24 + j) = 2 ∨ op (r * 24 + j) = 3 := by
        obtain ⟨q, hq, e⟩ := hop (r * 24 + j) (by omega)
        rw [e]
        have h4 : q = 0 ∨ q = 1 ∨ q = 2 ∨ q = 3 := by omega
        rcases h4 with e | e | e | e
        · exact Or.inl (by rw [e]; rfl)
        · exact Or.inr (Or.inl (by rw [e]; rfl))
        · exact Or.inr (Or.inr (Or.inl (by rw [e]; rfl)))
        · exact Or.inr (Or.inr (Or.inr (by rw [e]; rfl)))
      refine br_f (by rw [hS]; exact nI_ge (by omega) (by omega)) ?_
      refine nm_r (e' := nI (r * 24 + j)) (qw_ix r j) ?_
      rw [nI_clamp (n := r * 24 + j) (by omega)]
      by_cases ho : o = 0
      · exact br_t ho (K0 (fun z => z.2.1 ho))
      · refine br_f ho (qw_in (r * 24 + j) rfl (by omega) (by omega) ?_)
        by_cases hoj : op (r * 24 + j) = 0
        · exact br_t hoj (K0 (fun z => z.1 hoj))
        · refine br_f hoj (qw_in (r * 24 + j) rfl (by omega) (by omega) ?_)
          by_cases hy : ky (r * 24 + j) = y
          · refine br_t hy ?_
            have L : ¬ (o = 1 ∧ op (r * 24 + j) = 1) → wY_localSet_68 post (wY_localSet_6 post (nI r) (nI i) o y S (nI kk) (nI pp) lost dn st op ky va sq de ba rb ph re rs ce ly ll po go (m + 1)) (nI r) (nI i) o y (qa_sF (qs_c st op ky r i o y) j) (nI j) (nI (r * 24 + j)) S (nI kk) (nI pp) lost dn st op ky va sq de ba rb ph re rs ce ly ll po go := by
              intro h11
              unfold wY_localSet_68
              rw [nI_clamp (n := r * 24 + j) (by omega)]
              by_cases h3 : o = 3
              · refine br_t h3 (qw_in (r * 24 + j) rfl (by omega) (by omega) ?_)
                by_cases hj3 : op (r * 24 + j) = 3
                · exact br_t hj3 (K0 (fun z => z.2.2.2.elim (fun q => q (hj3.trans h3.symm)) (fun q => by rw [hj3] at q; exact absurd q (by decide))))
                · exact br_f hj3 (K1 ⟨ho, hy, Or.inl (fun q => hj3 (q.trans h3))⟩)
              · refine br_f h3 (K1 ⟨ho, hy, ?_⟩)
                by_cases hoo : op (r * 24 + j) = o
                · rcases hopj with e | e | e | e
                  · exact absurd e hoj
                  · exact absurd ⟨hoo.symm.trans e, e⟩ h11
                  · exact Or.inr e
                  · exact absurd (hoo.symm.trans e) h3
                · exact Or.inl hoo
            by_cases h1 : o = 1
            · refine br_t h1 (qw_in (r * 24 + j) rfl (by omega) (by omega) ?_)
              by_cases hj1 : op (r * 24 + j) = 1
              · exact br_t hj1 (K0 (fun z => z.2.2.2.elim (fun q => q (hj1.trans h1.symm)) (fun q => by rw [hj1] at q; exact absurd q (by decide))))
              · exact br_f hj1 (L (fun z => hj1 z.2))
            · exact br_f h1 (L (fun z => h1 z.1))
          · exact br_f hy (K0 (fun z => hy z.2.2.1))
  exact ⟨n + 1, key n 0 (by omega)⟩
end
section
variable {n kk pp : Nat} {up lost vis dpt hgt ons : Int32} {st op ky va sq de ba rb ph re rs li ll ce po go ord low edg pth pnd mem nds : Nat → Int32} {S : Int32} {dn ly : Nat → Int32}
theorem qs_lseq8 {k : Nat} (hn : n ≤ 24) (hS : 3 * S = nI n) {r : Nat} {d : Int32} (hr : r < 3) (hq : qi_Al (qi_Bd k) sq) (hk : k < 2563) :
    ∀ m j, j + m = n → ∀ (g : Nat) (x3 x4 : Int32), g ≤ k → ((x3 = 0 ∧ g = 0) ∨ (x3 = 1 ∧ x4 = nI g)) → ∃ g', g' ≤ k ∧ (∀ post : Int32 → Prop, post (nI (g' + 1)) → wX_localSeq_8 post (nI r) d (nI n) (nI kk) (nI pp) up lost vis dpt hgt ons st op ky va sq de ba rb ph re rs li ll ce po go ord low edg pth pnd mem nds (m + 1) x3 x4 (nI j)) ∧
      (∀ post : Int32 → Prop, post (nI (g' + 1)) → wY_localSeq_5 post (nI r) d S (nI kk) (nI pp) lost dn st op ky va sq de ba rb ph re rs ce ly ll po go (m + 1) (nI g) (nI j)) := by
  intro m
  induction m with
  | zero =>
    intro j hj g x3 x4 hg hc
    have e : j = n := by omega
    subst e
    refine ⟨g, hg, fun post h => br_t (Int32.le_refl _) ?_, fun post h => br_t (by rw [hS]; exact Int32.le_refl _) (by rw [nI_1]; exact h)⟩
    rcases hc with ⟨e3, e4⟩ | ⟨e3, e4⟩
    · rw [e4] at h
      exact br_t e3 h
    · refine br_f (by rw [e3]; decide) ?_
      rw [e4, nI_1]; exact h
  | succ m ih =>
    intro j hj g x3 x4 hg hc
    have hxe : ¬ nI n ≤ nI j := nI_ge (by omega) (by omega)
    have hye : ¬ 3 * S ≤ nI j := by rw [hS]; exact hxe
    cases hb : bt d j
    · obtain ⟨g', h1, h2, h3⟩ := ih (j + 1) (by omega) g x3 x4 hg hc
      exact ⟨g', h1, fun post h => br_f hxe (qa_t0 (by omega) hb (nm_r (nI_1 j) (h2 post h))), fun post h => br_f hye (qa_s0 (by omega) hb (nm_r (nI_1 j) (h3 post h)))⟩
    · obtain ⟨s, hs, es⟩ := hq (r * 24 + j) (by omega)
      by_cases hsg : s ≤ g
      · have hle : nI s ≤ nI g := nI_le hsg (by omega)
        have hc' : ((1 : Int32) = 0 ∧ g = 0) ∨ ((1 : Int32) = 1 ∧ nI g = nI g) := Or.inr ⟨rfl, rfl⟩
        obtain ⟨g', h1, h2, h3⟩ := ih (j + 1) (by omega) g 1 (nI g) hg hc'
        refine ⟨g', h1, fun post h => br_f hxe (qa_t1 (by omega) hb ?_), fun post h => br_f hye (qa_s1 (by omega) hb ?_)⟩
        · rw [qw_ix, nI_clamp (n := r * 24 + j) (by omega)]
          refine qw_in (r * 24 + j) rfl (by omega) (by omega) (nm_r es ?_)
          rcases hc with ⟨e3, e4⟩ | ⟨e3, e4⟩
          · have e5 : s = g := by omega
            rw [e5]
            exact br_t e3 (nm_r (nI_1 j) (h2 post h))
          · refine br_f (by rw [e3]; decide) ?_
            rw [e4]
            exact br_t hle (nm_r (nI_1 j) (h2 post h))
        · rw [qw_ix, nI_clamp (n := r * 24 + j) (by omega), es]
          exact qw_in (r * 24 + j) rfl (by omega) (by omega) (br_t hle (nm_r (nI_1 j) (h3 post h)))
      · have hle : ¬ nI s ≤ nI g := nI_ge (by omega) (by omega)
        have hc' : ((1 : Int32) = 0 ∧ s = 0) ∨ ((1 : Int32) = 1 ∧ nI s = nI s) := Or.inr ⟨rfl, rfl⟩
        obtain ⟨g', h1, h2, h3⟩ := ih (j + 1) (by omega) s 1 (nI s) hs hc'
        refine ⟨g', h1, fun post h => br_f hxe (qa_t1 (by omega) hb ?_), fun post h => br_f hye (qa_s1 (by omega) hb ?_)⟩
        · rw [qw_ix, nI_clamp (n := r * 24 + j) (by omega)]
          refine qw_in (r * 24 + j) rfl (by omega) (by omega) (nm_r es ?_)
          rcases hc with ⟨e3, e4⟩ | ⟨e3, e4⟩
          · exact br_t e3 (nm_r (nI_1 j) (h2 post h))
          · refine br_f (by rw [e3]; decide) ?_
            rw [e4]
            exact br_f hle (nm_r (nI_1 j) (h2 post h))
        · rw [qw_ix, nI_clamp (n := r * 24 + j) (by omega), es]
          exact qw_in (r * 24 + j) rfl (by omega) (by omega) (br_f hle (qw_in (r * 24 + j) rfl (by omega) (by omega) (nm_e (nm_r (nI_1 j) (h3 post h)))))
theorem qs_lseq {k : Nat} (hn : n ≤ 24) (hS : 3 * S = nI n) {r : Nat} {d : Int32} (hr : r < 3) (hq : qi_Al (qi_Bd k) sq) (hk : k < 2563) :
    ∃ g', g' ≤ k ∧ (∀ post : Int32 → Prop, post (nI (g' + 1)) → wpX_localSeq post (nI n, nI kk, nI pp, up, lost, vis, dpt, hgt, ons, st, op, ky, va, sq, de, ba, rb, ph, re, rs, li, ll, ce, po, go, ord, low, edg, pth, pnd, mem, nds) (nI r) d) ∧ (∀ post : Int32 → Prop, post (nI (g' + 1)) → wpY_localSeq post (S, nI kk, nI pp, lost, dn, st, op, ky, va, sq, de, ba, rb, ph, re, rs, ce, ly, ll, po, go) (nI r) d) := by
  obtain ⟨g', h1, h2, h3⟩ := qs_lseq8 (n := n) (kk := kk) (pp := pp) (up := up) (lost := lost) (vis := vis) (dpt := dpt) (hgt := hgt) (ons := ons) (st := st) (op := op) (ky := ky) (va := va) (sq := sq) (de := de) (ba := ba) (rb := rb) (ph := ph) (re := re) (rs := rs) (li := li) (ll := ll) (ce := ce) (po := po) (go := go) (ord := ord) (low := low) (edg := edg) (pth := pth) (pnd := pnd) (mem := mem) (nds := nds) (S := S) (dn := dn) (ly := ly) (d := d) hn hS hr hq hk n 0 (by omega) 0 0 0 (Nat.zero_le _) (Or.inl ⟨rfl, rfl⟩)
  exact ⟨g', h1, fun post h => ⟨n + 1, h2 post h⟩, fun post h => ⟨n + 1, h3 post h⟩⟩
end
end
section
/-! steps of a round: OPEN, PROPOSE, DECIDE, one outcome for both sides -/
section
variable {n kk pp : Nat} {up lost vis dpt hgt ons : Int32} {st op ky va sq de ba rb ph re rs li ll ce po go ord low edg pth pnd mem nds : Nat → Int32}
theorem qx_setc {post : SX → Prop} {x : Nat} (hx : x < 72) {o y v : Int32} (h : post (nI n, nI kk, nI pp, up, lost, vis, dpt, hgt, ons, st, upd op x o, upd ky x y, upd va x v, sq, de, ba, rb, ph, re, rs, li, ll, ce, po, go, ord, low, edg, pth, pnd, mem, nds)) : wpX_setCommand post (nI n, nI kk, nI pp, up, lost, vis, dpt, hgt, ons, st, op, ky, va, sq, de, ba, rb, ph, re, rs, li, ll, ce, po, go, ord, low, edg, pth, pnd, mem, nds) (nI x) o y v := by
  unfold wpX_setCommand
  refine qw_sa x hx (by omega) ?_
  refine qw_sa x hx (by omega) ?_
  refine qw_sa x hx (by omega) ?_
  exact h
theorem qx_endr {post : SX → Prop} {x : Nat} (hx : x < 72) (h : post (nI n, nI kk, nI pp, up, lost, vis, dpt, hgt, ons, st, op, ky, va, sq, de, ba, rb, upd ph x 0, upd re x 0, rs, li, ll, ce, po, go, ord, low, edg, pth, pnd, mem, nds)) : wpX_endRound post (nI n, nI kk, nI pp, up, lost, vis, dpt, hgt, ons, st, op, ky, va, sq, de, ba, rb, ph, re, rs, li, ll, ce, po, go, ord, low, edg, pth, pnd, mem, nds) (nI x) := by
  unfold wpX_endRound
  refine qw_sa x hx (by omega) ?_
  refine qw_sa x hx (by omega) ?_
  exact h
end
section
variable {n kk pp : Nat} {S lost : Int32} {dn st op ky va sq de ba rb ph re rs ce ly ll po go : Nat → Int32}
theorem qy_write {post : SY → Prop} {x : Nat} (hx : x < 72) {o y v q d s : Int32} (h : post (S, nI kk, nI pp, lost, dn, upd st x s, upd op x o, upd ky x y, upd va x v, upd sq x q, upd de x d, ba, rb, ph, re, rs, ce, ly, ll, po, go)) : wpY_write post (S, nI kk, nI pp, lost, dn, st, op, ky, va, sq, de, ba, rb, ph, re, rs, ce, ly, ll, po, go) (nI x) o y v q d s := by
  unfold wpY_write
  refine qw_sa x hx (by omega) ?_
  refine qw_sa x hx (by omega) ?_
  refine qw_sa x hx (by omega) ?_
  refine qw_sa x hx (by omega) ?_
  refine qw_sa x hx (by omega) ?_
  refine qw_sa x hx (by omega) ?_
  exact h
theorem qy_round {post : SY → Prop} {x : Nat} (hx : x < 72) {p : Int32} (h : post (S, nI kk, nI pp, lost, dn, st, op, ky, va, sq, de, ba, rb, upd ph x p, upd re x 0, rs, ce, ly, ll, po, go)) : wpY_round post (S, nI kk, nI pp, lost, dn, st, op, ky, va, sq, de, ba, rb, ph, re, rs, ce, ly, ll, po, go) (nI x) p := by
  unfold wpY_round
  refine qw_sa x hx (by omega) ?_
  refine qw_sa x hx (by omega) ?_
  exact h
end
section
variable {n kk pp : Nat} {up lost vis dpt hgt ons : Int32} {st op ky va sq de ba rb ph re rs li ll ce po go ord low edg pth pnd mem nds : Nat → Int32} {S : Int32} {dn ly : Nat → Int32}
theorem qs_open {k : Nat} (hk : k + 5 ≤ 2563) (hp : pp ≤ 64) (hn : n ≤ 24) (hS : 3 * S = nI n) {r i : Nat} (hr : r < 3) (hi : i < n) {o y v : Int32} (hop : qi_Al (qi_Bd 3) op) (hq : qi_Al (qi_Bd k) sq)
    (hP : qi_P (k + 5) n po) (hb : qi_Bd (k + 5) (ba (r * 24 + i))) (ho : qi_Bd 3 o) (hy : qi_Bd 7 y) :
    ∃ q d po' lost', qi_Bd (k + 5) q ∧ qi_Bs n d ∧ qi_P (k + 5) n po' ∧
      (∀ post : SX → Prop, post (nI n, nI kk, nI pp, up, lost', vis, dpt, hgt, ons, upd st (r * 24 + i) 1, upd op (r * 24 + i) o, upd ky (r * 24 + i) y, upd va (r * 24 + i) v, upd sq (r * 24 + i) q, upd de (r * 24 + i) d, ba, upd rb (r * 24 + i) (ba (r * 24 + i)), upd ph (r * 24 + i) 2, upd re (r * 24 + i) 0, rs, li, ll, ce, po', go, ord, low, edg, pth, pnd, mem, nds) → wpX_openRound post (nI n, nI kk, nI pp, up, lost, vis, dpt, hgt, ons, st, op, ky, va, sq, de, ba, rb, ph, re, rs, li, ll, ce, po, go, ord, low, edg, pth, pnd, mem, nds) (nI r) (nI i) o y v) ∧
      (∀ post : Int32 → SY → Prop, post 7 (S, nI kk, nI pp, lost', dn, upd st (r * 24 + i) 1, upd op (r * 24 + i) o, upd ky (r * 24 + i) y, upd va (r * 24 + i) v, upd sq (r * 24 + i) q, upd de (r * 24 + i) d, ba, upd rb (r * 24 + i) (ba (r * 24 + i)), upd ph (r * 24 + i) 2, upd re (r * 24 + i) 0, rs, ce, ly, ll, po', go) → wpY_open post (S, nI kk, nI pp, lost, dn, st, op, ky, va, sq, de, ba, rb, ph, re, rs, ce, ly, ll, po, go) (nI r) (nI i) o y v) := by
  obtain ⟨g, hg, xs, ys⟩ := qs_lseq (n := n) (kk := kk) (pp := pp) (up := up) (lost := lost) (vis := vis) (dpt := dpt) (hgt := hgt) (ons := ons) (st := st) (op := op) (ky := ky) (va := va) (sq := sq) (de := de) (ba := ba) (rb := rb) (ph := ph) (re := re) (rs := rs) (li := li) (ll := ll) (ce := ce) (po := po) (go := go) (ord := ord) (low := low) (edg := edg) (pth := pth) (pnd := pnd) (mem := mem) (nds := nds) (S := S) (dn := dn) (ly := ly) (d := qa_sF (qs_c st op ky r i o y) n) hn hS hr hq (by omega)
  have hd : qi_Bs n (qa_sF (qs_c st op ky r i o y) n) := qi_Bs_sF (by omega) _
  have hx : r * 24 + i < 72 := by omega
  obtain ⟨po', lost', p1, xo, yo⟩ := qs_others (k := k + 5) (n := n) (kk := kk) (pp := pp) (up := up) (lost := lost) (vis := vis) (dpt := dpt) (hgt := hgt) (ons := ons) (st := upd st (r * 24 + i) 1) (op := upd op (r * 24 + i) o) (ky := upd ky (r * 24 + i) y) (va := upd va (r * 24 + i) v) (sq := upd sq (r * 24 + i) (nI (g + 1))) (de := upd de (r * 24 + i) (qa_sF (qs_c st op ky r i o y) n)) (ba := ba) (rb := upd rb (r * 24 + i) (ba (r * 24 + i))) (ph := upd ph (r * 24 + i) 2) (re := upd re (r * 24 + i) 0) (rs := rs) (li := li) (ll := ll) (ce := ce) (po := po) (go := go) (ord := ord) (low := low) (edg := edg) (pth := pth) (pnd := pnd) (mem := mem) (nds := nds) (S := S) (dn := dn) (ly := ly) hp hn (kd := 1) (Or.inl rfl) hr hi hP hb
    (by rw [pk_us]; exact ho) (by rw [pk_us]; exact hy) (by rw [pk_us]; exact ⟨g + 1, by omega, rfl⟩) (by rw [pk_us]; exact hd)
  refine ⟨nI (g + 1), qa_sF (qs_c st op ky r i o y) n, po', lost', ⟨g + 1, by omega, rfl⟩, hd, p1, fun post h => ?_, fun post h => ?_⟩
  · unfold wpX_openRound
    refine nm_r (e' := nI (r * 24 + i)) (qw_ix r i) ?_
    refine qx_lset hn hr (by omega) ?_
    refine xs _ ?_
    refine qx_setc hx ?_
    refine qw_sa (r * 24 + i) hx (by omega) ?_
    refine qw_sa (r * 24 + i) hx (by omega) ?_
    refine qw_sa (r * 24 + i) hx (by omega) ?_
    rw [nI_clamp (n := r * 24 + i) (by omega)]
    refine qw_in (r * 24 + i) rfl hx (by omega) ?_
    refine ⟨vp_in_nI hx (by omega), nm_e ?_⟩
    refine ⟨vp_in_nI hx (by omega), nm_e ?_⟩
    refine ⟨vp_in_nI hx (by omega), nm_e ?_⟩
    refine ⟨vp_in_nI hx (by omega), ?_⟩
    exact xo _ h
  · unfold wpY_open
    refine nm_r (e' := nI (r * 24 + i)) (qw_ix r i) ?_
    refine qy_lset hn hS hr (by omega) hop ?_
    refine ys _ ?_
    refine qy_write hx ?_
    refine qw_in (r * 24 + i) rfl hx (by omega) ?_
    rw [nI_clamp (n := r * 24 + i) (by omega)]
    refine ⟨vp_in_nI hx (by omega), nm_e ?_⟩
    refine qy_round hx ?_
    refine qw_in (r * 24 + i) rfl hx (by omega) ?_
    exact yo _ h
theorem qs_prop {k : Nat} (hp : pp ≤ 64) (hn : n ≤ 24) {r i : Nat} (hr : r < 3) (hi : i < n) {o y v q d : Int32}
    (hP : qi_P k n po) (hb : qi_Bd k (ba (r * 24 + i))) (ho : qi_Bd 3 o) (hy : qi_Bd 7 y) (hq : qi_Bd k q) (hd : qi_Bs n d) :
    ∃ po' lost', qi_P k n po' ∧
      (∀ post : SX → Prop, post (nI n, nI kk, nI pp, up, lost', vis, dpt, hgt, ons, upd st (r * 24 + i) 2, upd op (r * 24 + i) o, upd ky (r * 24 + i) y, upd va (r * 24 + i) v, upd sq (r * 24 + i) q, upd de (r * 24 + i) d, ba, upd rb (r * 24 + i) (ba (r * 24 + i)), upd ph (r * 24 + i) 3, upd re (r * 24 + i) 0, rs, li, ll, ce, po', go, ord, low, edg, pth, pnd, mem, nds) → wpX_propose post (nI n, nI kk, nI pp, up, lost, vis, dpt, hgt, ons, st, op, ky, va, sq, de, ba, rb, ph, re, rs, li, ll, ce, po, go, ord, low, edg, pth, pnd, mem, nds) (nI r) (nI i) o y v q d) ∧
      (∀ post : Int32 → SY → Prop, post 6 (S, nI kk, nI pp, lost', dn, upd st (r * 24 + i) 2, upd op (r * 24 + i) o, upd ky (r * 24 + i) y, upd va (r * 24 + i) v, upd sq (r * 24 + i) q, upd de (r * 24 + i) d, ba, upd rb (r * 24 + i) (ba (r * 24 + i)), upd ph (r * 24 + i) 3, upd re (r * 24 + i) 0, rs, ce, ly, ll, po', go) → wpY_propose post (S, nI kk, nI pp, lost, dn, st, op, ky, va, sq, de, ba, rb, ph, re, rs, ce, ly, ll, po, go) (nI r) (nI i) o y v q d) := by
  have hx : r * 24 + i < 72 := by omega
  obtain ⟨po', lost', p1, xo, yo⟩ := qs_others (k := k) (n := n) (kk := kk) (pp := pp) (up := up) (lost := lost) (vis := vis) (dpt := dpt) (hgt := hgt) (ons := ons) (st := upd st (r * 24 + i) 2) (op := upd op (r * 24 + i) o) (ky := upd ky (r * 24 + i) y) (va := upd va (r * 24 + i) v) (sq := upd sq (r * 24 + i) q) (de := upd de (r * 24 + i) d) (ba := ba) (rb := upd rb (r * 24 + i) (ba (r * 24 + i))) (ph := upd ph (r * 24 + i) 3) (re := upd re (r * 24 + i) 0) (rs := rs) (li := li) (ll := ll) (ce := ce) (po := po) (go := go) (ord := ord) (low := low) (edg := edg) (pth := pth) (pnd := pnd) (mem := mem) (nds := nds) (S := S) (dn := dn) (ly := ly) hp hn (kd := 3) (Or.inr (Or.inl rfl)) hr hi hP hb
    (by rw [pk_us]; exact ho) (by rw [pk_us]; exact hy) (by rw [pk_us]; exact hq) (by rw [pk_us]; exact hd)
  refine ⟨po', lost', p1, fun post h => ?_, fun post h => ?_⟩
  · unfold wpX_propose
    refine nm_r (e' := nI (r * 24 + i)) (qw_ix r i) ?_
    refine qx_setc hx ?_
    refine qw_sa (r * 24 + i) hx (by omega) ?_
    refine qw_sa (r * 24 + i) hx (by omega) ?_
    refine qw_sa (r * 24 + i) hx (by omega) ?_
    rw [nI_clamp (n := r * 24 + i) (by omega)]
    refine qw_in (r * 24 + i) rfl hx (by omega) ?_
    refine ⟨vp_in_nI hx (by omega), nm_e ?_⟩
    refine ⟨vp_in_nI hx (by omega), nm_e ?_⟩
    refine ⟨vp_in_nI hx (by omega), nm_e ?_⟩
    refine ⟨vp_in_nI hx (by omega), ?_⟩
    exact xo _ h
  · unfold wpY_propose
    refine nm_r (e' := nI (r * 24 + i)) (qw_ix r i) ?_
    refine qy_write hx ?_
    refine qw_in (r * 24 + i) rfl hx (by omega) ?_
    rw [nI_clamp (n := r * 24 + i) (by omega)]
    refine ⟨vp_in_nI hx (by omega), nm_e ?_⟩
    refine qy_round hx ?_
    refine qw_in (r * 24 + i) rfl hx (by omega) ?_
    exact yo _ h
theorem qs_dec {k : Nat} (hp : pp ≤ 64) (hn : n ≤ 24) {r i : Nat} (hr : r < 3) (hi : i < n)
    (hP : qi_P k n po) (ho : qi_Bd 3 (op (r * 24 + i))) (hy : qi_Bd 7 (ky (r * 24 + i))) (hq : qi_Bd k (sq (r * 24 + i))) (hd : qi_Bs n (de (r * 24 + i))) :
    ∃ po' lost', qi_P k n po' ∧
      (∀ post : SX → Prop, post (nI n, nI kk, nI pp, up, lost', vis, dpt, hgt, ons, upd st (r * 24 + i) 3, op, ky, va, sq, de, ba, rb, upd ph (r * 24 + i) 0, upd re (r * 24 + i) 0, rs, li, ll, ce, po', go, ord, low, edg, pth, pnd, mem, nds) → wpX_decide post (nI n, nI kk, nI pp, up, lost, vis, dpt, hgt, ons, st, op, ky, va, sq, de, ba, rb, ph, re, rs, li, ll, ce, po, go, ord, low, edg, pth, pnd, mem, nds) (nI r) (nI i)) ∧
      (∀ post : SY → Prop, post (S, nI kk, nI pp, lost', dn, upd st (r * 24 + i) 3, op, ky, va, sq, de, ba, rb, upd ph (r * 24 + i) 0, upd re (r * 24 + i) 0, rs, ce, ly, ll, po', go) → wpY_decide post (S, nI kk, nI pp, lost, dn, st, op, ky, va, sq, de, ba, rb, ph, re, rs, ce, ly, ll, po, go) (nI r) (nI i)) := by
  have hx : r * 24 + i < 72 := by omega
  obtain ⟨po', lost', p1, xo, yo⟩ := qs_others (k := k) (n := n) (kk := kk) (pp := pp) (up := up) (lost := lost) (vis := vis) (dpt := dpt) (hgt := hgt) (ons := ons) (st := upd st (r * 24 + i) 3) (op := op) (ky := ky) (va := va) (sq := sq) (de := de) (ba := ba) (rb := rb) (ph := upd ph (r * 24 + i) 0) (re := upd re (r * 24 + i) 0) (rs := rs) (li := li) (ll := ll) (ce := ce) (po := po) (go := go) (ord := ord) (low := low) (edg := edg) (pth := pth) (pnd := pnd) (mem := mem) (nds := nds) (S := S) (dn := dn) (ly := ly) hp hn (kd := 5) (b := 0) (Or.inr (Or.inr rfl)) hr hi hP (qi_Bd_0 _) ho hy hq hd
  refine ⟨po', lost', p1, fun post h => ?_, fun post h => ?_⟩
  · unfold wpX_decide
    refine nm_r (e' := nI (r * 24 + i)) (qw_ix r i) ?_
    refine qw_sa (r * 24 + i) hx (by omega) ?_
    refine qx_endr hx ?_
    exact xo _ h
  · unfold wpY_decide
    refine qw_st (r * 24 + i) (qw_ix r i) hx (by omega) ?_
    rw [qw_ix]
    refine qy_round hx ?_
    exact yo _ h
end
end
section
/-! the relation -/
def i_Rel (k : Nat) (u : SX) (v : SY) : Prop := ∃ (n kk pp : Nat) (S up lost vis dpt hgt ons : Int32) (st op ky va sq de ba rb ph re rs li ll ce po go ord low edg pth pnd mem nds dn ly : Nat → Int32), qi_I k n kk pp S up dn st op ky sq de ba ph re rs li ly ll po go ∧ u = (nI n, nI kk, nI pp, up, lost, vis, dpt, hgt, ons, st, op, ky, va, sq, de, ba, rb, ph, re, rs, li, ll, ce, po, go, ord, low, edg, pth, pnd, mem, nds) ∧ v = (S, nI kk, nI pp, lost, dn, st, op, ky, va, sq, de, ba, rb, ph, re, rs, ce, ly, ll, po, go)
section
variable {n kk pp : Nat} {up lost vis dpt hgt ons : Int32} {st op ky va sq de ba rb ph re rs li ll ce po go ord low edg pth pnd mem nds : Nat → Int32} {S : Int32} {dn ly : Nat → Int32}
theorem qz_in {k : Nat} (h : qi_I k n kk pp S up dn st op ky sq de ba ph re rs li ly ll po go) : i_Rel k (nI n, nI kk, nI pp, up, lost, vis, dpt, hgt, ons, st, op, ky, va, sq, de, ba, rb, ph, re, rs, li, ll, ce, po, go, ord, low, edg, pth, pnd, mem, nds) (S, nI kk, nI pp, lost, dn, st, op, ky, va, sq, de, ba, rb, ph, re, rs, ce, ly, ll, po, go) := ⟨n, kk, pp, S, up, lost, vis, dpt, hgt, ons, st, op, ky, va, sq, de, ba, rb, ph, re, rs, li, ll, ce, po, go, ord, low, edg, pth, pnd, mem, nds, dn, ly, h, rfl, rfl⟩
end
theorem qz_el {k : Nat} {u : SX} {v : SY} {P : SX → SY → Prop} (h : ∀ (n kk pp : Nat) (S up lost vis dpt hgt ons : Int32) (st op ky va sq de ba rb ph re rs li ll ce po go ord low edg pth pnd mem nds dn ly : Nat → Int32), qi_I k n kk pp S up dn st op ky sq de ba ph re rs li ly ll po go → P (nI n, nI kk, nI pp, up, lost, vis, dpt, hgt, ons, st, op, ky, va, sq, de, ba, rb, ph, re, rs, li, ll, ce, po, go, ord, low, edg, pth, pnd, mem, nds) (S, nI kk, nI pp, lost, dn, st, op, ky, va, sq, de, ba, rb, ph, re, rs, ce, ly, ll, po, go)) (I : i_Rel k u v) : P u v :=
  Exists.elim I (fun n I => Exists.elim I (fun kk I => Exists.elim I (fun pp I => Exists.elim I (fun S I => Exists.elim I (fun up I => Exists.elim I (fun lost I => Exists.elim I (fun vis I => Exists.elim I (fun dpt I => Exists.elim I (fun hgt I => Exists.elim I (fun ons I => Exists.elim I (fun st I => Exists.elim I (fun op I => Exists.elim I (fun ky I => Exists.elim I (fun va I => Exists.elim I (fun sq I => Exists.elim I (fun de I => Exists.elim I (fun ba I => Exists.elim I (fun rb I => Exists.elim I (fun ph I => Exists.elim I (fun re I => Exists.elim I (fun rs I => Exists.elim I (fun li I => Exists.elim I (fun ll I => Exists.elim I (fun ce I => Exists.elim I (fun po I => Exists.elim I (fun go I => Exists.elim I (fun ord I => Exists.elim I (fun low I => Exists.elim I (fun edg I => Exists.elim I (fun pth I => Exists.elim I (fun pnd I => Exists.elim I (fun mem I => Exists.elim I (fun nds I => Exists.elim I (fun dn I => Exists.elim I (fun ly I => by
    rw [I.2.1, I.2.2]
    exact h n kk pp S up lost vis dpt hgt ons st op ky va sq de ba rb ph re rs li ll ce po go ord low edg pth pnd mem nds dn ly I.1)))))))))))))))))))))))))))))))))))
theorem i_up {k : Nat} {u : SX} {v : SY} (h : i_Rel k u v) : i_Rel (k + 5) u v := qz_el (P := fun u v => i_Rel (k + 5) u v) (fun n kk pp S up lost vis dpt hgt ons st op ky va sq de ba rb ph re rs li ll ce po go ord low edg pth pnd mem nds dn ly H => qz_in (qi_I_m (by omega) H)) h
/-! the checks on both sides -/
def qs_bad (n : Nat) (v w : Int32) : Prop := v < 0 ∨ 2 < v ∨ w < 0 ∨ nI n ≤ w
theorem qs_rep (v : Int32) : (v < 0 ∨ 2 < v) ∨ ∃ r, r < 3 ∧ v = nI r := by
  rcases pk_ix v (n := 3) (by decide) with h | h | h
  · exact Or.inl (Or.inl h)
  · exact Or.inl (Or.inr (Int32.lt_of_lt_of_le (by decide) h))
  · exact Or.inr h
theorem qs_rng (n : Nat) (hn : n ≤ 24) (v w : Int32) : qs_bad n v w ∨ ∃ r i, r < 3 ∧ i < n ∧ v = nI r ∧ w = nI i := by
  rcases qs_rep v with h | ⟨r, hr, e⟩
  · exact Or.inl (h.elim Or.inl (fun z => Or.inr (Or.inl z)))
  · rcases pk_ix w (n := n) (by omega) with h | h | ⟨i, hi, e2⟩
    · exact Or.inl (Or.inr (Or.inr (Or.inl h)))
    · exact Or.inl (Or.inr (Or.inr (Or.inr h)))
    · exact Or.inr ⟨r, i, hr, hi, e, e2⟩
theorem qs_r0 {r : Nat} (hr : r < 3) : ¬ nI r < 0 := nI_pos (by omega)
theorem qs_r2 {r : Nat} (hr : r < 3) : ¬ (2 : Int32) < nI r := nI_nlt (b := r) (a := 2) (by omega) (by decide)
section
variable {n kk pp : Nat} {up lost vis dpt hgt ons : Int32} {st op ky va sq de ba rb ph re rs li ll ce po go ord low edg pth pnd mem nds : Nat → Int32}
theorem qx_rep0 {post : Int32 → Prop} {v : Int32} (hv : v < 0 ∨ 2 < v) (h : post 0) : wpX_isReplica post (nI n, nI kk, nI pp, up, lost, vis, dpt, hgt, ons, st, op, ky, va, sq, de, ba, rb, ph, re, rs, li, ll, ce, po, go, ord, low, edg, pth, pnd, mem, nds) v := by
  unfold wpX_isReplica
  by_cases h0 : v < 0
  · exact br_t h0 h
  · exact br_f h0 (br_t (hv.resolve_left h0) h)
theorem qx_rep1 {post : Int32 → Prop} {r : Nat} (hr : r < 3) (h : post 1) : wpX_isReplica post (nI n, nI kk, nI pp, up, lost, vis, dpt, hgt, ons, st, op, ky, va, sq, de, ba, rb, ph, re, rs, li, ll, ce, po, go, ord, low, edg, pth, pnd, mem, nds) (nI r) := by
  unfold wpX_isReplica
  exact br_f (qs_r0 hr) (br_f (qs_r2 hr) h)
theorem qx_rng0 {post : Int32 → Prop} {v w : Int32} (hv : qs_bad n v w) (h : post 0) : wpX_inRange post (nI n, nI kk, nI pp, up, lost, vis, dpt, hgt, ons, st, op, ky, va, sq, de, ba, rb, ph, re, rs, li, ll, ce, po, go, ord, low, edg, pth, pnd, mem, nds) v w := by
  unfold wpX_inRange
  unfold qs_bad at hv
  by_cases h0 : v < 0
  · exact br_t h0 h
  · by_cases h1 : 2 < v
    · exact br_f h0 (br_t h1 h)
    · by_cases h2 : w < 0
      · exact br_f h0 (br_f h1 (br_t h2 h))
      · exact br_f h0 (br_f h1 (br_f h2 (br_t (((hv.resolve_left h0).resolve_left h1).resolve_left h2) h)))
theorem qx_rng1 {post : Int32 → Prop} {r i : Nat} (hr : r < 3) (hi : i < n) (hn : n ≤ 24) (h : post 1) : wpX_inRange post (nI n, nI kk, nI pp, up, lost, vis, dpt, hgt, ons, st, op, ky, va, sq, de, ba, rb, ph, re, rs, li, ll, ce, po, go, ord, low, edg, pth, pnd, mem, nds) (nI r) (nI i) := by
  unfold wpX_inRange
  exact br_f (qs_r0 hr) (br_f (qs_r2 hr) (br_f (nI_pos (by omega)) (br_f (nI_ge hi (by omega)) h)))
theorem qx_al1 {post : Int32 → Prop} {r : Nat} (hr : r < 3) (hu : bt up r = true) (h : post 1) : wpX_alive post (nI n, nI kk, nI pp, up, lost, vis, dpt, hgt, ons, st, op, ky, va, sq, de, ba, rb, ph, re, rs, li, ll, ce, po, go, ord, low, edg, pth, pnd, mem, nds) (nI r) := by
  unfold wpX_alive
  exact qa_t1 (by omega) hu h
theorem qx_al0 {post : Int32 → Prop} {r : Nat} (hr : r < 3) (hu : bt up r = false) (h : post 0) : wpX_alive post (nI n, nI kk, nI pp, up, lost, vis, dpt, hgt, ons, st, op, ky, va, sq, de, ba, rb, ph, re, rs, li, ll, ce, po, go, ord, low, edg, pth, pnd, mem, nds) (nI r) := by
  unfold wpX_alive
  exact qa_t0 (by omega) hu h
end
section
variable {n kk pp : Nat} {S lost : Int32} {dn st op ky va sq de ba rb ph re rs ce ly ll po go : Nat → Int32}
theorem qy_nor1 {post : Int32 → Prop} {v : Int32} (hv : v < 0 ∨ 2 < v) (h : post 1) : wpY_noReplica post (S, nI kk, nI pp, lost, dn, st, op, ky, va, sq, de, ba, rb, ph, re, rs, ce, ly, ll, po, go) v := by
  unfold wpY_noReplica
  by_cases h0 : v < 0
  · exact br_t h0 h
  · exact br_f h0 (br_f (Int32.not_le.mpr (hv.resolve_left h0)) h)
theorem qy_nor0 {post : Int32 → Prop} {r : Nat} (hr : r < 3) (h : post 0) : wpY_noReplica post (S, nI kk, nI pp, lost, dn, st, op, ky, va, sq, de, ba, rb, ph, re, rs, ce, ly, ll, po, go) (nI r) := by
  unfold wpY_noReplica
  exact br_f (qs_r0 hr) (br_t (Int32.not_lt.mp (qs_r2 hr)) h)
theorem qy_bad1 {post : Int32 → Prop} (hS : 3 * S = nI n) {v w : Int32} (hv : qs_bad n v w) (h : post 1) : wpY_bad post (S, nI kk, nI pp, lost, dn, st, op, ky, va, sq, de, ba, rb, ph, re, rs, ce, ly, ll, po, go) v w := by
  unfold wpY_bad
  unfold qs_bad at hv
  dsimp only
  rw [hS]
  by_cases h0 : v < 0
  · exact br_t h0 h
  · by_cases h1 : 2 < v
    · exact br_f h0 (br_t h1 h)
    · by_cases h2 : w < 0
      · exact br_f h0 (br_f h1 (br_t h2 h))
      · exact br_f h0 (br_f h1 (br_f h2 (br_f (Int32.not_lt.mpr (((hv.resolve_left h0).resolve_left h1).resolve_left h2)) h)))
theorem qy_bad0 {post : Int32 → Prop} (hS : 3 * S = nI n) {r i : Nat} (hr : r < 3) (hi : i < n) (hn : n ≤ 24) (h : post 0) : wpY_bad post (S, nI kk, nI pp, lost, dn, st, op, ky, va, sq, de, ba, rb, ph, re, rs, ce, ly, ll, po, go) (nI r) (nI i) := by
  unfold wpY_bad
  dsimp only
  rw [hS]
  exact br_f (qs_r0 hr) (br_f (qs_r2 hr) (br_f (nI_pos (by omega)) (br_t (nI_lt hi (by omega)) h)))
end
end
section
/-! the invariant behind writes -/
section
variable {k n kk pp x : Nat} {S up : Int32} {dn st op ky sq de ba ph re rs li ly ll po go : Nat → Int32}
theorem qi_I_po {po' : Nat → Int32} (h : qi_I k n kk pp S up dn st op ky sq de ba ph re rs li ly ll po go) (hP : qi_P k n po') : qi_I k n kk pp S up dn st op ky sq de ba ph re rs li ly ll po' go := by
  obtain ⟨h1, h2, h3, h4, h5, h6, h7, h8, h9, h10, h11, h12, h13⟩ := h
  exact ⟨h1, h2, h3, h4, h5, h6, h7, h8, h9, h10, h11, hP, h13⟩
theorem qi_I_go {go' : Nat → Int32} (h : qi_I k n kk pp S up dn st op ky sq de ba ph re rs li ly ll po go) (hG : qi_G k n go') : qi_I k n kk pp S up dn st op ky sq de ba ph re rs li ly ll po go' := by
  obtain ⟨h1, h2, h3, h4, h5, h6, h7, h8, h9, h10, h11, h12, h13⟩ := h
  exact ⟨h1, h2, h3, h4, h5, h6, h7, h8, h9, h10, h11, h12, hG⟩
theorem qi_I_ba {b : Int32} (h : qi_I k n kk pp S up dn st op ky sq de ba ph re rs li ly ll po go) (hb : qi_Bd k b) : qi_I k n kk pp S up dn st op ky sq de (upd ba x b) ph re rs li ly ll po go := by
  obtain ⟨h1, h2, h3, h4, h5, h6, h7, h8, h9, h10, h11, h12, h13⟩ := h
  exact ⟨h1, h2, h3, h4, h5, h6, qi_Al_u h7 hb, h8, h9, h10, h11, h12, h13⟩
theorem qi_I_re {v : Int32} (h : qi_I k n kk pp S up dn st op ky sq de ba ph re rs li ly ll po go) (hv : qi_Bs 3 v) : qi_I k n kk pp S up dn st op ky sq de ba ph (upd re x v) rs li ly ll po go := by
  obtain ⟨h1, h2, h3, h4, h5, h6, h7, h8, h9, h10, h11, h12, h13⟩ := h
  exact ⟨h1, h2, h3, h4, h5, h6, h7, qi_Al_u h8 hv, h9, h10, h11, h12, h13⟩
/-- phase alone: a round begins or ends -/
theorem qi_I_ph {p : Int32} (h : qi_I k n kk pp S up dn st op ky sq de ba ph re rs li ly ll po go) (hp : ¬ p = 0 → st x < 3) : qi_I k n kk pp S up dn st op ky sq de ba (upd ph x p) (upd re x 0) rs li ly ll po go := by
  obtain ⟨h1, h2, h3, h4, h5, h6, h7, h8, h9, h10, h11, h12, h13⟩ := h
  exact ⟨h1, h2, h3, h4, h5, h6, h7, qi_Al_u h8 (qi_Bs_0 3), qi_PH_p h9 hp, h10, h11, h12, h13⟩
/-- status and phase -/
theorem qi_I_sp {s p : Int32} (h : qi_I k n kk pp S up dn st op ky sq de ba ph re rs li ly ll po go) (hx : x < 72) (h4 : ¬ st x = 4) (hs4 : ¬ s = 4) (hp : ¬ p = 0 → s < 3) :
    qi_I k n kk pp S up dn (upd st x s) op ky sq de ba (upd ph x p) (upd re x 0) rs li ly ll po go := by
  obtain ⟨h1, h2, h3, h5', h5, h6, h7, h8, h9, h10, h11, h12, h13⟩ := h
  exact ⟨h1, h2, h3, h5', h5, h6, h7, qi_Al_u h8 (qi_Bs_0 3), qi_PH_u h9 hp, qi_RS_s h10 h4 hx, qi_LI_s h11 h4 hs4, h12, h13⟩
/-- a whole record, status and phase -/
theorem qi_I_w {s p o y q d : Int32} (h : qi_I k n kk pp S up dn st op ky sq de ba ph re rs li ly ll po go) (hx : x < 72) (h4 : ¬ st x = 4) (hs4 : ¬ s = 4) (hp : ¬ p = 0 → s < 3)
    (ho : qi_Bd 3 o) (hy : qi_Bd 7 y) (hq : qi_Bd k q) (hd : qi_Bs n d) :
    qi_I k n kk pp S up dn (upd st x s) (upd op x o) (upd ky x y) (upd sq x q) (upd de x d) ba (upd ph x p) (upd re x 0) rs li ly ll po go := by
  obtain ⟨h1, h2, h3, h5', h5, h6, h7, h8, h9, h10, h11, h12, h13⟩ := qi_I_sp h hx h4 hs4 hp
  exact ⟨h1, h2, qi_Al_u h3 ho, qi_Al_u h5' hy, qi_Al_u h5 hq, qi_Al_u h6 hd, h7, h8, h9, h10, h11, h12, h13⟩
end
/-! copying and clearing a slot -/
def qd_g (po : Nat → Int32) (s : Nat) (go : Nat → Int32) : Nat → Nat → Int32
  | 0 => go
  | m + 1 => upd (qd_g po s go m) m (po (s * 12 + m))
def qd_z (po : Nat → Int32) (s : Nat) : Nat → Nat → Int32
  | 0 => po
  | m + 1 => upd (qd_z po s m) (s * 12 + m) 0
def qd_d (po : Nat → Int32) (s f : Nat) : Nat → Nat → Int32
  | 0 => po
  | m + 1 => upd (qd_d po s f m) (f * 12 + m) (qd_d po s f m (s * 12 + m))
theorem qd_zr {po : Nat → Int32} {s : Nat} : ∀ m j, m ≤ j → qd_z po s m (s * 12 + j) = po (s * 12 + j) := by
  intro m
  induction m with
  | zero => intro j _; rfl
  | succ m ih =>
    intro j hj
    show upd (qd_z po s m) (s * 12 + m) 0 (s * 12 + j) = _
    rw [pk_un (by omega), ih j (by omega)]
theorem qd_gG {k n : Nat} {po go : Nat → Int32} {s : Nat} (hP : qi_P k n po) (hG : qi_G k n go) : ∀ m, m ≤ 12 → qi_G k n (qd_g po s go m) := by
  intro m
  induction m with
  | zero => intro _; exact hG
  | succ m ih => intro hm; exact qi_G_u (ih (by omega)) (hP s m (by omega))
theorem qd_zP {k n : Nat} {po : Nat → Int32} {s : Nat} (hP : qi_P k n po) : ∀ m, m ≤ 12 → qi_P k n (qd_z po s m) := by
  intro m
  induction m with
  | zero => intro _; exact hP
  | succ m ih => intro hm; exact qi_P_u (ih (by omega)) (by omega) (qi_F_0 _ _ _)
theorem qd_dP {k n : Nat} {po : Nat → Int32} {s f : Nat} (hP : qi_P k n po) : ∀ m, m ≤ 12 → qi_P k n (qd_d po s f m) := by
  intro m
  induction m with
  | zero => intro _; exact hP
  | succ m ih => intro hm; exact qi_P_u (ih (by omega)) (by omega) (ih (by omega) s m (by omega))
section
variable {n kk pp : Nat} {up lost vis dpt hgt ons : Int32} {st op ky va sq de ba rb ph re rs li ll ce po go ord low edg pth pnd mem nds : Nat → Int32}
theorem qx_chk {post : Int32 → Prop} (hp : pp ≤ 64) {v : Int32} (hb : v < 0 ∨ nI pp ≤ v → post (-1)) (h0 : ∀ s, s < pp → v = nI s → po (s * 12) = 0 → post (-5)) (h1 : ∀ s, s < pp → v = nI s → ¬ po (s * 12) = 0 → post 0) : wpX_checkSlot post (nI n, nI kk, nI pp, up, lost, vis, dpt, hgt, ons, st, op, ky, va, sq, de, ba, rb, ph, re, rs, li, ll, ce, po, go, ord, low, edg, pth, pnd, mem, nds) v := by
  unfold wpX_checkSlot
  rcases pk_ix v (n := pp) (by omega) with h | h | ⟨s, hs, e⟩
  · exact br_t h (hb (Or.inl h))
  · by_cases h2 : v < 0
    · exact br_t h2 (hb (Or.inl h2))
    · exact br_f h2 (br_f (Int32.not_lt.mpr h) (hb (Or.inr h)))
  · rw [e]
    refine br_f (nI_pos (by omega)) (br_t (nI_lt hs (by omega)) ?_)
    rw [qw_m12, nI_clamp (n := s * 12) (by omega)]
    exact ⟨vp_in_nI (by omega) (by omega), br_c (fun z => h0 s hs e z) (fun z => h1 s hs e z)⟩
theorem qx_clr {post : SX → Prop} {s : Nat} (hs : s < 64) (h : post (nI n, nI kk, nI pp, up, lost, vis, dpt, hgt, ons, st, op, ky, va, sq, de, ba, rb, ph, re, rs, li, ll, ce, qd_z po s 12, go, ord, low, edg, pth, pnd, mem, nds)) : wpX_clearSlot post (nI n, nI kk, nI pp, up, lost, vis, dpt, hgt, ons, st, op, ky, va, sq, de, ba, rb, ph, re, rs, li, ll, ce, po, go, ord, low, edg, pth, pnd, mem, nds) (nI s) := by
  have key : ∀ m j, j + m = 12 → wX_clearSlot_2 post (nI s) (nI n) (nI kk) (nI pp) up lost vis dpt hgt ons (m + 1) (nI j) st op ky va sq de ba rb ph re rs li ll ce (qd_z po s j) go ord low edg pth pnd mem nds := by
    intro m
    induction m with
    | zero =>
      intro j hj
      have e : j = 12 := by omega
      subst e
      exact br_t (by decide) h
    | succ m ih =>
      intro j hj
      refine br_f (nI_ge (b := 12) (by omega) (by decide)) ?_
      refine qw_st (s * 12 + j) (qw_ix12 s j) (by omega) (by omega) ?_
      refine nm_r (nI_1 j) ?_
      exact ih (j + 1) (by omega)
  exact ⟨13, key 12 0 rfl⟩
end
end
section
/-! handlers of messages -/
theorem qz_eta {Q : SX → Prop} (u : SX) (h : Q u) : (match u with | (a1, a2, a3, up, lost, vis, dpt, hgt, ons, st, op, ky, va, sq, de, ba, rb, ph, re, rs, li, ll, ce, po, go, ord, low, edg, pth, pnd, mem, nds) => Q (a1, a2, a3, up, lost, vis, dpt, hgt, ons, st, op, ky, va, sq, de, ba, rb, ph, re, rs, li, ll, ce, po, go, ord, low, edg, pth, pnd, mem, nds)) := h
section
variable {n kk pp : Nat} {up lost vis dpt hgt ons : Int32} {st op ky va sq de ba rb ph re rs li ll ce po go ord low edg pth pnd mem nds : Nat → Int32} {S : Int32} {dn ly : Nat → Int32}
theorem qy_149 {post : Int32 → SY → Prop} {kd f p i b x z : Int32} (hk : kd = 1 ∨ kd = 3 ∨ kd = 6) (h : wY_deliver_167 post kd f p i b x z S (nI kk) (nI pp) lost dn st op ky va sq de ba rb ph re rs ce ly ll po go) : wY_deliver_149 post kd f p i b x z S (nI kk) (nI pp) lost dn st op ky va sq de ba rb ph re rs ce ly ll po go := by
  unfold wY_deliver_149
  rcases hk with e | e | e
  · exact br_t e h
  · exact br_f (by rw [e]; decide) (br_t e h)
  · exact br_f (by rw [e]; decide) (br_f (by rw [e]; decide) (br_t e h))
theorem qy_149n {post : Int32 → SY → Prop} {kd f p i b x z : Int32} (h1 : ¬ kd = 1) (h3 : ¬ kd = 3) (h6 : ¬ kd = 6) (h : wY_deliver_217 post kd f p i b x z S (nI kk) (nI pp) lost dn st op ky va sq de ba rb ph re rs ce ly ll po go) : wY_deliver_149 post kd f p i b x z S (nI kk) (nI pp) lost dn st op ky va sq de ba rb ph re rs ce ly ll po go := by
  unfold wY_deliver_149
  exact br_f h1 (br_f h3 (br_f h6 h))
theorem qy_pre {post : Int32 → SY → Prop} {kd b : Int32} (hk : kd = 1 ∨ kd = 3 ∨ kd = 6) {r i f : Nat} (hx : r * 24 + i < 72) (hs : st (r * 24 + i) < 3) (hb : ba (r * 24 + i) ≤ b) (h : wY_deliver_217 post kd (nI f) (nI r) (nI i) b (nI (r * 24 + i)) 0 S (nI kk) (nI pp) lost dn st op ky va sq de ba rb ph re rs ce ly ll po go) : ((st (r * 24 + i) < 3 → wY_deliver_149 post kd (nI f) (nI r) (nI i) b (nI (r * 24 + i)) 0 S (nI kk) (nI pp) lost dn st op ky va sq de ba rb ph re rs ce ly ll po go) ∧ (¬ st (r * 24 + i) < 3 → wY_deliver_149 post kd (nI f) (nI r) (nI i) b (nI (r * 24 + i)) 1 S (nI kk) (nI pp) lost dn st op ky va sq de ba rb ph re rs ce ly ll po go)) := by
  refine br_t hs (qy_149 hk ?_)
  unfold wY_deliver_167
  rw [nI_clamp (n := r * 24 + i) (by omega)]
  exact br_t rfl (qw_in (r * 24 + i) rfl hx (by omega) (br_t hb h))
theorem qh_away {k : Nat} (H : qi_I k n kk pp S up dn st op ky sq de ba ph re rs li ly ll po go) {r i f : Nat} (hr : r < 3) (hi : i < n) (hf : f < 3) {kd b : Int32} (hkd : kd = 1 ∨ kd = 3 ∨ kd = 6) {P : Int32 → SX → Prop}
    (C1 : ∀ q po' lost', ¬ q = 0 → qi_P k n po' → (∀ post : Int32 → SY → Prop, post q (S, nI kk, nI pp, lost', dn, st, op, ky, va, sq, de, ba, rb, ph, re, rs, ce, ly, ll, po', go) → ((st (r * 24 + i) < 3 → wY_deliver_149 post kd (nI f) (nI r) (nI i) b (nI (r * 24 + i)) 0 S (nI kk) (nI pp) lost dn st op ky va sq de ba rb ph re rs ce ly ll po go) ∧ (¬ st (r * 24 + i) < 3 → wY_deliver_149 post kd (nI f) (nI r) (nI i) b (nI (r * 24 + i)) 1 S (nI kk) (nI pp) lost dn st op ky va sq de ba rb ph re rs ce ly ll po go))) → P q (nI n, nI kk, nI pp, up, lost', vis, dpt, hgt, ons, st, op, ky, va, sq, de, ba, rb, ph, re, rs, li, ll, ce, po', go, ord, low, edg, pth, pnd, mem, nds))
    (C2 : st (r * 24 + i) < 3 → ba (r * 24 + i) ≤ b → P 0 (nI n, nI kk, nI pp, up, lost, vis, dpt, hgt, ons, st, op, ky, va, sq, de, ba, rb, ph, re, rs, li, ll, ce, po, go, ord, low, edg, pth, pnd, mem, nds)) : wpX_turnAway P (nI n, nI kk, nI pp, up, lost, vis, dpt, hgt, ons, st, op, ky, va, sq, de, ba, rb, ph, re, rs, li, ll, ce, po, go, ord, low, edg, pth, pnd, mem, nds) (nI r) (nI i) (nI f) b := by
  obtain ⟨⟨hn3, hn, hkk, hp, hS⟩, hup, hop, hky, hsq, hde, hba, hre, hph, hrs, hli, hpo, hgo⟩ := H
  have hx : r * 24 + i < 72 := by omega
  unfold wpX_turnAway
  refine nm_r (e' := nI (r * 24 + i)) (qw_ix r i) ?_
  rw [nI_clamp (n := r * 24 + i) (by omega)]
  refine qw_in (r * 24 + i) rfl hx (by omega) ?_
  by_cases hs : st (r * 24 + i) < 3
  · refine br_t hs (qw_in (r * 24 + i) rfl hx (by omega) ?_)
    by_cases hb2 : ba (r * 24 + i) ≤ b
    · exact br_t hb2 (C2 hs hb2)
    · refine br_f hb2 (qw_in (r * 24 + i) rfl hx (by omega) ?_)
      obtain ⟨po', lost', p1, xs, ys⟩ := qs_bare (k := k) (n := n) (kk := kk) (pp := pp) (up := up) (lost := lost) (vis := vis) (dpt := dpt) (hgt := hgt) (ons := ons) (st := st) (op := op) (ky := ky) (va := va) (sq := sq) (de := de) (ba := ba) (rb := rb) (ph := ph) (re := re) (rs := rs) (li := li) (ll := ll) (ce := ce) (po := po) (go := go) (ord := ord) (low := low) (edg := edg) (pth := pth) (pnd := pnd) (mem := mem) (nds := nds) (S := S) (dn := dn) (ly := ly) hp hn (kd := 8) (b := ba (r * 24 + i)) (Or.inr (Or.inr rfl)) hr hf hi hpo (hba _ hx)
      refine xs _ (fun q => ?_)
      refine C1 2 po' lost' (by decide) p1 (fun post h => ?_)
      refine br_t hs (qy_149 hkd ?_)
      unfold wY_deliver_167
      rw [nI_clamp (n := r * 24 + i) (by omega)]
      exact br_t rfl (qw_in (r * 24 + i) rfl hx (by omega) (br_f hb2 (qw_in (r * 24 + i) rfl hx (by omega) (ys _ h))))
  · refine br_f hs ?_
    obtain ⟨po', lost', p1, xs, ys⟩ := qs_one (k := k) (n := n) (kk := kk) (pp := pp) (up := up) (lost := lost) (vis := vis) (dpt := dpt) (hgt := hgt) (ons := ons) (st := st) (op := op) (ky := ky) (va := va) (sq := sq) (de := de) (ba := ba) (rb := rb) (ph := ph) (re := re) (rs := rs) (li := li) (ll := ll) (ce := ce) (po := po) (go := go) (ord := ord) (low := low) (edg := edg) (pth := pth) (pnd := pnd) (mem := mem) (nds := nds) (S := S) (dn := dn) (ly := ly) hp hn (kd := 5) (b := 0) (Or.inr (Or.inr rfl)) hr hf hi hpo (qi_Bd_0 _) (hop _ hx) (hky _ hx) (hsq _ hx) (hde _ hx)
    refine xs _ (fun q => ?_)
    refine C1 4 po' lost' (by decide) p1 (fun post h => ?_)
    refine br_f hs (qy_149 hkd ?_)
    unfold wY_deliver_167
    exact br_f (by decide) (ys _ h)
end
end
section
/-! handlers: PREACCEPT, ACCEPT, ACCEPT_OK, COMMIT, PREPARE, NACK -/
theorem qi_G1 {k n : Nat} {go : Nat → Int32} (h : qi_G k n go) : qi_Bd 2 (go 1) := (h 1 (by decide)).1 rfl
theorem qi_G2 {k n : Nat} {go : Nat → Int32} (h : qi_G k n go) : qi_Bd 2 (go 2) := (h 2 (by decide)).2.1 rfl
theorem qi_G3 {k n : Nat} {go : Nat → Int32} (h : qi_G k n go) : qi_Bd (n - 1) (go 3) := (h 3 (by decide)).2.2.1 rfl
theorem qi_G4 {k n : Nat} {go : Nat → Int32} (h : qi_G k n go) : qi_Bd k (go 4) := (h 4 (by decide)).2.2.2.1 rfl
theorem qi_G7 {k n : Nat} {go : Nat → Int32} (h : qi_G k n go) : qi_Bd 3 (go 7) := (h 7 (by decide)).2.2.2.2.1 rfl
theorem qi_G8 {k n : Nat} {go : Nat → Int32} (h : qi_G k n go) : qi_Bd 7 (go 8) := (h 8 (by decide)).2.2.2.2.2.1 rfl
theorem qi_G10 {k n : Nat} {go : Nat → Int32} (h : qi_G k n go) : qi_Bd k (go 10) := (h 10 (by decide)).2.2.2.2.2.2.1 rfl
theorem qi_G11 {k n : Nat} {go : Nat → Int32} (h : qi_G k n go) : qi_Bs n (go 11) := (h 11 (by decide)).2.2.2.2.2.2.2 rfl
section
variable {n kk pp : Nat} {up lost vis dpt hgt ons : Int32} {st op ky va sq de ba rb ph re rs li ll ce po go ord low edg pth pnd mem nds : Nat → Int32} {S : Int32} {dn ly : Nat → Int32}
theorem qh_acc {k : Nat} (H : qi_I k n kk pp S up dn st op ky sq de ba ph re rs li ly ll po go) {r i f : Nat} (hr : r < 3) (hi : i < n) (hf : f < 3) {b : Int32} (hb : qi_Bd k b) {Q : Int32 → SX → Prop}
    (C : ∀ q u' v', i_Rel k u' v' → (∀ post : Int32 → SY → Prop, post q v' → ((st (r * 24 + i) < 3 → wY_deliver_149 post 3 (nI f) (nI r) (nI i) b (nI (r * 24 + i)) 0 S (nI kk) (nI pp) lost dn st op ky va sq de ba rb ph re rs ce ly ll po go) ∧ (¬ st (r * 24 + i) < 3 → wY_deliver_149 post 3 (nI f) (nI r) (nI i) b (nI (r * 24 + i)) 1 S (nI kk) (nI pp) lost dn st op ky va sq de ba rb ph re rs ce ly ll po go))) → Q q u') : wpX_onAccept Q (nI n, nI kk, nI pp, up, lost, vis, dpt, hgt, ons, st, op, ky, va, sq, de, ba, rb, ph, re, rs, li, ll, ce, po, go, ord, low, edg, pth, pnd, mem, nds) (nI r) (nI i) (nI f) b := by
  unfold wpX_onAccept
  refine qh_away H hr hi hf (kd := 3) (Or.inr (Or.inl rfl)) (fun q po' lost' hq hP hW => ?_) (fun hs hb2 => ?_)
  · refine br_f hq ?_
    exact C q _ _ (qz_in (qi_I_po H hP)) hW
  · have H0 := H
    obtain ⟨⟨hn3, hn, hkk, hp, hS⟩, hup, hop, hky, hsq, hde, hba, hre, hph, hrs, hli, hpo, hgo⟩ := H0
    have hx : r * 24 + i < 72 := by omega
    have H1 := qi_I_ba (x := r * 24 + i) (b := b) (qi_I_w (s := 2) (p := 0) (x := r * 24 + i) H hx (qi_ne4 hs) (by decide) (fun z => absurd rfl z) (qi_G7 hgo) (qi_G8 hgo) (qi_G10 hgo) (qi_G11 hgo)) hb
    obtain ⟨po', lost', p1, xs, ys⟩ := qs_bare (k := k) (n := n) (kk := kk) (pp := pp) (up := up) (lost := lost) (vis := vis) (dpt := dpt) (hgt := hgt) (ons := ons) (st := upd st (r * 24 + i) 2) (op := upd op (r * 24 + i) (go 7)) (ky := upd ky (r * 24 + i) (go 8)) (va := upd va (r * 24 + i) (go 9)) (sq := upd sq (r * 24 + i) (go 10)) (de := upd de (r * 24 + i) (go 11)) (ba := upd ba (r * 24 + i) b) (rb := upd rb (r * 24 + i) b) (ph := upd ph (r * 24 + i) 0) (re := upd re (r * 24 + i) 0) (rs := rs) (li := li) (ll := ll) (ce := ce) (po := po) (go := go) (ord := ord) (low := low) (edg := edg) (pth := pth) (pnd := pnd) (mem := mem) (nds := nds) (S := S) (dn := dn) (ly := ly) hp hn (kd := 4) (b := b) (Or.inl rfl) hr hf hi hpo hb
    refine br_t rfl ?_
    refine nm_r (e' := nI (r * 24 + i)) (qw_ix r i) ?_
    refine qx_setc hx ?_
    refine qw_sa (r * 24 + i) hx (by omega) ?_
    refine qw_sa (r * 24 + i) hx (by omega) ?_
    refine qw_sa (r * 24 + i) hx (by omega) ?_
    refine qw_sa (r * 24 + i) hx (by omega) ?_
    refine qw_sa (r * 24 + i) hx (by omega) ?_
    refine qx_endr hx ?_
    refine xs _ (fun q => ?_)
    refine C 3 _ _ (qz_in (qi_I_po H1 p1)) (fun post h => ?_)
    refine qy_pre (Or.inr (Or.inl rfl)) hx hs hb2 ?_
    unfold wY_deliver_217
    refine br_f (by decide) (br_f (by decide) (br_f (by decide) (br_t rfl ?_)))
    refine qy_write hx ?_
    refine qw_sa (r * 24 + i) hx (by omega) ?_
    refine qw_sa (r * 24 + i) hx (by omega) ?_
    refine qy_round hx ?_
    exact ys _ h
theorem qh_aok {k : Nat} (H : qi_I k n kk pp S up dn st op ky sq de ba ph re rs li ly ll po go) {r i f : Nat} (hr : r < 3) (hi : i < n) (hf : f < 3) {b : Int32} (hb : qi_Bd k b) {Q : Int32 → SX → Prop}
    (C : ∀ q u' v', i_Rel k u' v' → (∀ post : Int32 → SY → Prop, post q v' → ((st (r * 24 + i) < 3 → wY_deliver_149 post 4 (nI f) (nI r) (nI i) b (nI (r * 24 + i)) 0 S (nI kk) (nI pp) lost dn st op ky va sq de ba rb ph re rs ce ly ll po go) ∧ (¬ st (r * 24 + i) < 3 → wY_deliver_149 post 4 (nI f) (nI r) (nI i) b (nI (r * 24 + i)) 1 S (nI kk) (nI pp) lost dn st op ky va sq de ba rb ph re rs ce ly ll po go))) → Q q u') : wpX_onAcceptOk Q (nI n, nI kk, nI pp, up, lost, vis, dpt, hgt, ons, st, op, ky, va, sq, de, ba, rb, ph, re, rs, li, ll, ce, po, go, ord, low, edg, pth, pnd, mem, nds) (nI r) (nI i) b := by
  have H0 := H
  obtain ⟨⟨hn3, hn, hkk, hp, hS⟩, hup, hop, hky, hsq, hde, hba, hre, hph, hrs, hli, hpo, hgo⟩ := H0
  have hx : r * 24 + i < 72 := by omega
  have CW : ∀ q v', (∀ post : Int32 → SY → Prop, ∀ z, post q v' → wY_deliver_217 post 4 (nI f) (nI r) (nI i) b (nI (r * 24 + i)) z S (nI kk) (nI pp) lost dn st op ky va sq de ba rb ph re rs ce ly ll po go) → ∀ u', i_Rel k u' v' → Q q u' := fun q v' hz u' hR =>
    C q u' v' hR (fun post h => br_c (fun _ => qy_149n (by decide) (by decide) (by decide) (hz post 0 h)) (fun _ => qy_149n (by decide) (by decide) (by decide) (hz post 1 h)))
  have Y0 : ¬ (ph (r * 24 + i) = 3 ∧ b = ba (r * 24 + i)) → ∀ post : Int32 → SY → Prop, ∀ z, post 1 (S, nI kk, nI pp, lost, dn, st, op, ky, va, sq, de, ba, rb, ph, re, rs, ce, ly, ll, po, go) → wY_deliver_217 post 4 (nI f) (nI r) (nI i) b (nI (r * 24 + i)) z S (nI kk) (nI pp) lost dn st op ky va sq de ba rb ph re rs ce ly ll po go := by
    intro hc post z h
    unfold wY_deliver_217
    rw [nI_clamp (n := r * 24 + i) (by omega)]
    refine br_f (by decide) (br_f (by decide) (br_f (by decide) (br_f (by decide) (br_t rfl (qw_in (r * 24 + i) rfl hx (by omega) ?_)))))
    by_cases h3 : ph (r * 24 + i) = 3
    · exact br_t h3 (qw_in (r * 24 + i) rfl hx (by omega) (br_f (fun e => hc ⟨h3, e⟩) h))
    · exact br_f h3 h
  unfold wpX_onAcceptOk
  refine nm_r (e' := nI (r * 24 + i)) (qw_ix r i) ?_
  rw [nI_clamp (n := r * 24 + i) (by omega)]
  refine qw_in (r * 24 + i) rfl hx (by omega) ?_
  by_cases h3 : ph (r * 24 + i) = 3
  · refine br_t h3 (qw_in (r * 24 + i) rfl hx (by omega) ?_)
    by_cases hbb : b = ba (r * 24 + i)
    · refine br_t hbb ?_
      have hs : st (r * 24 + i) < 3 := hph _ hx (by rw [h3]; decide)
      obtain ⟨po', lost', p1, xs, ys⟩ := qs_dec (k := k) (n := n) (kk := kk) (pp := pp) (up := up) (lost := lost) (vis := vis) (dpt := dpt) (hgt := hgt) (ons := ons) (st := st) (op := op) (ky := ky) (va := va) (sq := sq) (de := de) (ba := ba) (rb := rb) (ph := ph) (re := re) (rs := rs) (li := li) (ll := ll) (ce := ce) (po := po) (go := go) (ord := ord) (low := low) (edg := edg) (pth := pth) (pnd := pnd) (mem := mem) (nds := nds) (S := S) (dn := dn) (ly := ly) hp hn hr hi hpo (hop _ hx) (hky _ hx) (hsq _ hx) (hde _ hx)
      refine xs _ ?_
      refine CW 9 _ (fun post z h => ?_) _ (qz_in (qi_I_po (qi_I_sp (s := 3) (p := 0) (x := r * 24 + i) H hx (qi_ne4 hs) (by decide) (fun z => absurd rfl z)) p1))
      unfold wY_deliver_217
      rw [nI_clamp (n := r * 24 + i) (by omega)]
      refine br_f (by decide) (br_f (by decide) (br_f (by decide) (br_f (by decide) (br_t rfl (qw_in (r * 24 + i) rfl hx (by omega) (br_t h3 (qw_in (r * 24 + i) rfl hx (by omega) (br_t hbb ?_))))))))
      exact ys _ h
    · refine br_f hbb ?_
      exact CW 1 _ (Y0 (fun z => hbb z.2)) _ (qz_in H)
  · refine br_f h3 ?_
    exact CW 1 _ (Y0 (fun z => h3 z.1)) _ (qz_in H)
theorem qh_com {k : Nat} (H : qi_I k n kk pp S up dn st op ky sq de ba ph re rs li ly ll po go) {r i f : Nat} (hr : r < 3) (hi : i < n) (hf : f < 3) {b : Int32} {Q : Int32 → SX → Prop}
    (C : ∀ q u' v', i_Rel k u' v' → (∀ post : Int32 → SY → Prop, post q v' → ((st (r * 24 + i) < 3 → wY_deliver_149 post 5 (nI f) (nI r) (nI i) b (nI (r * 24 + i)) 0 S (nI kk) (nI pp) lost dn st op ky va sq de ba rb ph re rs ce ly ll po go) ∧ (¬ st (r * 24 + i) < 3 → wY_deliver_149 post 5 (nI f) (nI r) (nI i) b (nI (r * 24 + i)) 1 S (nI kk) (nI pp) lost dn st op ky va sq de ba rb ph re rs ce ly ll po go))) → Q q u') : wpX_onCommit Q (nI n, nI kk, nI pp, up, lost, vis, dpt, hgt, ons, st, op, ky, va, sq, de, ba, rb, ph, re, rs, li, ll, ce, po, go, ord, low, edg, pth, pnd, mem, nds) (nI r) (nI i) := by
  have H0 := H
  obtain ⟨⟨hn3, hn, hkk, hp, hS⟩, hup, hop, hky, hsq, hde, hba, hre, hph, hrs, hli, hpo, hgo⟩ := H0
  have hx : r * 24 + i < 72 := by omega
  unfold wpX_onCommit
  refine nm_r (e' := nI (r * 24 + i)) (qw_ix r i) ?_
  rw [nI_clamp (n := r * 24 + i) (by omega)]
  refine qw_in (r * 24 + i) rfl hx (by omega) ?_
  by_cases hs : st (r * 24 + i) < 3
  · refine br_t hs ?_
    refine qx_setc hx ?_
    refine ⟨vp_in_nI hx (by omega), nm_e ?_⟩
    refine ⟨vp_in_nI hx (by omega), nm_e ?_⟩
    refine ⟨vp_in_nI hx (by omega), nm_e ?_⟩
    refine qx_endr hx ?_
    refine C 10 _ _ (qz_in (qi_I_w (s := 3) (p := 0) (x := r * 24 + i) H hx (qi_ne4 hs) (by decide) (fun z => absurd rfl z) (qi_G7 hgo) (qi_G8 hgo) (qi_G10 hgo) (qi_G11 hgo))) (fun post h => ?_)
    refine br_t hs (qy_149n (by decide) (by decide) (by decide) ?_)
    unfold wY_deliver_217
    refine br_f (by decide) (br_f (by decide) (br_f (by decide) (br_f (by decide) (br_f (by decide) (br_t rfl (br_t rfl ?_))))))
    refine qy_write hx ?_
    refine qy_round hx ?_
    exact h
  · refine br_f hs ?_
    refine C 1 _ _ (qz_in H) (fun post h => ?_)
    refine br_f hs (qy_149n (by decide) (by decide) (by decide) ?_)
    unfold wY_deliver_217
    exact br_f (by decide) (br_f (by decide) (br_f (by decide) (br_f (by decide) (br_f (by decide) (br_t rfl (br_f (by decide) h))))))
theorem qh_prp {k : Nat} (H : qi_I k n kk pp S up dn st op ky sq de ba ph re rs li ly ll po go) {r i f : Nat} (hr : r < 3) (hi : i < n) (hf : f < 3) {b : Int32} (hb : qi_Bd k b) {Q : Int32 → SX → Prop}
    (C : ∀ q u' v', i_Rel k u' v' → (∀ post : Int32 → SY → Prop, post q v' → ((st (r * 24 + i) < 3 → wY_deliver_149 post 6 (nI f) (nI r) (nI i) b (nI (r * 24 + i)) 0 S (nI kk) (nI pp) lost dn st op ky va sq de ba rb ph re rs ce ly ll po go) ∧ (¬ st (r * 24 + i) < 3 → wY_deliver_149 post 6 (nI f) (nI r) (nI i) b (nI (r * 24 + i)) 1 S (nI kk) (nI pp) lost dn st op ky va sq de ba rb ph re rs ce ly ll po go))) → Q q u') : wpX_onPrepare Q (nI n, nI kk, nI pp, up, lost, vis, dpt, hgt, ons, st, op, ky, va, sq, de, ba, rb, ph, re, rs, li, ll, ce, po, go, ord, low, edg, pth, pnd, mem, nds) (nI r) (nI i) (nI f) b := by
  unfold wpX_onPrepare
  refine qh_away H hr hi hf (kd := 6) (Or.inr (Or.inr rfl)) (fun q po' lost' hq hP hW => ?_) (fun hs hb2 => ?_)
  · refine br_f hq ?_
    exact C q _ _ (qz_in (qi_I_po H hP)) hW
  · have H0 := H
    obtain ⟨⟨hn3, hn, hkk, hp, hS⟩, hup, hop, hky, hsq, hde, hba, hre, hph, hrs, hli, hpo, hgo⟩ := H0
    have hx : r * 24 + i < 72 := by omega
    have H1 := qi_I_ba (x := r * 24 + i) (b := b) (qi_I_ph (p := 0) (x := r * 24 + i) H (fun z => absurd rfl z)) hb
    obtain ⟨po', lost', p1, xs, ys⟩ := qs_pok (k := k) (n := n) (kk := kk) (pp := pp) (up := up) (lost := lost) (vis := vis) (dpt := dpt) (hgt := hgt) (ons := ons) (st := st) (op := op) (ky := ky) (va := va) (sq := sq) (de := de) (ba := upd ba (r * 24 + i) b) (rb := rb) (ph := upd ph (r * 24 + i) 0) (re := upd re (r * 24 + i) 0) (rs := rs) (li := li) (ll := ll) (ce := ce) (po := po) (go := go) (ord := ord) (low := low) (edg := edg) (pth := pth) (pnd := pnd) (mem := mem) (nds := nds) (S := S) (dn := dn) (ly := ly) hp hn (b := b) hr hf hi hpo hb (hop _ hx) (hky _ hx) (hsq _ hx) (hde _ hx)
    refine br_t rfl ?_
    refine nm_r (e' := nI (r * 24 + i)) (qw_ix r i) ?_
    refine qw_sa (r * 24 + i) hx (by omega) ?_
    refine qx_endr hx ?_
    refine xs _ ?_
    refine C 3 _ _ (qz_in (qi_I_po H1 p1)) (fun post h => ?_)
    refine qy_pre (Or.inr (Or.inr rfl)) hx hs hb2 ?_
    unfold wY_deliver_217
    refine br_f (by decide) (br_f (by decide) (br_f (by decide) (br_f (by decide) (br_f (by decide) (br_f (by decide) (br_t rfl ?_))))))
    refine qw_sa (r * 24 + i) hx (by omega) ?_
    refine qy_round hx ?_
    exact ys _ h
theorem qh_nack {k : Nat} (H : qi_I k n kk pp S up dn st op ky sq de ba ph re rs li ly ll po go) {r i f : Nat} (hr : r < 3) (hi : i < n) (hf : f < 3) {kd b : Int32} (hb : qi_Bd k b) (hkd : kd < 1 ∨ 7 < kd) {Q : Int32 → SX → Prop}
    (C : ∀ q u' v', i_Rel k u' v' → (∀ post : Int32 → SY → Prop, post q v' → ((st (r * 24 + i) < 3 → wY_deliver_149 post kd (nI f) (nI r) (nI i) b (nI (r * 24 + i)) 0 S (nI kk) (nI pp) lost dn st op ky va sq de ba rb ph re rs ce ly ll po go) ∧ (¬ st (r * 24 + i) < 3 → wY_deliver_149 post kd (nI f) (nI r) (nI i) b (nI (r * 24 + i)) 1 S (nI kk) (nI pp) lost dn st op ky va sq de ba rb ph re rs ce ly ll po go))) → Q q u') : wpX_onNack Q (nI n, nI kk, nI pp, up, lost, vis, dpt, hgt, ons, st, op, ky, va, sq, de, ba, rb, ph, re, rs, li, ll, ce, po, go, ord, low, edg, pth, pnd, mem, nds) (nI r) (nI i) b := by
  have H0 := H
  obtain ⟨⟨hn3, hn, hkk, hp, hS⟩, hup, hop, hky, hsq, hde, hba, hre, hph, hrs, hli, hpo, hgo⟩ := H0
  have hx : r * 24 + i < 72 := by omega
  have hne : ∀ c : Int32, 1 ≤ c → c ≤ 7 → ¬ kd = c := fun c h1 h2 e => by
    rcases hkd with h | h
    · exact absurd (e ▸ h) (Int32.not_lt.mpr h1)
    · exact absurd (e ▸ h) (Int32.not_lt.mpr h2)
  have n1 := hne 1 (by decide) (by decide)
  have n2 := hne 2 (by decide) (by decide)
  have n3 := hne 3 (by decide) (by decide)
  have n4 := hne 4 (by decide) (by decide)
  have n5 := hne 5 (by decide) (by decide)
  have n6 := hne 6 (by decide) (by decide)
  have n7 := hne 7 (by decide) (by decide)
  unfold wpX_onNack
  refine nm_r (e' := nI (r * 24 + i)) (qw_ix r i) ?_
  rw [nI_clamp (n := r * 24 + i) (by omega)]
  refine qw_in (r * 24 + i) rfl hx (by omega) ?_
  by_cases hs : st (r * 24 + i) < 3
  · have CW : ∀ q v', (∀ post : Int32 → SY → Prop, post q v' → wY_deliver_217 post kd (nI f) (nI r) (nI i) b (nI (r * 24 + i)) 0 S (nI kk) (nI pp) lost dn st op ky va sq de ba rb ph re rs ce ly ll po go) → ∀ u', i_Rel k u' v' → Q q u' := fun q v' hz u' hR =>
      C q u' v' hR (fun post h => br_t hs (qy_149n n1 n3 n6 (hz post h)))
    refine br_f (Int32.not_le.mpr hs) (qw_in (r * 24 + i) rfl hx (by omega) ?_)
    by_cases hbb : ba (r * 24 + i) < b
    · refine br_t hbb ⟨vp_in_nI hx (by omega), nm_e (qw_in (r * 24 + i) rfl hx (by omega) ?_)⟩
      by_cases h0 : ph (r * 24 + i) = 0
      · refine br_t h0 ?_
        refine CW 5 _ (fun post h => ?_) _ (qz_in (qi_I_ba (x := r * 24 + i) (b := b) H hb))
        unfold wY_deliver_217
        rw [nI_clamp (n := r * 24 + i) (by omega)]
        exact br_f n1 (br_f n2 (br_f n7 (br_f n3 (br_f n4 (br_f n5 (br_f n6 (br_t rfl (qw_in (r * 24 + i) rfl hx (by omega) (br_t hbb ⟨vp_in_nI hx (by omega), nm_e (qw_in (r * 24 + i) rfl hx (by omega) (br_t h0 h))⟩)))))))))
      · refine br_f h0 ?_
        refine qx_endr hx ?_
        refine CW 11 _ (fun post h => ?_) _ (qz_in (qi_I_ph (p := 0) (x := r * 24 + i) (qi_I_ba (x := r * 24 + i) (b := b) H hb) (fun z => absurd rfl z)))
        unfold wY_deliver_217
        rw [nI_clamp (n := r * 24 + i) (by omega)]
        refine br_f n1 (br_f n2 (br_f n7 (br_f n3 (br_f n4 (br_f n5 (br_f n6 (br_t rfl (qw_in (r * 24 + i) rfl hx (by omega) (br_t hbb ⟨vp_in_nI hx (by omega), nm_e (qw_in (r * 24 + i) rfl hx (by omega) (br_f h0 ?_))⟩)))))))))
        exact qy_round hx h
    · refine br_f hbb ?_
      refine CW 1 _ (fun post h => ?_) _ (qz_in H)
      unfold wY_deliver_217
      rw [nI_clamp (n := r * 24 + i) (by omega)]
      exact br_f n1 (br_f n2 (br_f n7 (br_f n3 (br_f n4 (br_f n5 (br_f n6 (br_t rfl (qw_in (r * 24 + i) rfl hx (by omega) (br_f hbb h)))))))))
  · refine br_t (Int32.not_lt.mp hs) ?_
    refine C 1 _ _ (qz_in H) (fun post h => ?_)
    refine br_f hs (qy_149n n1 n3 n6 ?_)
    unfold wY_deliver_217
    exact br_f n1 (br_f n2 (br_f n7 (br_f n3 (br_f n4 (br_f n5 (br_f n6 (br_f (by decide) h)))))))
end
end
section
/-! PREACCEPT and PREACCEPT_OK -/
section
variable {n kk pp : Nat} {up lost vis dpt hgt ons : Int32} {st op ky va sq de ba rb ph re rs li ll ce po go ord low edg pth pnd mem nds : Nat → Int32} {S : Int32} {dn ly : Nat → Int32}
theorem qh_pre {k : Nat} (hk : k + 5 ≤ 2563) (H : qi_I k n kk pp S up dn st op ky sq de ba ph re rs li ly ll po go) {r i f : Nat} (hr : r < 3) (hi : i < n) (hf : f < 3) {b : Int32} (hb : qi_Bd k b) {Q : Int32 → SX → Prop}
    (C : ∀ q u' v', i_Rel (k + 5) u' v' → (∀ post : Int32 → SY → Prop, post q v' → ((st (r * 24 + i) < 3 → wY_deliver_149 post 1 (nI f) (nI r) (nI i) b (nI (r * 24 + i)) 0 S (nI kk) (nI pp) lost dn st op ky va sq de ba rb ph re rs ce ly ll po go) ∧ (¬ st (r * 24 + i) < 3 → wY_deliver_149 post 1 (nI f) (nI r) (nI i) b (nI (r * 24 + i)) 1 S (nI kk) (nI pp) lost dn st op ky va sq de ba rb ph re rs ce ly ll po go))) → Q q u') : wpX_onPreAccept Q (nI n, nI kk, nI pp, up, lost, vis, dpt, hgt, ons, st, op, ky, va, sq, de, ba, rb, ph, re, rs, li, ll, ce, po, go, ord, low, edg, pth, pnd, mem, nds) (nI r) (nI i) (nI f) b := by
  have H5 := qi_I_m (k' := k + 5) (by omega) H
  have hb5 : qi_Bd (k + 5) b := qi_Bd_m (by omega) hb
  unfold wpX_onPreAccept
  refine qh_away H5 hr hi hf (kd := 1) (Or.inl rfl) (fun q po' lost' hq hP hW => ?_) (fun hs hb2 => ?_)
  · refine br_f hq ?_
    exact C q _ _ (qz_in (qi_I_po H5 hP)) hW
  · have H0 := H
    obtain ⟨⟨hn3, hn, hkk, hp, hS⟩, hup, hop, hky, hsq, hde, hba, hre, hph, hrs, hli, hpo, hgo⟩ := H0
    have hpo5 : qi_P (k + 5) n po := qi_P_m (by omega) hpo
    have hx : r * 24 + i < 72 := by omega
    have CW : ∀ q v', (∀ post : Int32 → SY → Prop, post q v' → wpY_onPreaccept post (S, nI kk, nI pp, lost, dn, st, op, ky, va, sq, de, ba, rb, ph, re, rs, ce, ly, ll, po, go) (nI r) (nI i) (nI f) b) → ∀ u', i_Rel (k + 5) u' v' → Q q u' := fun q v' hz u' hR =>
      C q u' v' hR (fun post h => qy_pre (Or.inl rfl) hx hs hb2 (by
        unfold wY_deliver_217
        exact br_t rfl (hz _ h)))
    refine br_t rfl ?_
    refine nm_r (e' := nI (r * 24 + i)) (qw_ix r i) ?_
    rw [nI_clamp (n := r * 24 + i) (by omega)]
    refine qw_in (r * 24 + i) rfl hx (by omega) ?_
    by_cases h11 : st (r * 24 + i) = 1 ∧ rb (r * 24 + i) = b
    · obtain ⟨po', lost', p1, xs, ys⟩ := qs_pao (k := k + 5) (n := n) (kk := kk) (pp := pp) (up := up) (lost := lost) (vis := vis) (dpt := dpt) (hgt := hgt) (ons := ons) (st := st) (op := op) (ky := ky) (va := va) (sq := sq) (de := de) (ba := ba) (rb := rb) (ph := ph) (re := re) (rs := rs) (li := li) (ll := ll) (ce := ce) (po := po) (go := go) (ord := ord) (low := low) (edg := edg) (pth := pth) (pnd := pnd) (mem := mem) (nds := nds) (S := S) (dn := dn) (ly := ly) hp hn (b := b) hr hf hi hpo5 hb5 (qi_Bd_m (by omega) (hsq _ hx)) (hde _ hx)
      refine br_t h11.1 (qw_in (r * 24 + i) rfl hx (by omega) (br_t h11.2 ?_))
      refine xs _ ?_
      refine CW 3 _ (fun post h => ?_) _ (qz_in (qi_I_po H5 p1))
      unfold wpY_onPreaccept
      refine nm_r (e' := nI (r * 24 + i)) (qw_ix r i) ?_
      rw [nI_clamp (n := r * 24 + i) (by omega)]
      refine qw_in (r * 24 + i) rfl hx (by omega) (br_f (by rw [h11.1]; decide) ?_)
      unfold wY_onPreaccept_33
      rw [nI_clamp (n := r * 24 + i) (by omega)]
      refine qw_in (r * 24 + i) rfl hx (by omega) (br_t h11.1 (qw_in (r * 24 + i) rfl hx (by omega) (br_t h11.2 ?_)))
      unfold wY_onPreaccept_174
      exact ys _ h
    · have K61 : wX_onPreAccept_61 Q (nI r) (nI i) (nI f) b (nI (r * 24 + i)) (nI n) (nI kk) (nI pp) up lost vis dpt hgt ons st op ky va sq de ba rb ph re rs li ll ce po go ord low edg pth pnd mem nds := by
        unfold wX_onPreAccept_61
        rw [nI_clamp (n := r * 24 + i) (by omega)]
        refine qw_in (r * 24 + i) rfl hx (by omega) ?_
        by_cases h22 : st (r * 24 + i) = 2 ∧ rb (r * 24 + i) = b
        · refine br_t h22.1 (qw_in (r * 24 + i) rfl hx (by omega) (br_t h22.2 ?_))
          refine CW 1 _ (fun post h => ?_) _ (qz_in H5)
          unfold wpY_onPreaccept
          refine nm_r (e' := nI (r * 24 + i)) (qw_ix r i) ?_
          rw [nI_clamp (n := r * 24 + i) (by omega)]
          exact qw_in (r * 24 + i) rfl hx (by omega) (br_t h22.1 (qw_in (r * 24 + i) rfl hx (by omega) (br_t h22.2 h)))
        · have CW2 : ∀ q v', (∀ post : Int32 → SY → Prop, post q v' → wY_onPreaccept_56 post (nI r) (nI i) (nI f) b (nI (r * 24 + i)) S (nI kk) (nI pp) lost dn st op ky va sq de ba rb ph re rs ce ly ll po go) → ∀ u', i_Rel (k + 5) u' v' → Q q u' := fun q v' hz u' hR =>
            CW q v' (fun post h => by
              have K33 : wY_onPreaccept_33 post (nI r) (nI i) (nI f) b (nI (r * 24 + i)) S (nI kk) (nI pp) lost dn st op ky va sq de ba rb ph re rs ce ly ll po go := by
                unfold wY_onPreaccept_33
                rw [nI_clamp (n := r * 24 + i) (by omega)]
                refine qw_in (r * 24 + i) rfl hx (by omega) ?_
                by_cases h1 : st (r * 24 + i) = 1
                · exact br_t h1 (qw_in (r * 24 + i) rfl hx (by omega) (br_f (fun e => h11 ⟨h1, e⟩) (hz post h)))
                · exact br_f h1 (hz post h)
              unfold wpY_onPreaccept
              refine nm_r (e' := nI (r * 24 + i)) (qw_ix r i) ?_
              rw [nI_clamp (n := r * 24 + i) (by omega)]
              refine qw_in (r * 24 + i) rfl hx (by omega) ?_
              by_cases h2 : st (r * 24 + i) = 2
              · exact br_t h2 (qw_in (r * 24 + i) rfl hx (by omega) (br_f (fun e => h22 ⟨h2, e⟩) K33))
              · exact br_f h2 K33) u' hR
          have K86 : wX_onPreAccept_86 Q (nI r) (nI i) (nI f) b (nI (r * 24 + i)) (nI n) (nI kk) (nI pp) up lost vis dpt hgt ons st op ky va sq de ba rb ph re rs li ll ce po go ord low edg pth pnd mem nds := by
            obtain ⟨g, hg, xq, yq⟩ := qs_lseq (k := k) (n := n) (kk := kk) (pp := pp) (up := up) (lost := lost) (vis := vis) (dpt := dpt) (hgt := hgt) (ons := ons) (st := st) (op := op) (ky := ky) (va := va) (sq := sq) (de := de) (ba := ba) (rb := rb) (ph := ph) (re := re) (rs := rs) (li := li) (ll := ll) (ce := ce) (po := po) (go := go) (ord := ord) (low := low) (edg := edg) (pth := pth) (pnd := pnd) (mem := mem) (nds := nds) (S := S) (dn := dn) (ly := ly) (d := qa_sF (qs_c st op ky r i (go 7) (go 8)) n) hn hS hr hsq (by omega)
            obtain ⟨a, ha, ea⟩ := qi_G10 hgo
            have hd : qi_Bs n (qa_sF (qs_c st op ky r i (go 7) (go 8)) n) := qi_Bs_sF (by omega) _
            have K174 : ∀ q, qi_Bd (k + 5) q → (∀ post : Int32 → SY → Prop, wY_onPreaccept_135 post (nI r) (nI i) (nI f) b (nI (r * 24 + i)) (qa_sF (qs_c st op ky r i (go 7) (go 8)) n) q (go 9) (go 8) (go 7) (nI (r * 24 + i)) S (nI kk) (nI pp) lost dn st op ky va sq de ba rb ph re rs ce ly ll po go → wY_onPreaccept_56 post (nI r) (nI i) (nI f) b (nI (r * 24 + i)) S (nI kk) (nI pp) lost dn st op ky va sq de ba rb ph re rs ce ly ll po go) →
                wX_onPreAccept_174 Q (nI r) (nI i) (nI f) b (nI (r * 24 + i)) (qa_sF (qs_c st op ky r i (go 7) (go 8)) n) q (nI (r * 24 + i)) (nI n) (nI kk) (nI pp) up lost vis dpt hgt ons st (upd op (r * 24 + i) (go 7)) (upd ky (r * 24 + i) (go 8)) (upd va (r * 24 + i) (go 9)) sq de ba rb ph re rs li ll ce po go ord low edg pth pnd mem nds := by
              intro q hq hY
              have hdd : qi_Bs n (go 11 ||| qa_sF (qs_c st op ky r i (go 7) (go 8)) n) := qi_Bs_or (qi_G11 hgo) hd
              have H1 := qi_I_ba (x := r * 24 + i) (b := b) (qi_I_w (s := 1) (p := 0) (x := r * 24 + i) H5 hx (qi_ne4 hs) (by decide) (fun z => absurd rfl z) (qi_G7 hgo) (qi_G8 hgo) hq hdd) hb5
              obtain ⟨po', lost', p1, xs, ys⟩ := qs_pao (k := k + 5) (n := n) (kk := kk) (pp := pp) (up := up) (lost := lost) (vis := vis) (dpt := dpt) (hgt := hgt) (ons := ons) (st := upd st (r * 24 + i) 1) (op := upd op (r * 24 + i) (go 7)) (ky := upd ky (r * 24 + i) (go 8)) (va := upd va (r * 24 + i) (go 9)) (sq := upd sq (r * 24 + i) q) (de := upd de (r * 24 + i) (go 11 ||| qa_sF (qs_c st op ky r i (go 7) (go 8)) n)) (ba := upd ba (r * 24 + i) b) (rb := upd rb (r * 24 + i) b) (ph := upd ph (r * 24 + i) 0) (re := upd re (r * 24 + i) 0) (rs := rs) (li := li) (ll := ll) (ce := ce) (po := po) (go := go) (ord := ord) (low := low) (edg := edg) (pth := pth) (pnd := pnd) (mem := mem) (nds := nds) (S := S) (dn := dn) (ly := ly) hp hn (b := b) hr hf hi hpo5 hb5 (by rw [pk_us]; exact hq) (by rw [pk_us]; exact hdd)
              unfold wX_onPreAccept_174
              refine qw_sa (r * 24 + i) hx (by omega) ?_
              refine qw_sa (r * 24 + i) hx (by omega) ?_
              refine qw_sa (r * 24 + i) hx (by omega) ?_
              refine qw_sa (r * 24 + i) hx (by omega) ?_
              refine qw_sa (r * 24 + i) hx (by omega) ?_
              refine qx_endr hx ?_
              refine xs _ ?_
              refine CW2 3 _ (fun post h => ?_) _ (qz_in (qi_I_po H1 p1))
              refine hY post ?_
              unfold wY_onPreaccept_135
              rw [Int32.or_comm (qa_sF (qs_c st op ky r i (go 7) (go 8)) n) (go 11)]
              refine qy_write hx ?_
              refine qw_sa (r * 24 + i) hx (by omega) ?_
              refine qw_sa (r * 24 + i) hx (by omega) ?_
              refine qy_round hx ?_
              unfold wY_onPreaccept_174
              exact ys _ h
            unfold wX_onPreAccept_86
            refine qx_lset hn hr (by omega) ?_
            refine xq _ ?_
            refine qx_setc hx ?_
            have Y56 : ∀ post : Int32 → SY → Prop, ((nI (g + 1) ≤ go 10 → wY_onPreaccept_135 post (nI r) (nI i) (nI f) b (nI (r * 24 + i)) (qa_sF (qs_c st op ky r i (go 7) (go 8)) n) (go 10) (go 9) (go 8) (go 7) (nI (r * 24 + i)) S (nI kk) (nI pp) lost dn st op ky va sq de ba rb ph re rs ce ly ll po go) ∧
                (¬ nI (g + 1) ≤ go 10 → wY_onPreaccept_135 post (nI r) (nI i) (nI f) b (nI (r * 24 + i)) (qa_sF (qs_c st op ky r i (go 7) (go 8)) n) (nI (g + 1)) (go 9) (go 8) (go 7) (nI (r * 24 + i)) S (nI kk) (nI pp) lost dn st op ky va sq de ba rb ph re rs ce ly ll po go)) → wY_onPreaccept_56 post (nI r) (nI i) (nI f) b (nI (r * 24 + i)) S (nI kk) (nI pp) lost dn st op ky va sq de ba rb ph re rs ce ly ll po go := by
              intro post h
              unfold wY_onPreaccept_56
              refine qy_lset hn hS hr (by omega) hop ?_
              exact yq _ h
            by_cases hle : a ≤ g + 1
            · refine br_t (by rw [ea]; exact nI_le hle (by omega)) ?_
              refine K174 (nI (g + 1)) ⟨g + 1, by omega, rfl⟩ (fun post h => Y56 post ?_)
              by_cases heq : a = g + 1
              · refine br_t (by rw [ea, heq]; exact Int32.le_refl _) ?_
                rw [ea, heq]
                exact h
              · exact br_f (by rw [ea]; exact nI_ge (by omega) (by omega)) h
            · refine br_f (by rw [ea]; exact nI_ge (by omega) (by omega)) ?_
              refine K174 (go 10) ⟨a, by omega, ea⟩ (fun post h => Y56 post ?_)
              exact br_t (by rw [ea]; exact nI_le (by omega) (by omega)) h
          by_cases h2 : st (r * 24 + i) = 2
          · exact br_t h2 (qw_in (r * 24 + i) rfl hx (by omega) (br_f (fun e => h22 ⟨h2, e⟩) K86))
          · exact br_f h2 K86
      by_cases h1 : st (r * 24 + i) = 1
      · exact br_t h1 (qw_in (r * 24 + i) rfl hx (by omega) (br_f (fun e => h11 ⟨h1, e⟩) K61))
      · exact br_f h1 K61
end
theorem qd_b7 : ∀ i, i < 32 → bt 7 i = decide (i < 3) := by decide +kernel
theorem qd_77 {v : Int32} {r : Nat} (hv : qi_Bs 3 v) (hr : r < 3) : (v &&& (7 &&& (((1 : Int32) <<< (nI r &&& 31)) ^^^ (-1)))) = (7 &&& (((1 : Int32) <<< (nI r &&& 31)) ^^^ (-1))) ↔ (v ||| ((1 : Int32) <<< (nI r &&& 31))) = 7 := by
  constructor
  · intro h
    apply b_ext
    intro j hj
    have h1 := congrArg (fun z => bt z j) h
    simp only [b_and, qa_clr 7 (show r < 32 by omega), qd_b7 j hj] at h1
    rw [qa_orb v (by omega), qd_b7 j hj]
    by_cases h3 : j < 3
    · by_cases e : j = r
      · simp [e, hr]
      · simp [h3, e] at h1 ⊢
        exact h1
    · have e : ¬ j = r := by omega
      rw [hv j (by omega)]
      simp [h3, e]
  · intro h
    apply b_ext
    intro j hj
    have h1 := congrArg (fun z => bt z j) h
    simp only [qa_orb v (show r < 32 by omega), qd_b7 j hj] at h1
    rw [b_and, qa_clr 7 (by omega), qd_b7 j hj]
    by_cases h3 : j < 3
    · by_cases e : j = r
      · simp [e]
      · simp [h3, e] at h1 ⊢
        exact h1
    · simp [h3]
theorem qd_bit3 {f : Nat} (hf : f < 3) : qi_Bs 3 ((1 : Int32) <<< (nI f &&& 31)) := fun j hj => by
  rw [qa_one (by omega)]
  have e : ¬ j = f := by omega
  simp [e]
section
variable {n kk pp : Nat} {up lost vis dpt hgt ons : Int32} {st op ky va sq de ba rb ph re rs li ll ce po go ord low edg pth pnd mem nds : Nat → Int32} {S : Int32} {dn ly : Nat → Int32}
theorem qh_mrg {k : Nat} (H : qi_I k n kk pp S up dn st op ky sq de ba ph re rs li ly ll po go) {r i : Nat} (hr : r < 3) (hi : i < n) (hs : st (r * 24 + i) < 3) {Q : Int32 → SX → Prop}
    (C : ∀ u' v', i_Rel k u' v' → (∀ post : Int32 → SY → Prop, post 6 v' → wY_onPreacceptOk_133 post (nI r) (nI i) (nI (r * 24 + i)) S (nI kk) (nI pp) lost dn st op ky va sq de ba rb ph re rs ce ly ll po go) → Q 6 u') : wpX_proposeMerged (fun u => Q 6 u) (nI n, nI kk, nI pp, up, lost, vis, dpt, hgt, ons, st, op, ky, va, sq, de, ba, rb, ph, re, rs, li, ll, ce, po, go, ord, low, edg, pth, pnd, mem, nds) (nI r) (nI i) := by
  have H0 := H
  obtain ⟨⟨hn3, hn, hkk, hp, hS⟩, hup, hop, hky, hsq, hde, hba, hre, hph, hrs, hli, hpo, hgo⟩ := H0
  have hx : r * 24 + i < 72 := by omega
  have K : ∀ q, qi_Bd k q → (∀ post : Int32 → SY → Prop, wY_onPreacceptOk_167 post (nI r) (nI i) (nI (r * 24 + i)) q S (nI kk) (nI pp) lost dn st op ky va sq de ba rb ph re rs ce ly ll po go → wY_onPreacceptOk_133 post (nI r) (nI i) (nI (r * 24 + i)) S (nI kk) (nI pp) lost dn st op ky va sq de ba rb ph re rs ce ly ll po go) → wX_proposeMerged_39 (fun u => Q 6 u) (nI r) (nI i) (nI (r * 24 + i)) q (nI n) (nI kk) (nI pp) up lost vis dpt hgt ons st op ky va sq de ba rb ph re rs li ll ce po go ord low edg pth pnd mem nds := by
    intro q hq hY
    have hd : qi_Bs n (de (r * 24 + i) ||| go 11) := qi_Bs_or (hde _ hx) (qi_G11 hgo)
    obtain ⟨po', lost', p1, xs, ys⟩ := qs_prop (k := k) (n := n) (kk := kk) (pp := pp) (up := up) (lost := lost) (vis := vis) (dpt := dpt) (hgt := hgt) (ons := ons) (st := st) (op := op) (ky := ky) (va := va) (sq := sq) (de := de) (ba := ba) (rb := rb) (ph := ph) (re := re) (rs := rs) (li := li) (ll := ll) (ce := ce) (po := po) (go := go) (ord := ord) (low := low) (edg := edg) (pth := pth) (pnd := pnd) (mem := mem) (nds := nds) (S := S) (dn := dn) (ly := ly) (o := op (r * 24 + i)) (y := ky (r * 24 + i)) (v := va (r * 24 + i)) (q := q) (d := de (r * 24 + i) ||| go 11) hp hn hr hi hpo (hba _ hx) (hop _ hx) (hky _ hx) hq hd
    unfold wX_proposeMerged_39
    rw [nI_clamp (n := r * 24 + i) (by omega)]
    refine qw_in (r * 24 + i) rfl hx (by omega) (nm_e ?_)
    refine qw_in (r * 24 + i) rfl hx (by omega) (qw_in (r * 24 + i) rfl hx (by omega) (qw_in (r * 24 + i) rfl hx (by omega) ?_))
    refine xs _ ?_
    refine C _ _ (qz_in (qi_I_po (qi_I_w (s := 2) (p := 3) (x := r * 24 + i) H hx (qi_ne4 hs) (by decide) (fun _ => by decide) (hop _ hx) (hky _ hx) hq hd) p1)) (fun post h => hY post ?_)
    unfold wY_onPreacceptOk_167
    rw [nI_clamp (n := r * 24 + i) (by omega)]
    refine qw_in (r * 24 + i) rfl hx (by omega) (qw_in (r * 24 + i) rfl hx (by omega) (qw_in (r * 24 + i) rfl hx (by omega) (qw_in (r * 24 + i) rfl hx (by omega) ?_)))
    exact ys _ h
  unfold wpX_proposeMerged
  refine nm_r (e' := nI (r * 24 + i)) (qw_ix r i) ?_
  rw [nI_clamp (n := r * 24 + i) (by omega)]
  refine qw_in (r * 24 + i) rfl hx (by omega) ?_
  by_cases hle : go 10 ≤ sq (r * 24 + i)
  · refine br_t hle (qw_in (r * 24 + i) rfl hx (by omega) ?_)
    refine K (sq (r * 24 + i)) (hsq _ hx) (fun post h => ?_)
    unfold wY_onPreacceptOk_133
    rw [nI_clamp (n := r * 24 + i) (by omega)]
    exact qw_in (r * 24 + i) rfl hx (by omega) (br_t hle (qw_in (r * 24 + i) rfl hx (by omega) h))
  · refine br_f hle ?_
    refine K (go 10) (qi_G10 hgo) (fun post h => ?_)
    unfold wY_onPreacceptOk_133
    rw [nI_clamp (n := r * 24 + i) (by omega)]
    exact qw_in (r * 24 + i) rfl hx (by omega) (br_f hle h)
theorem qh_pok {k : Nat} (hk : k ≤ 2563) (H : qi_I k n kk pp S up dn st op ky sq de ba ph re rs li ly ll po go) {r i f : Nat} (hr : r < 3) (hi : i < n) (hf : f < 3) {b : Int32} (hb : qi_Bd k b) {Q : Int32 → SX → Prop}
    (C : ∀ q u' v', i_Rel k u' v' → (∀ post : Int32 → SY → Prop, post q v' → ((st (r * 24 + i) < 3 → wY_deliver_149 post 2 (nI f) (nI r) (nI i) b (nI (r * 24 + i)) 0 S (nI kk) (nI pp) lost dn st op ky va sq de ba rb ph re rs ce ly ll po go) ∧ (¬ st (r * 24 + i) < 3 → wY_deliver_149 post 2 (nI f) (nI r) (nI i) b (nI (r * 24 + i)) 1 S (nI kk) (nI pp) lost dn st op ky va sq de ba rb ph re rs ce ly ll po go))) → Q q u') : wpX_onPreAcceptOk Q (nI n, nI kk, nI pp, up, lost, vis, dpt, hgt, ons, st, op, ky, va, sq, de, ba, rb, ph, re, rs, li, ll, ce, po, go, ord, low, edg, pth, pnd, mem, nds) (nI r) (nI i) (nI f) b := by
  have H0 := H
  obtain ⟨⟨hn3, hn, hkk, hp, hS⟩, hup, hop, hky, hsq, hde, hba, hre, hph, hrs, hli, hpo, hgo⟩ := H0
  have hx : r * 24 + i < 72 := by omega
  have CW : ∀ q v', (∀ post : Int32 → SY → Prop, post q v' → wpY_onPreacceptOk post (S, nI kk, nI pp, lost, dn, st, op, ky, va, sq, de, ba, rb, ph, re, rs, ce, ly, ll, po, go) (nI r) (nI i) (nI f) b) → ∀ u', i_Rel k u' v' → Q q u' := fun q v' hz u' hR =>
    C q u' v' hR (fun post h => br_c (fun _ => qy_149n (by decide) (by decide) (by decide) (by
      unfold wY_deliver_217
      exact br_f (by decide) (br_t rfl (hz _ h)))) (fun _ => qy_149n (by decide) (by decide) (by decide) (by
      unfold wY_deliver_217
      exact br_f (by decide) (br_t rfl (hz _ h)))))
  unfold wpX_onPreAcceptOk
  refine nm_r (e' := nI (r * 24 + i)) (qw_ix r i) ?_
  rw [nI_clamp (n := r * 24 + i) (by omega)]
  refine qw_in (r * 24 + i) rfl hx (by omega) ?_
  by_cases h2 : ph (r * 24 + i) = 2
  · refine br_t h2 (qw_in (r * 24 + i) rfl hx (by omega) ?_)
    by_cases hbb : b = ba (r * 24 + i)
    · refine br_t hbb ?_
      have hs : st (r * 24 + i) < 3 := hph _ hx (by rw [h2]; decide)
      have CW2 : ∀ q v', (∀ post : Int32 → SY → Prop, post q v' → ((b = 0 → (vp_in (nI (r * 24 + i)) 72 ∧ ((((re (r * 24 + i)) >>> (nI f &&& 31)) &&& 1) = 0 → wY_onPreacceptOk_54 post (nI r) (nI i) (nI f) b (nI (r * 24 + i)) S (nI kk) (nI pp) lost dn st op ky va sq de ba rb ph re rs ce ly ll po go) ∧ (¬ (((re (r * 24 + i)) >>> (nI f &&& 31)) &&& 1) = 0 → post 1 (S, nI kk, nI pp, lost, dn, st, op, ky, va, sq, de, ba, rb, ph, re, rs, ce, ly, ll, po, go)))) ∧ (¬ b = 0 → wY_onPreacceptOk_54 post (nI r) (nI i) (nI f) b (nI (r * 24 + i)) S (nI kk) (nI pp) lost dn st op ky va sq de ba rb ph re rs ce ly ll po go))) → ∀ u', i_Rel k u' v' → Q q u' := fun q v' hz u' hR =>
        CW q v' (fun post h => by
          unfold wpY_onPreacceptOk
          refine nm_r (e' := nI (r * 24 + i)) (qw_ix r i) ?_
          rw [nI_clamp (n := r * 24 + i) (by omega)]
          refine qw_in (r * 24 + i) rfl hx (by omega) (br_t h2 (qw_in (r * 24 + i) rfl hx (by omega) (br_t hbb ?_)))
          exact hz post h) u' hR
      obtain ⟨bb, hbl, eb⟩ := hb
      by_cases hb0 : bb = 0
      · have e0 : b = 0 := by rw [eb, hb0]; rfl
        refine br_t (by rw [e0]; exact Int32.le_refl _) (qw_in (r * 24 + i) rfl hx (by omega) ?_)
        cases hbt : bt (re (r * 24 + i)) f
        · refine qa_t0 (by omega) hbt (qw_in (r * 24 + i) rfl hx (by omega) ?_)
          have CW3 : ∀ q v', (∀ post : Int32 → SY → Prop, post q v' → wY_onPreacceptOk_54 post (nI r) (nI i) (nI f) b (nI (r * 24 + i)) S (nI kk) (nI pp) lost dn st op ky va sq de ba rb ph re rs ce ly ll po go) → ∀ u', i_Rel k u' v' → Q q u' := fun q v' hz u' hR =>
            CW2 q v' (fun post h => br_t e0 ⟨vp_in_nI hx (by omega), qa_s0 (by omega) hbt (hz post h)⟩) u' hR
          by_cases hg : go 10 = sq (r * 24 + i) ∧ go 11 = de (r * 24 + i)
          · refine br_t hg.1 (qw_in (r * 24 + i) rfl hx (by omega) (br_t hg.2 (qw_in (r * 24 + i) rfl hx (by omega) ⟨vp_in_nI hx (by omega), nm_e (nm_e (qw_in (r * 24 + i) rfl hx (by omega) ?_))⟩)))
            rw [pk_us]
            have hv : qi_Bs 3 (re (r * 24 + i) ||| ((1 : Int32) <<< (nI f &&& 31))) := qi_Bs_or (hre _ hx) (qd_bit3 hf)
            have H1 := qi_I_re (x := r * 24 + i) H hv
            by_cases h7 : ((re (r * 24 + i) ||| ((1 : Int32) <<< (nI f &&& 31))) ||| ((1 : Int32) <<< (nI r &&& 31))) = 7
            · obtain ⟨po', lost', p1, xs, ys⟩ := qs_dec (k := k) (n := n) (kk := kk) (pp := pp) (up := up) (lost := lost) (vis := vis) (dpt := dpt) (hgt := hgt) (ons := ons) (st := st) (op := op) (ky := ky) (va := va) (sq := sq) (de := de) (ba := ba) (rb := rb) (ph := ph) (re := upd re (r * 24 + i) (re (r * 24 + i) ||| ((1 : Int32) <<< (nI f &&& 31)))) (rs := rs) (li := li) (ll := ll) (ce := ce) (po := po) (go := go) (ord := ord) (low := low) (edg := edg) (pth := pth) (pnd := pnd) (mem := mem) (nds := nds) (S := S) (dn := dn) (ly := ly) hp hn hr hi hpo (hop _ hx) (hky _ hx) (hsq _ hx) (hde _ hx)
              refine br_t ((qd_77 hv hr).mpr h7) ?_
              refine xs _ ?_
              refine CW3 8 _ (fun post h => ?_) _ (qz_in (qi_I_po (qi_I_sp (s := 3) (p := 0) (x := r * 24 + i) H1 hx (qi_ne4 hs) (by decide) (fun z => absurd rfl z)) p1))
              unfold wY_onPreacceptOk_54
              rw [nI_clamp (n := r * 24 + i) (by omega)]
              refine br_t e0 (qw_in (r * 24 + i) rfl hx (by omega) (br_t hg.1 (qw_in (r * 24 + i) rfl hx (by omega) (br_t hg.2 (qw_in (r * 24 + i) rfl hx (by omega) ⟨vp_in_nI hx (by omega), nm_e (qw_in (r * 24 + i) rfl hx (by omega) ?_)⟩)))))
              rw [pk_us]
              refine br_t h7 ?_
              exact ys _ h
            · refine br_f (fun z => h7 ((qd_77 hv hr).mp z)) ?_
              refine CW3 5 _ (fun post h => ?_) _ (qz_in H1)
              unfold wY_onPreacceptOk_54
              rw [nI_clamp (n := r * 24 + i) (by omega)]
              refine br_t e0 (qw_in (r * 24 + i) rfl hx (by omega) (br_t hg.1 (qw_in (r * 24 + i) rfl hx (by omega) (br_t hg.2 (qw_in (r * 24 + i) rfl hx (by omega) ⟨vp_in_nI hx (by omega), nm_e (qw_in (r * 24 + i) rfl hx (by omega) ?_)⟩)))))
              rw [pk_us]
              exact br_f h7 h
          · have K97 : wX_onPreAcceptOk_97 Q (nI r) (nI i) (nI n) (nI kk) (nI pp) up lost vis dpt hgt ons st op ky va sq de ba rb ph re rs li ll ce po go ord low edg pth pnd mem nds := by
              unfold wX_onPreAcceptOk_97
              refine qh_mrg H hr hi hs (Q := Q) (fun u' v' hR hY => ?_)
              refine CW3 6 v' (fun post h => ?_) u' hR
              unfold wY_onPreacceptOk_54
              rw [nI_clamp (n := r * 24 + i) (by omega)]
              refine br_t e0 (qw_in (r * 24 + i) rfl hx (by omega) ?_)
              by_cases hg1 : go 10 = sq (r * 24 + i)
              · exact br_t hg1 (qw_in (r * 24 + i) rfl hx (by omega) (br_f (fun z => hg ⟨hg1, z⟩) (hY post h)))
              · exact br_f hg1 (hY post h)
            by_cases hg1 : go 10 = sq (r * 24 + i)
            · exact br_t hg1 (qw_in (r * 24 + i) rfl hx (by omega) (br_f (fun z => hg ⟨hg1, z⟩) K97))
            · exact br_f hg1 K97
        · refine qa_t1 (by omega) hbt ?_
          refine CW2 1 _ (fun post h => ?_) _ (qz_in H)
          exact br_t e0 ⟨vp_in_nI hx (by omega), qa_s1 (by omega) hbt h⟩
      · have e0 : ¬ b = 0 := by rw [eb]; exact nI_ne0 (by omega) (by omega)
        refine br_f (by rw [eb]; exact nI_nle (by omega) (by omega)) ?_
        refine qh_mrg H hr hi hs (Q := Q) (fun u' v' hR hY => ?_)
        refine CW2 6 v' (fun post h => br_f e0 ?_) u' hR
        unfold wY_onPreacceptOk_54
        exact br_f e0 (hY post h)
    · refine br_f hbb ?_
      refine CW 1 _ (fun post h => ?_) _ (qz_in H)
      unfold wpY_onPreacceptOk
      refine nm_r (e' := nI (r * 24 + i)) (qw_ix r i) ?_
      rw [nI_clamp (n := r * 24 + i) (by omega)]
      exact qw_in (r * 24 + i) rfl hx (by omega) (br_t h2 (qw_in (r * 24 + i) rfl hx (by omega) (br_f hbb h)))
  · refine br_f h2 ?_
    refine CW 1 _ (fun post h => ?_) _ (qz_in H)
    unfold wpY_onPreacceptOk
    refine nm_r (e' := nI (r * 24 + i)) (qw_ix r i) ?_
    rw [nI_clamp (n := r * 24 + i) (by omega)]
    exact qw_in (r * 24 + i) rfl hx (by omega) (br_f h2 h)
end
end
section
/-! PREPARE_OK -/
def qh_E (st op ky va sq de rb go : Nat → Int32) (x : Nat) : Prop := st x = 1 ∧ go 5 = 1 ∧ rb x = 0 ∧ go 6 = 0 ∧ op x = go 7 ∧ ky x = go 8 ∧ va x = go 9 ∧ sq x = go 10 ∧ de x = go 11
section
variable {n kk pp : Nat} {up lost vis dpt hgt ons : Int32} {st op ky va sq de ba rb ph re rs li ll ce po go ord low edg pth pnd mem nds : Nat → Int32}
theorem qx_pf {post : Int32 → Prop} {x : Nat} (hx : x < 72) (h1 : qh_E st op ky va sq de rb go x → post 1) (h0 : ¬ qh_E st op ky va sq de rb go x → post 0) : wpX_perhapsFast post (nI n, nI kk, nI pp, up, lost, vis, dpt, hgt, ons, st, op, ky, va, sq, de, ba, rb, ph, re, rs, li, ll, ce, po, go, ord, low, edg, pth, pnd, mem, nds) (nI x) := by
  unfold wpX_perhapsFast
  dsimp only
  rw [nI_clamp (n := x) (by omega)]
  refine qw_in x rfl hx (by omega) (br_c (fun a1 => ?_) (fun a1 => h0 (fun z => a1 z.1)))
  refine br_c (fun a2 => ?_) (fun a2 => h0 (fun z => a2 z.2.1))
  refine qw_in x rfl hx (by omega) (br_c (fun a3 => ?_) (fun a3 => h0 (fun z => a3 z.2.2.1)))
  refine br_c (fun a4 => ?_) (fun a4 => h0 (fun z => a4 z.2.2.2.1))
  refine qw_in x rfl hx (by omega) (br_c (fun a5 => ?_) (fun a5 => h0 (fun z => a5 z.2.2.2.2.1)))
  refine qw_in x rfl hx (by omega) (br_c (fun a6 => ?_) (fun a6 => h0 (fun z => a6 z.2.2.2.2.2.1)))
  refine qw_in x rfl hx (by omega) (br_c (fun a7 => ?_) (fun a7 => h0 (fun z => a7 z.2.2.2.2.2.2.1)))
  refine qw_in x rfl hx (by omega) (br_c (fun a8 => ?_) (fun a8 => h0 (fun z => a8 z.2.2.2.2.2.2.2.1)))
  exact qw_in x rfl hx (by omega) (br_c (fun a9 => h1 ⟨a1, a2, a3, a4, a5, a6, a7, a8, a9⟩) (fun a9 => h0 (fun z => a9 z.2.2.2.2.2.2.2.2)))
end
section
variable {n kk pp : Nat} {S lost : Int32} {dn st op ky va sq de ba rb ph re rs ce ly ll po go : Nat → Int32}
theorem qy_pf {post : Int32 → SY → Prop} {r i w : Int32} {x : Nat} (hx : x < 72) (h1 : qh_E st op ky va sq de rb go x → wY_onPrepareOk_255 post r i (nI x) w 1 S (nI kk) (nI pp) lost dn st op ky va sq de ba rb ph re rs ce ly ll po go) (h0 : ¬ qh_E st op ky va sq de rb go x → wY_onPrepareOk_255 post r i (nI x) w 0 S (nI kk) (nI pp) lost dn st op ky va sq de ba rb ph re rs ce ly ll po go) : wY_onPrepareOk_124 post r i (nI x) w S (nI kk) (nI pp) lost dn st op ky va sq de ba rb ph re rs ce ly ll po go := by
  have h0' : ¬ qh_E st op ky va sq de rb go x → wY_onPrepareOk_254 post r i (nI x) w S (nI kk) (nI pp) lost dn st op ky va sq de ba rb ph re rs ce ly ll po go := h0
  unfold wY_onPrepareOk_124
  rw [nI_clamp (n := x) (by omega)]
  refine qw_in x rfl hx (by omega) (br_c (fun a1 => ?_) (fun a1 => h0' (fun z => a1 z.1)))
  refine br_c (fun a2 => ?_) (fun a2 => h0' (fun z => a2 z.2.1))
  refine qw_in x rfl hx (by omega) (br_c (fun a3 => ?_) (fun a3 => h0' (fun z => a3 z.2.2.1)))
  refine br_c (fun a4 => ?_) (fun a4 => h0' (fun z => a4 z.2.2.2.1))
  refine qw_in x rfl hx (by omega) (br_c (fun a5 => ?_) (fun a5 => h0' (fun z => a5 z.2.2.2.2.1)))
  refine qw_in x rfl hx (by omega) (br_c (fun a6 => ?_) (fun a6 => h0' (fun z => a6 z.2.2.2.2.2.1)))
  refine qw_in x rfl hx (by omega) (br_c (fun a7 => ?_) (fun a7 => h0' (fun z => a7 z.2.2.2.2.2.2.1)))
  refine qw_in x rfl hx (by omega) (br_c (fun a8 => ?_) (fun a8 => h0' (fun z => a8 z.2.2.2.2.2.2.2.1)))
  exact qw_in x rfl hx (by omega) (br_c (fun a9 => h1 ⟨a1, a2, a3, a4, a5, a6, a7, a8, a9⟩) (fun a9 => h0' (fun z => a9 z.2.2.2.2.2.2.2.2)))
end
section
variable {n kk pp : Nat} {up lost vis dpt hgt ons : Int32} {st op ky va sq de ba rb ph re rs li ll ce po go ord low edg pth pnd mem nds : Nat → Int32} {S : Int32} {dn ly : Nat → Int32}
/-- PROPOSE as an outcome with the relation -/
theorem qh_prop {k : Nat} (H : qi_I k n kk pp S up dn st op ky sq de ba ph re rs li ly ll po go) {r i : Nat} (hr : r < 3) (hi : i < n) (hs : st (r * 24 + i) < 3) {o y v q d : Int32} (ho : qi_Bd 3 o) (hy : qi_Bd 7 y) (hq : qi_Bd k q) (hd : qi_Bs n d) {Q : SX → Prop}
    (C : ∀ u' v', i_Rel k u' v' → (∀ post : Int32 → SY → Prop, post 6 v' → wpY_propose post (S, nI kk, nI pp, lost, dn, st, op, ky, va, sq, de, ba, rb, ph, re, rs, ce, ly, ll, po, go) (nI r) (nI i) o y v q d) → Q u') : wpX_propose Q (nI n, nI kk, nI pp, up, lost, vis, dpt, hgt, ons, st, op, ky, va, sq, de, ba, rb, ph, re, rs, li, ll, ce, po, go, ord, low, edg, pth, pnd, mem, nds) (nI r) (nI i) o y v q d := by
  have H0 := H
  obtain ⟨⟨hn3, hn, hkk, hp, hS⟩, hup, hop, hky, hsq, hde, hba, hre, hph, hrs, hli, hpo, hgo⟩ := H0
  have hx : r * 24 + i < 72 := by omega
  obtain ⟨po', lost', p1, xs, ys⟩ := qs_prop (k := k) (n := n) (kk := kk) (pp := pp) (up := up) (lost := lost) (vis := vis) (dpt := dpt) (hgt := hgt) (ons := ons) (st := st) (op := op) (ky := ky) (va := va) (sq := sq) (de := de) (ba := ba) (rb := rb) (ph := ph) (re := re) (rs := rs) (li := li) (ll := ll) (ce := ce) (po := po) (go := go) (ord := ord) (low := low) (edg := edg) (pth := pth) (pnd := pnd) (mem := mem) (nds := nds) (S := S) (dn := dn) (ly := ly) (o := o) (y := y) (v := v) (q := q) (d := d) hp hn hr hi hpo (hba _ hx) ho hy hq hd
  refine xs _ ?_
  exact C _ _ (qz_in (qi_I_po (qi_I_w (s := 2) (p := 3) (x := r * 24 + i) H hx (qi_ne4 hs) (by decide) (fun _ => by decide) ho hy hq hd) p1)) ys
/-- OPEN likewise -/
theorem qh_open {k : Nat} (hk : k + 5 ≤ 2563) (H : qi_I k n kk pp S up dn st op ky sq de ba ph re rs li ly ll po go) {r i : Nat} (hr : r < 3) (hi : i < n) (hs : st (r * 24 + i) < 3) {o y v : Int32} (ho : qi_Bd 3 o) (hy : qi_Bd 7 y) {Q : SX → Prop}
    (C : ∀ u' v', i_Rel (k + 5) u' v' → (∀ post : Int32 → SY → Prop, post 7 v' → wpY_open post (S, nI kk, nI pp, lost, dn, st, op, ky, va, sq, de, ba, rb, ph, re, rs, ce, ly, ll, po, go) (nI r) (nI i) o y v) → Q u') : wpX_openRound Q (nI n, nI kk, nI pp, up, lost, vis, dpt, hgt, ons, st, op, ky, va, sq, de, ba, rb, ph, re, rs, li, ll, ce, po, go, ord, low, edg, pth, pnd, mem, nds) (nI r) (nI i) o y v := by
  have H5 := qi_I_m (k' := k + 5) (by omega) H
  have H0 := H
  obtain ⟨⟨hn3, hn, hkk, hp, hS⟩, hup, hop, hky, hsq, hde, hba, hre, hph, hrs, hli, hpo, hgo⟩ := H0
  have hx : r * 24 + i < 72 := by omega
  obtain ⟨q, d, po', lost', hq, hd, p1, xs, ys⟩ := qs_open (k := k) (n := n) (kk := kk) (pp := pp) (up := up) (lost := lost) (vis := vis) (dpt := dpt) (hgt := hgt) (ons := ons) (st := st) (op := op) (ky := ky) (va := va) (sq := sq) (de := de) (ba := ba) (rb := rb) (ph := ph) (re := re) (rs := rs) (li := li) (ll := ll) (ce := ce) (po := po) (go := go) (ord := ord) (low := low) (edg := edg) (pth := pth) (pnd := pnd) (mem := mem) (nds := nds) (S := S) (dn := dn) (ly := ly) (o := o) (y := y) (v := v) hk hp hn hS hr hi hop hsq (qi_P_m (by omega) hpo) (qi_Bd_m (by omega) (hba _ hx)) ho hy
  refine xs _ ?_
  exact C _ _ (qz_in (qi_I_po (qi_I_w (s := 1) (p := 2) (x := r * 24 + i) H5 hx (qi_ne4 hs) (by decide) (fun _ => by decide) ho hy hq hd) p1)) ys
theorem qh_own {k : Nat} (H : qi_I k n kk pp S up dn st op ky sq de ba ph re rs li ly ll po go) {r i : Nat} (hr : r < 3) (hi : i < n) (hs : st (r * 24 + i) < 3) {Q : SX → Prop}
    (C : ∀ u' v', i_Rel k u' v' → (∀ post : Int32 → SY → Prop, post 6 v' → wpY_propose post (S, nI kk, nI pp, lost, dn, st, op, ky, va, sq, de, ba, rb, ph, re, rs, ce, ly, ll, po, go) (nI r) (nI i) (op (r * 24 + i)) (ky (r * 24 + i)) (va (r * 24 + i)) (sq (r * 24 + i)) (de (r * 24 + i))) → Q u') : wpX_proposeOwn Q (nI n, nI kk, nI pp, up, lost, vis, dpt, hgt, ons, st, op, ky, va, sq, de, ba, rb, ph, re, rs, li, ll, ce, po, go, ord, low, edg, pth, pnd, mem, nds) (nI r) (nI i) := by
  have H0 := H
  obtain ⟨⟨hn3, hn, hkk, hp, hS⟩, hup, hop, hky, hsq, hde, hba, hre, hph, hrs, hli, hpo, hgo⟩ := H0
  have hx : r * 24 + i < 72 := by omega
  unfold wpX_proposeOwn
  refine nm_r (e' := nI (r * 24 + i)) (qw_ix r i) ?_
  rw [nI_clamp (n := r * 24 + i) (by omega)]
  refine qw_in (r * 24 + i) rfl hx (by omega) (qw_in (r * 24 + i) rfl hx (by omega) (qw_in (r * 24 + i) rfl hx (by omega) (qw_in (r * 24 + i) rfl hx (by omega) (qw_in (r * 24 + i) rfl hx (by omega) ?_))))
  exact qh_prop H hr hi hs (hop _ hx) (hky _ hx) (hsq _ hx) (hde _ hx) (fun u' v' hR hY => qz_eta u' (C u' v' hR hY))
theorem qh_prk {k : Nat} (hk : k + 5 ≤ 2563) (H : qi_I k n kk pp S up dn st op ky sq de ba ph re rs li ly ll po go) {r i f : Nat} (hr : r < 3) (hi : i < n) (hf : f < 3) {b : Int32} (hb : qi_Bd k b) {Q : Int32 → SX → Prop}
    (C : ∀ q u' v', i_Rel (k + 5) u' v' → (∀ post : Int32 → SY → Prop, post q v' → ((st (r * 24 + i) < 3 → wY_deliver_149 post 7 (nI f) (nI r) (nI i) b (nI (r * 24 + i)) 0 S (nI kk) (nI pp) lost dn st op ky va sq de ba rb ph re rs ce ly ll po go) ∧ (¬ st (r * 24 + i) < 3 → wY_deliver_149 post 7 (nI f) (nI r) (nI i) b (nI (r * 24 + i)) 1 S (nI kk) (nI pp) lost dn st op ky va sq de ba rb ph re rs ce ly ll po go))) → Q q u') : wpX_onPrepareOk Q (nI n, nI kk, nI pp, up, lost, vis, dpt, hgt, ons, st, op, ky, va, sq, de, ba, rb, ph, re, rs, li, ll, ce, po, go, ord, low, edg, pth, pnd, mem, nds) (nI r) (nI i) b := by
  have H5 := qi_I_m (k' := k + 5) (by omega) H
  have H0 := H
  obtain ⟨⟨hn3, hn, hkk, hp, hS⟩, hup, hop, hky, hsq, hde, hba, hre, hph, hrs, hli, hpo, hgo⟩ := H0
  have hx : r * 24 + i < 72 := by omega
  have hgo5 : qi_G (k + 5) n go := qi_G_m (by omega) hgo
  have CW : ∀ q v', (∀ post : Int32 → SY → Prop, post q v' → wpY_onPrepareOk post (S, nI kk, nI pp, lost, dn, st, op, ky, va, sq, de, ba, rb, ph, re, rs, ce, ly, ll, po, go) (nI r) (nI i) b) → ∀ u', i_Rel (k + 5) u' v' → Q q u' := fun q v' hz u' hR =>
    C q u' v' hR (fun post h => br_c (fun _ => qy_149n (by decide) (by decide) (by decide) (by
      unfold wY_deliver_217
      exact br_f (by decide) (br_f (by decide) (br_t rfl (hz _ h))))) (fun _ => qy_149n (by decide) (by decide) (by decide) (by
      unfold wY_deliver_217
      exact br_f (by decide) (br_f (by decide) (br_t rfl (hz _ h))))))
  unfold wpX_onPrepareOk
  refine nm_r (e' := nI (r * 24 + i)) (qw_ix r i) ?_
  rw [nI_clamp (n := r * 24 + i) (by omega)]
  refine qw_in (r * 24 + i) rfl hx (by omega) ?_
  by_cases h1 : ph (r * 24 + i) = 1
  · refine br_t h1 (qw_in (r * 24 + i) rfl hx (by omega) ?_)
    by_cases hbb : b = ba (r * 24 + i)
    · refine br_t hbb (qw_in (r * 24 + i) rfl hx (by omega) ?_)
      have hs : st (r * 24 + i) < 3 := hph _ hx (by rw [h1]; decide)
      -- the flag 'mine'
      have key : ∀ w : Int32, ((w = 1 ∧ st (r * 24 + i) = 2) ∨ (w = 0 ∧ ¬ st (r * 24 + i) = 2)) → (∀ q v', (∀ post : Int32 → SY → Prop, post q v' → wY_onPrepareOk_48 post (nI r) (nI i) (nI (r * 24 + i)) w S (nI kk) (nI pp) lost dn st op ky va sq de ba rb ph re rs ce ly ll po go) → ∀ u', i_Rel (k + 5) u' v' → Q q u') → wX_onPrepareOk_48 Q (nI r) (nI i) (nI (r * 24 + i)) w (nI n) (nI kk) (nI pp) up lost vis dpt hgt ons st op ky va sq de ba rb ph re rs li ll ce po go ord low edg pth pnd mem nds := by
        intro w hw CK
        by_cases hth : go 5 = 2 ∧ (w = 0 ∨ ¬ go 6 ≤ rb (r * 24 + i))
        · have K94 : wX_onPrepareOk_94 Q (nI r) (nI i) (nI n) (nI kk) (nI pp) up lost vis dpt hgt ons st op ky va sq de ba rb ph re rs li ll ce po go ord low edg pth pnd mem nds := by
            unfold wX_onPrepareOk_94
            refine qh_prop H5 hr hi hs (qi_G7 hgo) (qi_G8 hgo) (qi_G10 hgo5) (qi_G11 hgo) (fun u' v' hR hY => qz_eta (Q := Q 6) u' (CK 6 v' (fun post h => ?_) u' hR))
            have K82 : wY_onPrepareOk_82 post (nI r) (nI i) S (nI kk) (nI pp) lost dn st op ky va sq de ba rb ph re rs ce ly ll po go := by
              unfold wY_onPrepareOk_82
              exact hY _ h
            unfold wY_onPrepareOk_48
            rw [nI_clamp (n := r * 24 + i) (by omega)]
            refine br_t hth.1 ?_
            by_cases hw0 : w = 0
            · exact br_t hw0 K82
            · exact br_f hw0 (qw_in (r * 24 + i) rfl hx (by omega) (br_f (hth.2.resolve_left hw0) K82))
          unfold wX_onPrepareOk_48
          refine br_t hth.1 ?_
          unfold wX_onPrepareOk_65
          rw [nI_clamp (n := r * 24 + i) (by omega)]
          refine br_f (by decide) ?_
          by_cases hw0 : w = 0
          · exact br_t hw0 K94
          · exact br_f hw0 (qw_in (r * 24 + i) rfl hx (by omega) (br_f (hth.2.resolve_left hw0) K94))
        · -- not theirs
          have CK2 : ∀ q v', (∀ post : Int32 → SY → Prop, post q v' → wY_onPrepareOk_124 post (nI r) (nI i) (nI (r * 24 + i)) w S (nI kk) (nI pp) lost dn st op ky va sq de ba rb ph re rs ce ly ll po go) → ∀ u', i_Rel (k + 5) u' v' → Q q u' := fun q v' hz u' hR =>
            CK q v' (fun post h => by
              unfold wY_onPrepareOk_48
              rw [nI_clamp (n := r * 24 + i) (by omega)]
              by_cases h52 : go 5 = 2
              · have hw0 : ¬ w = 0 := fun e => hth ⟨h52, Or.inl e⟩
                have hle : go 6 ≤ rb (r * 24 + i) := Classical.byContradiction (fun e => hth ⟨h52, Or.inr e⟩)
                exact br_t h52 (br_f hw0 (qw_in (r * 24 + i) rfl hx (by omega) (br_t hle (hz post h))))
              · exact br_f h52 (hz post h)) u' hR
          have K152 : (∀ u' v', i_Rel (k + 5) u' v' → (∀ post : Int32 → SY → Prop, post 6 v' → wY_onPrepareOk_267 post (nI r) (nI i) (nI (r * 24 + i)) S (nI kk) (nI pp) lost dn st op ky va sq de ba rb ph re rs ce ly ll po go) → Q 6 u') → wX_onPrepareOk_152 Q (nI r) (nI i) (nI n) (nI kk) (nI pp) up lost vis dpt hgt ons st op ky va sq de ba rb ph re rs li ll ce po go ord low edg pth pnd mem nds := by
            intro CC
            unfold wX_onPrepareOk_152
            refine qh_own H5 hr hi hs (fun u' v' hR hY => qz_eta (Q := Q 6) u' (CC u' v' hR (fun post h => ?_)))
            unfold wY_onPrepareOk_267
            rw [nI_clamp (n := r * 24 + i) (by omega)]
            refine qw_in (r * 24 + i) rfl hx (by omega) (qw_in (r * 24 + i) rfl hx (by omega) (qw_in (r * 24 + i) rfl hx (by omega) (qw_in (r * 24 + i) rfl hx (by omega) (qw_in (r * 24 + i) rfl hx (by omega) ?_))))
            exact hY _ h
          have K138 : wX_onPrepareOk_138 Q (nI r) (nI i) (nI (r * 24 + i)) w (nI n) (nI kk) (nI pp) up lost vis dpt hgt ons st op ky va sq de ba rb ph re rs li ll ce po go ord low edg pth pnd mem nds := by
            unfold wX_onPrepareOk_138
            by_cases hw0 : w = 0
            · refine br_t hw0 ?_
              refine qx_pf hx (fun hE => ?_) (fun hE => ?_)
              · refine br_f (by decide) ?_
                refine K152 (fun u' v' hR hY => CK2 6 v' (fun post h => ?_) u' hR)
                refine qy_pf hx (fun _ => ?_) (fun z => absurd hE z)
                unfold wY_onPrepareOk_255
                exact br_t hw0 (br_f (by decide) (hY post h))
              · refine br_t rfl ?_
                have CK3 : ∀ q v', (∀ post : Int32 → SY → Prop, post q v' → wY_onPrepareOk_255 post (nI r) (nI i) (nI (r * 24 + i)) w 0 S (nI kk) (nI pp) lost dn st op ky va sq de ba rb ph re rs ce ly ll po go) → ∀ u', i_Rel (k + 5) u' v' → Q q u' := fun q v' hz u' hR =>
                  CK2 q v' (fun post h => qy_pf hx (fun z => absurd z hE) (fun _ => hz post h)) u' hR
                rw [nI_clamp (n := r * 24 + i) (by omega)]
                refine qw_in (r * 24 + i) rfl hx (by omega) ?_
                by_cases hs1 : st (r * 24 + i) = 1
                · refine br_t hs1 (qw_in (r * 24 + i) rfl hx (by omega) (qw_in (r * 24 + i) rfl hx (by omega) (qw_in (r * 24 + i) rfl hx (by omega) ?_)))
                  refine qh_open hk H hr hi hs (hop _ hx) (hky _ hx) (fun u' v' hR hY => qz_eta (Q := Q 7) u' (CK3 7 v' (fun post h => ?_) u' hR))
                  unfold wY_onPrepareOk_255
                  rw [nI_clamp (n := r * 24 + i) (by omega)]
                  refine br_t hw0 (br_t rfl (qw_in (r * 24 + i) rfl hx (by omega) (br_t hs1 (qw_in (r * 24 + i) rfl hx (by omega) (qw_in (r * 24 + i) rfl hx (by omega) (qw_in (r * 24 + i) rfl hx (by omega) ?_))))))
                  exact hY _ h
                · refine br_f hs1 ?_
                  by_cases hg1 : go 5 = 1
                  · refine br_t hg1 ?_
                    refine qh_open hk H hr hi hs (qi_G7 hgo) (qi_G8 hgo) (fun u' v' hR hY => qz_eta (Q := Q 7) u' (CK3 7 v' (fun post h => ?_) u' hR))
                    unfold wY_onPrepareOk_255
                    rw [nI_clamp (n := r * 24 + i) (by omega)]
                    refine br_t hw0 (br_t rfl (qw_in (r * 24 + i) rfl hx (by omega) (br_f hs1 (br_t hg1 ?_))))
                    exact hY _ h
                  · refine br_f hg1 ?_
                    refine qh_prop H5 hr hi hs (qi_Bd_0 _) (qi_Bd_0 _) (qi_Bd_0 _) (qi_Bs_0 _) (fun u' v' hR hY => qz_eta (Q := Q 6) u' (CK3 6 v' (fun post h => ?_) u' hR))
                    unfold wY_onPrepareOk_255
                    rw [nI_clamp (n := r * 24 + i) (by omega)]
                    refine br_t hw0 (br_t rfl (qw_in (r * 24 + i) rfl hx (by omega) (br_f hs1 (br_f hg1 ?_))))
                    exact hY _ h
            · refine br_f hw0 ?_
              refine K152 (fun u' v' hR hY => CK2 6 v' (fun post h => ?_) u' hR)
              refine qy_pf hx (fun _ => ?_) (fun _ => ?_)
              · unfold wY_onPrepareOk_255
                exact br_f hw0 (hY post h)
              · unfold wY_onPrepareOk_255
                exact br_f hw0 (hY post h)
          unfold wX_onPrepareOk_48
          by_cases h52 : go 5 = 2
          · have hw0 : ¬ w = 0 := fun e => hth ⟨h52, Or.inl e⟩
            have hle : go 6 ≤ rb (r * 24 + i) := Classical.byContradiction (fun e => hth ⟨h52, Or.inr e⟩)
            refine br_t h52 ?_
            unfold wX_onPrepareOk_65
            rw [nI_clamp (n := r * 24 + i) (by omega)]
            exact br_f (by decide) (br_f hw0 (qw_in (r * 24 + i) rfl hx (by omega) (br_t hle K138)))
          · refine br_f h52 ?_
            unfold wX_onPrepareOk_65
            exact br_t rfl K138
      by_cases hst2 : st (r * 24 + i) = 2
      · refine br_t hst2 (key 1 (Or.inl ⟨rfl, hst2⟩) (fun q v' hz u' hR => CW q v' (fun post h => ?_) u' hR))
        unfold wpY_onPrepareOk
        refine nm_r (e' := nI (r * 24 + i)) (qw_ix r i) ?_
        rw [nI_clamp (n := r * 24 + i) (by omega)]
        exact qw_in (r * 24 + i) rfl hx (by omega) (br_t h1 (qw_in (r * 24 + i) rfl hx (by omega) (br_t hbb (qw_in (r * 24 + i) rfl hx (by omega) (br_t hst2 (hz post h))))))
      · refine br_f hst2 (key 0 (Or.inr ⟨rfl, hst2⟩) (fun q v' hz u' hR => CW q v' (fun post h => ?_) u' hR))
        unfold wpY_onPrepareOk
        refine nm_r (e' := nI (r * 24 + i)) (qw_ix r i) ?_
        rw [nI_clamp (n := r * 24 + i) (by omega)]
        exact qw_in (r * 24 + i) rfl hx (by omega) (br_t h1 (qw_in (r * 24 + i) rfl hx (by omega) (br_t hbb (qw_in (r * 24 + i) rfl hx (by omega) (br_f hst2 (hz post h))))))
    · refine br_f hbb ?_
      refine CW 1 _ (fun post h => ?_) _ (qz_in H5)
      unfold wpY_onPrepareOk
      refine nm_r (e' := nI (r * 24 + i)) (qw_ix r i) ?_
      rw [nI_clamp (n := r * 24 + i) (by omega)]
      exact qw_in (r * 24 + i) rfl hx (by omega) (br_t h1 (qw_in (r * 24 + i) rfl hx (by omega) (br_f hbb h)))
  · refine br_f h1 ?_
    refine CW 1 _ (fun post h => ?_) _ (qz_in H5)
    unfold wpY_onPrepareOk
    refine nm_r (e' := nI (r * 24 + i)) (qw_ix r i) ?_
    rw [nI_clamp (n := r * 24 + i) (by omega)]
    exact qw_in (r * 24 + i) rfl hx (by omega) (br_f h1 h)
end
end
section
/-! deliver, drop, duplicate -/
section
variable {n kk pp : Nat} {up lost vis dpt hgt ons : Int32} {st op ky va sq de ba rb ph re rs li ll ce po go ord low edg pth pnd mem nds : Nat → Int32}
theorem qx_cpy {post : Int32 → SX → Prop} {s : Nat} (hs : s < 64) (h : wX_deliver_14 post (nI s) (nI n) (nI kk) (nI pp) up lost vis dpt hgt ons 1 (nI 12) st op ky va sq de ba rb ph re rs li ll ce po (qd_g po s go 12) ord low edg pth pnd mem nds) : wX_deliver_14 post (nI s) (nI n) (nI kk) (nI pp) up lost vis dpt hgt ons 13 0 st op ky va sq de ba rb ph re rs li ll ce po go ord low edg pth pnd mem nds := by
  have key : ∀ m j, j + m = 12 → wX_deliver_14 post (nI s) (nI n) (nI kk) (nI pp) up lost vis dpt hgt ons (m + 1) (nI j) st op ky va sq de ba rb ph re rs li ll ce po (qd_g po s go j) ord low edg pth pnd mem nds := by
    intro m
    induction m with
    | zero =>
      intro j hj
      have e : j = 12 := by omega
      subst e
      exact h
    | succ m ih =>
      intro j hj
      refine br_f (nI_ge (b := 12) (by omega) (by decide)) ?_
      rw [qw_ix12, nI_clamp (n := s * 12 + j) (by omega)]
      refine qw_in (s * 12 + j) rfl (by omega) (by omega) (qw_sa j (by omega) (by omega) (nm_r (nI_1 j) ?_))
      exact ih (j + 1) (by omega)
  exact key 12 0 rfl
theorem qx_dup {post : Int32 → SX → Prop} {s f : Nat} (hs : s < 64) (hf : f < 64) (h : post (nI f) (nI n, nI kk, nI pp, up, lost, vis, dpt, hgt, ons, st, op, ky, va, sq, de, ba, rb, ph, re, rs, li, ll, ce, qd_d po s f 12, go, ord, low, edg, pth, pnd, mem, nds)) : wX_duplicate_27 post (nI s) (nI f) (nI n) (nI kk) (nI pp) up lost vis dpt hgt ons 13 0 st op ky va sq de ba rb ph re rs li ll ce po go ord low edg pth pnd mem nds := by
  have key : ∀ m j, j + m = 12 → wX_duplicate_27 post (nI s) (nI f) (nI n) (nI kk) (nI pp) up lost vis dpt hgt ons (m + 1) (nI j) st op ky va sq de ba rb ph re rs li ll ce (qd_d po s f j) go ord low edg pth pnd mem nds := by
    intro m
    induction m with
    | zero =>
      intro j hj
      have e : j = 12 := by omega
      subst e
      exact br_t (by decide) h
    | succ m ih =>
      intro j hj
      refine br_f (nI_ge (b := 12) (by omega) (by decide)) ?_
      rw [qw_ix12 s j, nI_clamp (n := s * 12 + j) (by omega)]
      refine qw_in (s * 12 + j) rfl (by omega) (by omega) (qw_st (f * 12 + j) (qw_ix12 f j) (by omega) (by omega) (nm_r (nI_1 j) ?_))
      exact ih (j + 1) (by omega)
  exact key 12 0 rfl
end
section
variable {n kk pp : Nat} {S lost : Int32} {dn st op ky va sq de ba rb ph re rs ce ly ll po go : Nat → Int32}
theorem qy_cpy {post : Int32 → SY → Prop} {s : Nat} (hs : s < 64) (h : wY_deliver_31 post (nI s) S (nI kk) (nI pp) lost 1 (nI 12) dn st op ky va sq de ba rb ph re rs ce ly ll (qd_z po s 12) (qd_g po s go 12)) : wY_deliver_31 post (nI s) S (nI kk) (nI pp) lost 13 0 dn st op ky va sq de ba rb ph re rs ce ly ll po go := by
  have key : ∀ m j, j + m = 12 → wY_deliver_31 post (nI s) S (nI kk) (nI pp) lost (m + 1) (nI j) dn st op ky va sq de ba rb ph re rs ce ly ll (qd_z po s j) (qd_g po s go j) := by
    intro m
    induction m with
    | zero =>
      intro j hj
      have e : j = 12 := by omega
      subst e
      exact h
    | succ m ih =>
      intro j hj
      refine br_f (nI_ge (b := 12) (by omega) (by decide)) ?_
      rw [qw_ix12, nI_clamp (n := s * 12 + j) (by omega), qd_zr j j (Nat.le_refl j)]
      refine qw_in (s * 12 + j) rfl (by omega) (by omega) (qw_sa j (by omega) (by omega) ?_)
      refine ⟨vp_in_nI (by omega) (by omega), nm_e (nm_r (nI_1 j) ?_)⟩
      exact ih (j + 1) (by omega)
  exact key 12 0 rfl
theorem qy_drp {post : Int32 → SY → Prop} {s : Nat} (hs : s < 64) (h : post 0 (S, nI kk, nI pp, lost, dn, st, op, ky, va, sq, de, ba, rb, ph, re, rs, ce, ly, ll, qd_z po s 12, go)) : wY_drop_31 post (nI s) S (nI kk) (nI pp) lost 13 0 dn st op ky va sq de ba rb ph re rs ce ly ll po go := by
  have key : ∀ m j, j + m = 12 → wY_drop_31 post (nI s) S (nI kk) (nI pp) lost (m + 1) (nI j) dn st op ky va sq de ba rb ph re rs ce ly ll (qd_z po s j) go := by
    intro m
    induction m with
    | zero =>
      intro j hj
      have e : j = 12 := by omega
      subst e
      exact br_t (by decide) h
    | succ m ih =>
      intro j hj
      refine br_f (nI_ge (b := 12) (by omega) (by decide)) ?_
      refine qw_st (s * 12 + j) (qw_ix12 s j) (by omega) (by omega) (nm_r (nI_1 j) ?_)
      exact ih (j + 1) (by omega)
  exact key 12 0 rfl
theorem qy_dup {post : Int32 → SY → Prop} {s f : Nat} (hs : s < 64) (hf : f < 64) (h : post (nI f) (S, nI kk, nI pp, lost, dn, st, op, ky, va, sq, de, ba, rb, ph, re, rs, ce, ly, ll, qd_d po s f 12, go)) : wY_duplicate_43 post (nI s) (nI f) S (nI kk) (nI pp) lost 13 0 dn st op ky va sq de ba rb ph re rs ce ly ll po go := by
  have key : ∀ m j, j + m = 12 → wY_duplicate_43 post (nI s) (nI f) S (nI kk) (nI pp) lost (m + 1) (nI j) dn st op ky va sq de ba rb ph re rs ce ly ll (qd_d po s f j) go := by
    intro m
    induction m with
    | zero =>
      intro j hj
      have e : j = 12 := by omega
      subst e
      exact br_t (by decide) h
    | succ m ih =>
      intro j hj
      refine br_f (nI_ge (b := 12) (by omega) (by decide)) ?_
      rw [qw_ix12 s j, nI_clamp (n := s * 12 + j) (by omega)]
      refine qw_in (s * 12 + j) rfl (by omega) (by omega) (qw_st (f * 12 + j) (qw_ix12 f j) (by omega) (by omega) (nm_r (nI_1 j) ?_))
      exact ih (j + 1) (by omega)
  exact key 12 0 rfl
end
section
variable {n kk pp : Nat} {up lost vis dpt hgt ons : Int32} {st op ky va sq de ba rb ph re rs li ll ce po go ord low edg pth pnd mem nds : Nat → Int32} {S : Int32} {dn ly : Nat → Int32}
theorem qv_drop {k : Nat} (hk : k + 5 ≤ 2563) (H : qi_I k n kk pp S up dn st op ky sq de ba ph re rs li ly ll po go) (v1 : Int32) : wpX_drop (fun r u' => wpY_drop (fun r' v' => r' = r ∧ i_Rel (k + 5) u' v') (S, nI kk, nI pp, lost, dn, st, op, ky, va, sq, de, ba, rb, ph, re, rs, ce, ly, ll, po, go) v1) (nI n, nI kk, nI pp, up, lost, vis, dpt, hgt, ons, st, op, ky, va, sq, de, ba, rb, ph, re, rs, li, ll, ce, po, go, ord, low, edg, pth, pnd, mem, nds) v1 := by
  have H5 := qi_I_m (k' := k + 5) (by omega) H
  have H0 := H5
  obtain ⟨⟨hn3, hn, hkk, hp, hS⟩, hup, hop, hky, hsq, hde, hba, hre, hph, hrs, hli, hpo, hgo⟩ := H0
  unfold wpX_drop
  refine qx_chk hp (fun hb => ?_) (fun s hs e h0 => ?_) (fun s hs e h0 => ?_)
  · refine br_f (by decide) ?_
    unfold wpY_drop
    by_cases h1 : v1 < 0
    · exact br_t h1 ⟨rfl, qz_in H5⟩
    · exact br_f h1 (br_f (Int32.not_lt.mpr (hb.resolve_left h1)) ⟨rfl, qz_in H5⟩)
  · subst e
    refine br_f (by decide) ?_
    unfold wpY_drop
    dsimp only
    rw [qw_m12, nI_clamp (n := s * 12) (by omega)]
    exact br_f (nI_pos (by omega)) (br_t (nI_lt hs (by omega)) (qw_in (s * 12) rfl (by omega) (by omega) (br_t h0 ⟨rfl, qz_in H5⟩)))
  · subst e
    refine br_t rfl ?_
    refine qx_clr (by omega) ?_
    show wpY_drop _ _ _
    unfold wpY_drop
    dsimp only
    rw [qw_m12, nI_clamp (n := s * 12) (by omega)]
    refine br_f (nI_pos (by omega)) (br_t (nI_lt hs (by omega)) (qw_in (s * 12) rfl (by omega) (by omega) (br_f h0 ⟨13, ?_⟩)))
    refine qy_drp (by omega) ?_
    exact ⟨rfl, qz_in (qi_I_po H5 (qd_zP hpo 12 (Nat.le_refl _)))⟩
theorem qv_duplicate {k : Nat} (hk : k + 5 ≤ 2563) (H : qi_I k n kk pp S up dn st op ky sq de ba ph re rs li ly ll po go) (v1 : Int32) : wpX_duplicate (fun r u' => wpY_duplicate (fun r' v' => r' = r ∧ i_Rel (k + 5) u' v') (S, nI kk, nI pp, lost, dn, st, op, ky, va, sq, de, ba, rb, ph, re, rs, ce, ly, ll, po, go) v1) (nI n, nI kk, nI pp, up, lost, vis, dpt, hgt, ons, st, op, ky, va, sq, de, ba, rb, ph, re, rs, li, ll, ce, po, go, ord, low, edg, pth, pnd, mem, nds) v1 := by
  have H5 := qi_I_m (k' := k + 5) (by omega) H
  have H0 := H5
  obtain ⟨⟨hn3, hn, hkk, hp, hS⟩, hup, hop, hky, hsq, hde, hba, hre, hph, hrs, hli, hpo, hgo⟩ := H0
  unfold wpX_duplicate
  refine qx_chk hp (fun hb => ?_) (fun s hs e h0 => ?_) (fun s hs e h0 => ?_)
  · refine br_f (by decide) ?_
    unfold wpY_duplicate
    by_cases h1 : v1 < 0
    · exact br_t h1 ⟨rfl, qz_in H5⟩
    · exact br_f h1 (br_f (Int32.not_lt.mpr (hb.resolve_left h1)) ⟨rfl, qz_in H5⟩)
  · subst e
    refine br_f (by decide) ?_
    unfold wpY_duplicate
    dsimp only
    rw [qw_m12, nI_clamp (n := s * 12) (by omega)]
    exact br_f (nI_pos (by omega)) (br_t (nI_lt hs (by omega)) (qw_in (s * 12) rfl (by omega) (by omega) (br_t h0 ⟨rfl, qz_in H5⟩)))
  · subst e
    have Y : ∀ post : Int32 → SY → Prop, wpY_emptySlot (fun r_5 => (((0 ≤ r_5 → (∃ n43 : Nat, wY_duplicate_43 post (nI s) r_5 S (nI kk) (nI pp) lost n43 0 dn st op ky va sq de ba rb ph re rs ce ly ll po go)) ∧ (¬ 0 ≤ r_5 → (post (-3) (S, nI kk, nI pp, lost, dn, st, op, ky, va, sq, de, ba, rb, ph, re, rs, ce, ly, ll, po, go)))))) (S, nI kk, nI pp, lost, dn, st, op, ky, va, sq, de, ba, rb, ph, re, rs, ce, ly, ll, po, go) → wpY_duplicate post (S, nI kk, nI pp, lost, dn, st, op, ky, va, sq, de, ba, rb, ph, re, rs, ce, ly, ll, po, go) (nI s) := by
      intro post h
      unfold wpY_duplicate
      dsimp only
      rw [qw_m12, nI_clamp (n := s * 12) (by omega)]
      exact br_f (nI_pos (by omega)) (br_t (nI_lt hs (by omega)) (qw_in (s * 12) rfl (by omega) (by omega) (br_f h0 h)))
    refine br_t rfl ?_
    rcases qs_or po pp with ⟨f, hf⟩ | hf
    · have hf1 := hf.1
      refine qx_fr1 hp hf ?_
      refine br_t (nI_pos' (by omega)) ⟨13, ?_⟩
      refine qx_dup (by omega) (by omega) ?_
      refine Y _ ?_
      refine qy_fr1 hp hf ?_
      refine br_t (nI_pos' (by omega)) ⟨13, ?_⟩
      refine qy_dup (by omega) (by omega) ?_
      exact ⟨rfl, qz_in (qi_I_po H5 (qd_dP hpo 12 (Nat.le_refl _)))⟩
    · refine qx_fr0 hp hf ?_
      refine br_f (by decide) ?_
      refine Y _ ?_
      refine qy_fr0 hp hf ?_
      exact br_f (by decide) ⟨rfl, qz_in H5⟩
theorem qv_deliver {k : Nat} (hk : k + 5 ≤ 2563) (H : qi_I k n kk pp S up dn st op ky sq de ba ph re rs li ly ll po go) (v1 : Int32) : wpX_deliver (fun r u' => wpY_deliver (fun r' v' => r' = r ∧ i_Rel (k + 5) u' v') (S, nI kk, nI pp, lost, dn, st, op, ky, va, sq, de, ba, rb, ph, re, rs, ce, ly, ll, po, go) v1) (nI n, nI kk, nI pp, up, lost, vis, dpt, hgt, ons, st, op, ky, va, sq, de, ba, rb, ph, re, rs, li, ll, ce, po, go, ord, low, edg, pth, pnd, mem, nds) v1 := by
  have H5 := qi_I_m (k' := k + 5) (by omega) H
  have H0 := H
  obtain ⟨⟨hn3, hn, hkk, hp, hS⟩, hup, hop, hky, hsq, hde, hba, hre, hph, hrs, hli, hpo, hgo⟩ := H0
  unfold wpX_deliver
  refine qx_chk hp (fun hb => ?_) (fun s hs e h0 => ?_) (fun s hs e h0 => ?_)
  · refine br_f (by decide) ?_
    unfold wpY_deliver
    by_cases h1 : v1 < 0
    · exact br_t h1 ⟨rfl, qz_in H5⟩
    · exact br_f h1 (br_f (Int32.not_lt.mpr (hb.resolve_left h1)) ⟨rfl, qz_in H5⟩)
  · subst e
    refine br_f (by decide) ?_
    unfold wpY_deliver
    dsimp only
    rw [qw_m12, nI_clamp (n := s * 12) (by omega)]
    exact br_f (nI_pos (by omega)) (br_t (nI_lt hs (by omega)) (qw_in (s * 12) rfl (by omega) (by omega) (br_t h0 ⟨rfl, qz_in H5⟩)))
  · subst e
    have HD := qi_I_go (qi_I_po H (qd_zP (s := s) hpo 12 (Nat.le_refl _))) (qd_gG (s := s) hpo hgo 12 (Nat.le_refl _))
    have HD5 := qi_I_m (k' := k + 5) (by omega) HD
    have hG := qd_gG (s := s) hpo hgo 12 (Nat.le_refl _)
    obtain ⟨f, hf, ef⟩ := qi_G1 hG
    obtain ⟨r, hr, er⟩ := qi_G2 hG
    obtain ⟨i, hi, ei⟩ := qi_G3 hG
    have hbk := qi_G4 hG
    generalize eb : (qd_g po s go 12) 4 = b at hbk
    have hb5 : qi_Bd (k + 5) b := qi_Bd_m (by omega) hbk
    have hr3 : r < 3 := by omega
    have hf3 : f < 3 := by omega
    have hi3 : i < n := by omega
    have hx : r * 24 + i < 72 := by omega
    have Y0 : ∀ post : Int32 → SY → Prop, wY_deliver_31 post (nI s) S (nI kk) (nI pp) lost 1 (nI 12) dn st op ky va sq de ba rb ph re rs ce ly ll ((qd_z po s 12)) ((qd_g po s go 12)) → wpY_deliver post (S, nI kk, nI pp, lost, dn, st, op, ky, va, sq, de, ba, rb, ph, re, rs, ce, ly, ll, po, go) (nI s) := by
      intro post h
      unfold wpY_deliver
      dsimp only
      rw [qw_m12, nI_clamp (n := s * 12) (by omega)]
      exact br_f (nI_pos (by omega)) (br_t (nI_lt hs (by omega)) (qw_in (s * 12) rfl (by omega) (by omega) (br_f h0 ⟨13, qy_cpy (by omega) h⟩)))
    refine br_t rfl ⟨13, ?_⟩
    refine qx_cpy (by omega) ?_
    refine br_t (by decide) ?_
    refine qx_clr (by omega) ?_
    refine nm_r ef (nm_r er (nm_r ei (nm_r eb ?_)))
    rcases hup r hr3 with ⟨hu, hd⟩ | ⟨hu, hd⟩
    · have YD : ∀ kd, (qd_g po s go 12) 0 = kd → ∀ post : Int32 → SY → Prop, ((st (r * 24 + i) < 3 → wY_deliver_149 post kd (nI f) (nI r) (nI i) b (nI (r * 24 + i)) 0 S (nI kk) (nI pp) lost dn st op ky va sq de ba rb ph re rs ce ly ll ((qd_z po s 12)) ((qd_g po s go 12))) ∧ (¬ st (r * 24 + i) < 3 → wY_deliver_149 post kd (nI f) (nI r) (nI i) b (nI (r * 24 + i)) 1 S (nI kk) (nI pp) lost dn st op ky va sq de ba rb ph re rs ce ly ll ((qd_z po s 12)) ((qd_g po s go 12)))) → wpY_deliver post (S, nI kk, nI pp, lost, dn, st, op, ky, va, sq, de, ba, rb, ph, re, rs, ce, ly, ll, po, go) (nI s) := by
        intro kd ek post h
        refine Y0 post ?_
        refine br_t (by decide) ?_
        refine nm_r ek (nm_r ef (nm_r er (nm_r ei (nm_r eb (nm_r (e' := nI (r * 24 + i)) (qw_ix r i) ?_)))))
        rw [nI_clamp (n := r) (by omega), nI_clamp (n := r * 24 + i) (by omega)]
        exact ⟨vp_in_nI hr3 (by omega), br_t hd ⟨vp_in_nI hx (by omega), h⟩⟩
      refine qx_al1 hr3 hu ?_
      refine br_f (by decide) (nm_e ?_)
      by_cases c1 : (qd_g po s go 12) 0 < 1
      · refine br_t c1 ?_
        exact qh_nack HD5 hr3 hi3 hf3 hb5 (Or.inl c1) (fun q u' v' hR hW => qz_eta (Q := fun u => wpY_deliver (fun r' v' => r' = q ∧ i_Rel (k + 5) u v') (S, nI kk, nI pp, lost, dn, st, op, ky, va, sq, de, ba, rb, ph, re, rs, ce, ly, ll, po, go) (nI s)) u' (YD _ rfl _ (hW _ ⟨rfl, hR⟩)))
      · refine br_f c1 ?_
        by_cases c7 : 7 < (qd_g po s go 12) 0
        · refine br_t c7 ?_
          exact qh_nack HD5 hr3 hi3 hf3 hb5 (Or.inr c7) (fun q u' v' hR hW => qz_eta (Q := fun u => wpY_deliver (fun r' v' => r' = q ∧ i_Rel (k + 5) u v') (S, nI kk, nI pp, lost, dn, st, op, ky, va, sq, de, ba, rb, ph, re, rs, ce, ly, ll, po, go) (nI s)) u' (YD _ rfl _ (hW _ ⟨rfl, hR⟩)))
        · refine br_f c7 ?_
          refine br_c (fun e1 => ?_) (fun e1 => br_c (fun e2 => ?_) (fun e2 => br_c (fun e3 => ?_) (fun e3 => br_c (fun e4 => ?_) (fun e4 => br_c (fun e5 => ?_) (fun e5 => br_c (fun e6 => ?_) (fun e6 => br_c (fun e7 => ?_) (fun _ => trivial)))))))
          · exact qh_pre hk HD hr3 hi3 hf3 hbk (fun q u' v' hR hW => qz_eta (Q := fun u => wpY_deliver (fun r' v' => r' = q ∧ i_Rel (k + 5) u v') (S, nI kk, nI pp, lost, dn, st, op, ky, va, sq, de, ba, rb, ph, re, rs, ce, ly, ll, po, go) (nI s)) u' (YD _ e1 _ (hW _ ⟨rfl, hR⟩)))
          · exact qh_pok (by omega) HD5 hr3 hi3 hf3 hb5 (fun q u' v' hR hW => qz_eta (Q := fun u => wpY_deliver (fun r' v' => r' = q ∧ i_Rel (k + 5) u v') (S, nI kk, nI pp, lost, dn, st, op, ky, va, sq, de, ba, rb, ph, re, rs, ce, ly, ll, po, go) (nI s)) u' (YD _ e2 _ (hW _ ⟨rfl, hR⟩)))
          · exact qh_acc HD5 hr3 hi3 hf3 hb5 (fun q u' v' hR hW => qz_eta (Q := fun u => wpY_deliver (fun r' v' => r' = q ∧ i_Rel (k + 5) u v') (S, nI kk, nI pp, lost, dn, st, op, ky, va, sq, de, ba, rb, ph, re, rs, ce, ly, ll, po, go) (nI s)) u' (YD _ e3 _ (hW _ ⟨rfl, hR⟩)))
          · exact qh_aok HD5 hr3 hi3 hf3 hb5 (fun q u' v' hR hW => qz_eta (Q := fun u => wpY_deliver (fun r' v' => r' = q ∧ i_Rel (k + 5) u v') (S, nI kk, nI pp, lost, dn, st, op, ky, va, sq, de, ba, rb, ph, re, rs, ce, ly, ll, po, go) (nI s)) u' (YD _ e4 _ (hW _ ⟨rfl, hR⟩)))
          · exact qh_com HD5 hr3 hi3 hf3 (b := b) (fun q u' v' hR hW => qz_eta (Q := fun u => wpY_deliver (fun r' v' => r' = q ∧ i_Rel (k + 5) u v') (S, nI kk, nI pp, lost, dn, st, op, ky, va, sq, de, ba, rb, ph, re, rs, ce, ly, ll, po, go) (nI s)) u' (YD _ e5 _ (hW _ ⟨rfl, hR⟩)))
          · exact qh_prp HD5 hr3 hi3 hf3 hb5 (fun q u' v' hR hW => qz_eta (Q := fun u => wpY_deliver (fun r' v' => r' = q ∧ i_Rel (k + 5) u v') (S, nI kk, nI pp, lost, dn, st, op, ky, va, sq, de, ba, rb, ph, re, rs, ce, ly, ll, po, go) (nI s)) u' (YD _ e6 _ (hW _ ⟨rfl, hR⟩)))
          · exact qh_prk hk HD hr3 hi3 hf3 hbk (fun q u' v' hR hW => qz_eta (Q := fun u => wpY_deliver (fun r' v' => r' = q ∧ i_Rel (k + 5) u v') (S, nI kk, nI pp, lost, dn, st, op, ky, va, sq, de, ba, rb, ph, re, rs, ce, ly, ll, po, go) (nI s)) u' (YD _ e7 _ (hW _ ⟨rfl, hR⟩)))
    · refine qx_al0 hr3 hu ?_
      refine br_t rfl ?_
      refine Y0 _ ?_
      refine br_t (by decide) ?_
      refine nm_e (nm_r ef (nm_r er (nm_r ei (nm_r eb (nm_r (e' := nI (r * 24 + i)) (qw_ix r i) ?_)))))
      rw [nI_clamp (n := r) (by omega)]
      exact ⟨vp_in_nI hr3 (by omega), br_f (by rw [hd]; decide) ⟨rfl, qz_in HD5⟩⟩
end
end
section
/-! submit, recover, timeout -/
theorem qs_sub3 (r q : Nat) (hq : q ≤ r + 3) : nI r - nI q + 3 = nI (r + 3 - q) := by
  have h1 : nI r - nI q + 3 = (nI r + 3) - nI q := by grind
  rw [h1, show nI r + 3 = nI (r + 3) from nI_add r 3, pk_sub hq]
def qs_nb (r : Nat) : Nat → Nat → Nat
  | 0, c => c
  | m + 1, c => if c % 3 = r then qs_nb r m c else qs_nb r m (c + 1)
theorem qs_nb2 {r c : Nat} (hr : r < 3) : qs_nb r 2 c = c + (r + 3 - c % 3) % 3 := by
  show (if c % 3 = r then (if c % 3 = r then c else c + 1) else (if (c + 1) % 3 = r then c + 1 else c + 1 + 1)) = _
  by_cases h1 : c % 3 = r
  · rw [if_pos h1, if_pos h1]
    omega
  · rw [if_neg h1]
    by_cases h2 : (c + 1) % 3 = r
    · rw [if_pos h2]
      omega
    · rw [if_neg h2]
      omega
section
variable {n kk pp : Nat} {up lost vis dpt hgt ons : Int32} {st op ky va sq de ba rb ph re rs li ll ce po go ord low edg pth pnd mem nds : Nat → Int32} {S : Int32} {dn ly : Nat → Int32}
theorem qv_sub {k : Nat} (hk : k + 5 ≤ 2563) (H : qi_I k n kk pp S up dn st op ky sq de ba ph re rs li ly ll po go) {r : Nat} (hr : r < 3) {o y v vv : Int32} (ho : qi_Bd 3 o) (hy : qi_Bd 7 y) (hvv : (o = 1 ∧ vv = 0) ∨ (¬ o = 1 ∧ vv = v)) :
    ∀ m i, n ≤ i + 3 * m → i < 27 → ∀ P : Int32 → SX → Prop, (∀ q u' v', i_Rel (k + 5) u' v' → (∀ post : Int32 → SY → Prop, post q v' → wY_submit_47 post (nI r) o y v S (nI kk) (nI pp) lost dn st op ky va sq de ba rb ph re rs ce ly ll po go (m + 1) (nI i)) → P q u') → wX_submit_59 P (nI r) o y vv (nI n) (nI kk) (nI pp) up lost vis dpt hgt ons st op ky va sq de ba rb ph re rs li ll ce po go ord low edg pth pnd mem nds (m + 1) (nI i) := by
  have H5 := qi_I_m (k' := k + 5) (by omega) H
  have H0 := H
  obtain ⟨⟨hn3, hn, hkk, hp, hS⟩, hup, hop, hky, hsq, hde, hba, hre, hph, hrs, hli, hpo, hgo⟩ := H0
  have hend : ∀ m i, n ≤ i → i < 27 → ∀ P : Int32 → SX → Prop, (∀ q u' v', i_Rel (k + 5) u' v' → (∀ post : Int32 → SY → Prop, post q v' → wY_submit_47 post (nI r) o y v S (nI kk) (nI pp) lost dn st op ky va sq de ba rb ph re rs ce ly ll po go (m + 1) (nI i)) → P q u') → wX_submit_59 P (nI r) o y vv (nI n) (nI kk) (nI pp) up lost vis dpt hgt ons st op ky va sq de ba rb ph re rs li ll ce po go ord low edg pth pnd mem nds (m + 1) (nI i) := by
    intro m i hi hi2 P C
    have hle : nI n ≤ nI i := nI_le hi (by omega)
    refine br_t hle ?_
    exact C (-3) _ _ (qz_in H5) (fun post h => br_t (by rw [hS]; exact hle) h)
  intro m
  induction m with
  | zero => intro i hi hi2; exact hend 0 i (by omega) hi2
  | succ m ih =>
    intro i hi hi2
    by_cases hni : n ≤ i
    · exact hend (m + 1) i hni hi2
    · intro P C
      have hx : r * 24 + i < 72 := by omega
      have hlt : ¬ nI n ≤ nI i := nI_ge (by omega) (by omega)
      have hltY : ¬ 3 * S ≤ nI i := by rw [hS]; exact hlt
      by_cases hc : st (r * 24 + i) = 0 ∧ ba (r * 24 + i) = 0
      · refine br_f hlt (nm_r (e' := nI (r * 24 + i)) (qw_ix r i) ?_)
        rw [nI_clamp (n := r * 24 + i) (by omega)]
        refine qw_in (r * 24 + i) rfl hx (by omega) (br_t hc.1 (qw_in (r * 24 + i) rfl hx (by omega) (br_t hc.2 ?_)))
        refine qh_open hk H hr (by omega) (by rw [hc.1]; decide) ho hy (fun u' v' hR hY => qz_eta (Q := P (nI i)) u' (C (nI i) u' v' hR (fun post h => ?_)))
        refine br_f hltY ?_
        rw [qw_ix, nI_clamp (n := r * 24 + i) (by omega)]
        refine qw_in (r * 24 + i) rfl hx (by omega) (br_t hc.1 (qw_in (r * 24 + i) rfl hx (by omega) (br_t hc.2 ?_)))
        rcases hvv with ⟨e1, e2⟩ | ⟨e1, e2⟩
        · refine br_t e1 ?_
          unfold wY_submit_105
          rw [e2] at hY
          exact hY _ h
        · refine br_f e1 ?_
          unfold wY_submit_105
          rw [e2] at hY
          exact hY _ h
      · have ih := ih (i + 3) (by omega) (by omega) P (fun q u' v' hR hY => C q u' v' hR (fun post h => by
          refine br_f hltY ?_
          rw [qw_ix, nI_clamp (n := r * 24 + i) (by omega)]
          refine qw_in (r * 24 + i) rfl hx (by omega) ?_
          by_cases h1 : st (r * 24 + i) = 0
          · exact br_t h1 (qw_in (r * 24 + i) rfl hx (by omega) (br_f (fun z => hc ⟨h1, z⟩) (nm_r (nI_add i 3) (hY post h))))
          · exact br_f h1 (nm_r (nI_add i 3) (hY post h))))
        refine br_f hlt (nm_r (e' := nI (r * 24 + i)) (qw_ix r i) ?_)
        rw [nI_clamp (n := r * 24 + i) (by omega)]
        refine qw_in (r * 24 + i) rfl hx (by omega) ?_
        by_cases h1 : st (r * 24 + i) = 0
        · exact br_t h1 (qw_in (r * 24 + i) rfl hx (by omega) (br_f (fun z => hc ⟨h1, z⟩) (nm_r (nI_add i 3) ih)))
        · exact br_f h1 (nm_r (nI_add i 3) ih)
theorem qv_submit {k : Nat} (hk : k + 5 ≤ 2563) (H : qi_I k n kk pp S up dn st op ky sq de ba ph re rs li ly ll po go) (v1 v2 v3 v4 : Int32) : wpX_submit (fun r u' => wpY_submit (fun r' v' => r' = r ∧ i_Rel (k + 5) u' v') (S, nI kk, nI pp, lost, dn, st, op, ky, va, sq, de, ba, rb, ph, re, rs, ce, ly, ll, po, go) v1 v2 v3 v4) (nI n, nI kk, nI pp, up, lost, vis, dpt, hgt, ons, st, op, ky, va, sq, de, ba, rb, ph, re, rs, li, ll, ce, po, go, ord, low, edg, pth, pnd, mem, nds) v1 v2 v3 v4 := by
  have H5 := qi_I_m (k' := k + 5) (by omega) H
  have H0 := H
  obtain ⟨⟨hn3, hn, hkk, hp, hS⟩, hup, hop, hky, hsq, hde, hba, hre, hph, hrs, hli, hpo, hgo⟩ := H0
  unfold wpX_submit
  rcases qs_rep v1 with hb | ⟨r, hr, e⟩
  · refine qx_rep0 hb ?_
    refine br_t rfl ?_
    unfold wpY_submit
    refine qy_nor1 hb ?_
    exact br_f (by decide) ⟨rfl, qz_in H5⟩
  · subst e
    refine qx_rep1 hr ?_
    refine br_f (by decide) ?_
    have Y0 : ∀ post : Int32 → SY → Prop, ((v2 < 1 → post (-1) (S, nI kk, nI pp, lost, dn, st, op, ky, va, sq, de, ba, rb, ph, re, rs, ce, ly, ll, po, go)) ∧ (¬ v2 < 1 → ((3 < v2 → post (-1) (S, nI kk, nI pp, lost, dn, st, op, ky, va, sq, de, ba, rb, ph, re, rs, ce, ly, ll, po, go)) ∧ (¬ 3 < v2 → ((v3 < 0 → post (-1) (S, nI kk, nI pp, lost, dn, st, op, ky, va, sq, de, ba, rb, ph, re, rs, ce, ly, ll, po, go)) ∧ (¬ v3 < 0 → ((v3 < nI kk → (vp_in (nI r) 3 ∧ ((dn r = 0 → (∃ n47 : Nat, wY_submit_47 post (nI r) v2 v3 v4 S (nI kk) (nI pp) lost dn st op ky va sq de ba rb ph re rs ce ly ll po go n47 (nI r))) ∧ (¬ dn r = 0 → post (-2) (S, nI kk, nI pp, lost, dn, st, op, ky, va, sq, de, ba, rb, ph, re, rs, ce, ly, ll, po, go))))) ∧ (¬ v3 < nI kk → post (-1) (S, nI kk, nI pp, lost, dn, st, op, ky, va, sq, de, ba, rb, ph, re, rs, ce, ly, ll, po, go))))))))) → wpY_submit post (S, nI kk, nI pp, lost, dn, st, op, ky, va, sq, de, ba, rb, ph, re, rs, ce, ly, ll, po, go) (nI r) v2 v3 v4 := by
      intro post h
      unfold wpY_submit
      refine qy_nor0 hr ?_
      refine br_t rfl ?_
      rw [nI_clamp (n := r) (by omega)]
      exact h
    by_cases h1 : v2 < 1
    · exact br_t h1 (Y0 _ (br_t h1 ⟨rfl, qz_in H5⟩))
    · refine br_f h1 ?_
      by_cases h2 : 3 < v2
      · exact br_t h2 (Y0 _ (br_f h1 (br_t h2 ⟨rfl, qz_in H5⟩)))
      · refine br_f h2 ?_
        by_cases h3 : v3 < 0
        · exact br_t h3 (Y0 _ (br_f h1 (br_f h2 (br_t h3 ⟨rfl, qz_in H5⟩))))
        · refine br_f h3 ?_
          by_cases h4 : v3 < nI kk
          · refine br_t h4 ?_
            have ho : qi_Bd 3 v2 := by
              obtain ⟨j, hj, e⟩ := nI_of2 (x := v2) (M := 3) (n := 3) (by decide) (fun z => h1 (Int32.lt_trans z (by decide))) (Int32.not_lt.mp h2)
              exact ⟨j, hj, e⟩
            have hy : qi_Bd 7 v3 := by
              obtain ⟨j, hj, e⟩ := nI_of h3
              rw [e, nI_ltI hj (by omega)] at h4
              exact ⟨j, by omega, e⟩
            rcases hup r hr with ⟨hu, hd⟩ | ⟨hu, hd⟩
            · refine qx_al1 hr hu ?_
              refine br_f (by decide) ?_
              have Y1 : ∀ post : Int32 → SY → Prop, wY_submit_47 post (nI r) v2 v3 v4 S (nI kk) (nI pp) lost dn st op ky va sq de ba rb ph re rs ce ly ll po go 10 (nI r) → wpY_submit post (S, nI kk, nI pp, lost, dn, st, op, ky, va, sq, de, ba, rb, ph, re, rs, ce, ly, ll, po, go) (nI r) v2 v3 v4 := fun post h =>
                Y0 post (br_f h1 (br_f h2 (br_f h3 (br_t h4 ⟨vp_in_nI hr (by omega), br_t hd ⟨10, h⟩⟩))))
              by_cases h5 : v2 = 1
              · refine br_t h5 ⟨10, ?_⟩
                exact qv_sub hk H hr ho hy (Or.inl ⟨h5, rfl⟩) 9 r (by omega) (by omega) _ (fun q u' v' hR hY => Y1 _ (hY _ ⟨rfl, hR⟩))
              · refine br_f h5 ⟨10, ?_⟩
                exact qv_sub hk H hr ho hy (Or.inr ⟨h5, rfl⟩) 9 r (by omega) (by omega) _ (fun q u' v' hR hY => Y1 _ (hY _ ⟨rfl, hR⟩))
            · refine qx_al0 hr hu ?_
              refine br_t rfl ?_
              exact Y0 _ (br_f h1 (br_f h2 (br_f h3 (br_t h4 ⟨vp_in_nI hr (by omega), br_f (by rw [hd]; decide) ⟨rfl, qz_in H5⟩⟩))))
          · refine br_f h4 ?_
            exact Y0 _ (br_f h1 (br_f h2 (br_f h3 (br_f h4 ⟨rfl, qz_in H5⟩))))
theorem qy_rec {post : Int32 → SY → Prop} {r x : Nat} {i : Int32} (hr : r < 3) : ∀ m j c, j + m = 2 → c + m < 3000 → wY_recover_63 post (nI r) i (nI x) S (nI kk) (nI pp) lost dn st op ky va sq de ba rb ph re rs ce ly ll po go 1 (nI (qs_nb r m c)) (nI 2) → wY_recover_63 post (nI r) i (nI x) S (nI kk) (nI pp) lost dn st op ky va sq de ba rb ph re rs ce ly ll po go (m + 1) (nI c) (nI j) := by
  intro m
  induction m with
  | zero =>
    intro j c hj hc h
    have e : j = 2 := by omega
    subst e
    exact h
  | succ m ih =>
    intro j c hj hc h
    refine br_f (nI_ge (b := 2) (by omega) (by decide)) ⟨by decide, ?_⟩
    rw [show nI c - nI c / 3 * 3 = nI (c % 3) from pk_rem (d := 3) (by omega) (by omega) (by omega)]
    have h' : wY_recover_63 post (nI r) i (nI x) S (nI kk) (nI pp) lost dn st op ky va sq de ba rb ph re rs ce ly ll po go 1 (nI (if c % 3 = r then qs_nb r m c else qs_nb r m (c + 1))) (nI 2) := h
    by_cases hcr : c % 3 = r
    · rw [if_pos hcr] at h'
      exact br_t (by rw [hcr]) (nm_r (nI_1 j) (ih (j + 1) c (by omega) (by omega) h'))
    · rw [if_neg hcr] at h'
      exact br_f (fun z => hcr ((nI_eq (by omega) (by omega)).mp z)) (nm_r (nI_1 c) (nm_r (nI_1 j) (ih (j + 1) (c + 1) (by omega) (by omega) h')))
theorem qv_recover {k : Nat} (hk : k + 5 ≤ 2563) (H : qi_I k n kk pp S up dn st op ky sq de ba ph re rs li ly ll po go) (v1 v2 : Int32) : wpX_recover (fun r u' => wpY_recover (fun r' v' => r' = r ∧ i_Rel (k + 5) u' v') (S, nI kk, nI pp, lost, dn, st, op, ky, va, sq, de, ba, rb, ph, re, rs, ce, ly, ll, po, go) v1 v2) (nI n, nI kk, nI pp, up, lost, vis, dpt, hgt, ons, st, op, ky, va, sq, de, ba, rb, ph, re, rs, li, ll, ce, po, go, ord, low, edg, pth, pnd, mem, nds) v1 v2 := by
  have H5 := qi_I_m (k' := k + 5) (by omega) H
  have H0 := H5
  obtain ⟨⟨hn3, hn, hkk, hp, hS⟩, hup, hop, hky, hsq, hde, hba5, hre, hph, hrs, hli, hpo, hgo⟩ := H0
  have hba : qi_Al (qi_Bd k) ba := H.2.2.2.2.2.2.1
  unfold wpX_recover
  rcases qs_rng n hn v1 v2 with hb | ⟨r, i, hr, hi, e1, e2⟩
  · refine qx_rng0 hb ?_
    refine br_t rfl ?_
    unfold wpY_recover
    refine qy_bad1 hS hb ?_
    exact br_f (by decide) ⟨rfl, qz_in H5⟩
  · subst e1
    subst e2
    have hx : r * 24 + i < 72 := by omega
    refine qx_rng1 hr hi hn ?_
    refine br_f (by decide) ?_
    rcases hup r hr with ⟨hu, hd⟩ | ⟨hu, hd⟩
    · refine qx_al1 hr hu ?_
      refine br_f (by decide) (nm_r (e' := nI (r * 24 + i)) (qw_ix r i) ?_)
      rw [nI_clamp (n := r * 24 + i) (by omega)]
      refine qw_in (r * 24 + i) rfl hx (by omega) ?_
      by_cases hs : st (r * 24 + i) < 3
      · obtain ⟨a, ha, ea⟩ := hba _ hx
        have hm : (r + 3 - (a + 1) % 3) % 3 < 3 := Nat.mod_lt _ (by decide)
        have hm2 : (a + 1) % 3 < 3 := Nat.mod_lt _ (by decide)
        have hbd : qi_Bd (k + 5) (nI (a + 1 + (r + 3 - (a + 1) % 3) % 3)) := ⟨_, by omega, rfl⟩
        have en : nI (a + 1) + ((nI r - (nI (a + 1) - nI (a + 1) / 3 * 3) + 3) - (nI r - (nI (a + 1) - nI (a + 1) / 3 * 3) + 3) / 3 * 3) = nI (a + 1 + (r + 3 - (a + 1) % 3) % 3) := by
          rw [show nI (a + 1) - nI (a + 1) / 3 * 3 = nI ((a + 1) % 3) from pk_rem (d := 3) (by omega) (by omega) (by omega), qs_sub3 r _ (by omega)]
          rw [show nI (r + 3 - (a + 1) % 3) - nI (r + 3 - (a + 1) % 3) / 3 * 3 = nI ((r + 3 - (a + 1) % 3) % 3) from pk_rem (d := 3) (by omega) (by omega) (by omega), nI_add]
        have H1 := qi_I_ba (x := r * 24 + i) (qi_I_ph (p := 1) (x := r * 24 + i) H5 (fun _ => hs)) hbd
        obtain ⟨po', lost', p1, xs, ys⟩ := qs_prep (k := k + 5) (n := n) (kk := kk) (pp := pp) (up := up) (lost := lost) (vis := vis) (dpt := dpt) (hgt := hgt) (ons := ons) (st := st) (op := op) (ky := ky) (va := va) (sq := sq) (de := de) (ba := upd ba (r * 24 + i) (nI (a + 1 + (r + 3 - (a + 1) % 3) % 3))) (rb := rb) (ph := upd ph (r * 24 + i) 1) (re := upd re (r * 24 + i) 0) (rs := rs) (li := li) (ll := ll) (ce := ce) (po := po) (go := go) (ord := ord) (low := low) (edg := edg) (pth := pth) (pnd := pnd) (mem := mem) (nds := nds) (S := S) (dn := dn) (ly := ly) hp hn hr hi hpo hbd
        refine br_t hs (qw_in (r * 24 + i) rfl hx (by omega) (nm_r (e' := nI (a + 1)) (by rw [ea, nI_1]) ⟨by decide, by decide, nm_r en ?_⟩))
        refine ⟨vp_in_nI hx (by omega), nm_e ?_⟩
        refine ⟨vp_in_nI hx (by omega), nm_e ?_⟩
        refine ⟨vp_in_nI hx (by omega), nm_e ?_⟩
        refine xs _ ?_
        show wpY_recover _ _ _ _
        unfold wpY_recover
        refine qy_bad0 hS hr hi hn ?_
        refine br_t rfl ?_
        rw [nI_clamp (n := r) (by omega)]
        refine qw_in r rfl hr (by omega) (br_t hd (nm_r (e' := nI (r * 24 + i)) (qw_ix r i) ?_))
        rw [nI_clamp (n := r * 24 + i) (by omega)]
        refine qw_in (r * 24 + i) rfl hx (by omega) (br_t hs (qw_in (r * 24 + i) rfl hx (by omega) (nm_r (e' := nI (a + 1)) (by rw [ea, nI_1]) ⟨3, ?_⟩)))
        refine qy_rec hr 2 0 (a + 1) rfl (by omega) ?_
        rw [qs_nb2 hr]
        refine br_t (by decide) ?_
        rw [nI_clamp (n := r * 24 + i) (by omega)]
        refine ⟨vp_in_nI hx (by omega), nm_e ?_⟩
        refine qy_round hx ?_
        refine ys _ ?_
        exact ⟨rfl, qz_in (qi_I_po H1 p1)⟩
      · obtain ⟨po', lost', p1, xs, ys⟩ := qs_others (k := k + 5) (n := n) (kk := kk) (pp := pp) (up := up) (lost := lost) (vis := vis) (dpt := dpt) (hgt := hgt) (ons := ons) (st := st) (op := op) (ky := ky) (va := va) (sq := sq) (de := de) (ba := ba) (rb := rb) (ph := ph) (re := re) (rs := rs) (li := li) (ll := ll) (ce := ce) (po := po) (go := go) (ord := ord) (low := low) (edg := edg) (pth := pth) (pnd := pnd) (mem := mem) (nds := nds) (S := S) (dn := dn) (ly := ly) hp hn (kd := 5) (b := 0) (Or.inr (Or.inr rfl)) hr hi hpo (qi_Bd_0 _) (hop _ hx) (hky _ hx) (hsq _ hx) (hde _ hx)
        refine br_f hs ?_
        refine xs _ ?_
        show wpY_recover _ _ _ _
        unfold wpY_recover
        refine qy_bad0 hS hr hi hn ?_
        refine br_t rfl ?_
        rw [nI_clamp (n := r) (by omega)]
        refine qw_in r rfl hr (by omega) (br_t hd (nm_r (e' := nI (r * 24 + i)) (qw_ix r i) ?_))
        rw [nI_clamp (n := r * 24 + i) (by omega)]
        refine qw_in (r * 24 + i) rfl hx (by omega) (br_f hs ?_)
        refine ys _ ?_
        exact ⟨rfl, qz_in (qi_I_po H5 p1)⟩
    · refine qx_al0 hr hu ?_
      refine br_t rfl ?_
      unfold wpY_recover
      refine qy_bad0 hS hr hi hn ?_
      refine br_t rfl ?_
      rw [nI_clamp (n := r) (by omega)]
      exact qw_in r rfl hr (by omega) (br_f (by rw [hd]; decide) ⟨rfl, qz_in H5⟩)
theorem qv_timeout {k : Nat} (hk : k + 5 ≤ 2563) (H : qi_I k n kk pp S up dn st op ky sq de ba ph re rs li ly ll po go) (v1 v2 : Int32) : wpX_timeout (fun r u' => wpY_timeout (fun r' v' => r' = r ∧ i_Rel (k + 5) u' v') (S, nI kk, nI pp, lost, dn, st, op, ky, va, sq, de, ba, rb, ph, re, rs, ce, ly, ll, po, go) v1 v2) (nI n, nI kk, nI pp, up, lost, vis, dpt, hgt, ons, st, op, ky, va, sq, de, ba, rb, ph, re, rs, li, ll, ce, po, go, ord, low, edg, pth, pnd, mem, nds) v1 v2 := by
  have H5 := qi_I_m (k' := k + 5) (by omega) H
  have H0 := H5
  obtain ⟨⟨hn3, hn, hkk, hp, hS⟩, hup, hop, hky, hsq, hde, hba, hre, hph, hrs, hli, hpo, hgo⟩ := H0
  unfold wpX_timeout
  rcases qs_rng n hn v1 v2 with hb | ⟨r, i, hr, hi, e1, e2⟩
  · refine qx_rng0 hb ?_
    refine br_t rfl ?_
    unfold wpY_timeout
    refine qy_bad1 hS hb ?_
    exact br_f (by decide) ⟨rfl, qz_in H5⟩
  · subst e1
    subst e2
    have hx : r * 24 + i < 72 := by omega
    refine qx_rng1 hr hi hn ?_
    refine br_f (by decide) ?_
    rcases hup r hr with ⟨hu, hd⟩ | ⟨hu, hd⟩
    · refine qx_al1 hr hu ?_
      refine br_f (by decide) (nm_r (e' := nI (r * 24 + i)) (qw_ix r i) ?_)
      rw [nI_clamp (n := r * 24 + i) (by omega)]
      refine qw_in (r * 24 + i) rfl hx (by omega) (nm_e ?_)
      by_cases h0 : ph (r * 24 + i) = 0
      · refine br_t h0 ?_
        unfold wpY_timeout
        refine qy_bad0 hS hr hi hn ?_
        refine br_t rfl ?_
        rw [nI_clamp (n := r) (by omega)]
        refine qw_in r rfl hr (by omega) (br_t hd (nm_r (e' := nI (r * 24 + i)) (qw_ix r i) ?_))
        rw [nI_clamp (n := r * 24 + i) (by omega)]
        exact qw_in (r * 24 + i) rfl hx (by omega) (br_t h0 ⟨rfl, qz_in H5⟩)
      · have hs : st (r * 24 + i) < 3 := hph _ hx h0
        have Y0 : ∀ post : Int32 → SY → Prop, ¬ (ph (r * 24 + i) = 2 ∧ ¬ re (r * 24 + i) = 0) → wY_timeout_97 post (nI r) (nI i) (nI (r * 24 + i)) S (nI kk) (nI pp) lost dn st op ky va sq de ba rb ph re rs ce ly ll po go → wpY_timeout post (S, nI kk, nI pp, lost, dn, st, op, ky, va, sq, de, ba, rb, ph, re, rs, ce, ly, ll, po, go) (nI r) (nI i) := by
          intro post hc h
          unfold wpY_timeout
          refine qy_bad0 hS hr hi hn ?_
          refine br_t rfl ?_
          rw [nI_clamp (n := r) (by omega)]
          refine qw_in r rfl hr (by omega) (br_t hd (nm_r (e' := nI (r * 24 + i)) (qw_ix r i) ?_))
          rw [nI_clamp (n := r * 24 + i) (by omega)]
          refine qw_in (r * 24 + i) rfl hx (by omega) (br_f h0 (qw_in (r * 24 + i) rfl hx (by omega) ?_))
          by_cases h2 : ph (r * 24 + i) = 2
          · exact br_t h2 (qw_in (r * 24 + i) rfl hx (by omega) (br_t (Classical.byContradiction (fun z => hc ⟨h2, z⟩)) h))
          · exact br_f h2 h
        refine br_f h0 ?_
        by_cases h1 : ph (r * 24 + i) = 1
        · obtain ⟨po', lost', p1, xs, ys⟩ := qs_prep (k := k + 5) (n := n) (kk := kk) (pp := pp) (up := up) (lost := lost) (vis := vis) (dpt := dpt) (hgt := hgt) (ons := ons) (st := st) (op := op) (ky := ky) (va := va) (sq := sq) (de := de) (ba := ba) (rb := rb) (ph := ph) (re := re) (rs := rs) (li := li) (ll := ll) (ce := ce) (po := po) (go := go) (ord := ord) (low := low) (edg := edg) (pth := pth) (pnd := pnd) (mem := mem) (nds := nds) (S := S) (dn := dn) (ly := ly) hp hn (b := ba (r * 24 + i)) hr hi hpo (hba _ hx)
          refine br_t h1 (qw_in (r * 24 + i) rfl hx (by omega) ?_)
          refine xs _ ?_
          refine Y0 _ (fun z => by rw [h1] at z; exact absurd z.1 (by decide)) ?_
          unfold wY_timeout_97 wY_timeout_127
          rw [nI_clamp (n := r * 24 + i) (by omega)]
          refine qw_in (r * 24 + i) rfl hx (by omega) (br_t h1 (qw_in (r * 24 + i) rfl hx (by omega) ?_))
          refine ys _ ?_
          exact ⟨rfl, qz_in (qi_I_po H5 p1)⟩
        · refine br_f h1 ?_
          by_cases h2 : ph (r * 24 + i) = 2
          · refine br_t h2 (qw_in (r * 24 + i) rfl hx (by omega) ?_)
            by_cases hre0 : re (r * 24 + i) = 0
            · obtain ⟨po', lost', p1, xs, ys⟩ := qs_others (k := k + 5) (n := n) (kk := kk) (pp := pp) (up := up) (lost := lost) (vis := vis) (dpt := dpt) (hgt := hgt) (ons := ons) (st := st) (op := op) (ky := ky) (va := va) (sq := sq) (de := de) (ba := ba) (rb := rb) (ph := ph) (re := re) (rs := rs) (li := li) (ll := ll) (ce := ce) (po := po) (go := go) (ord := ord) (low := low) (edg := edg) (pth := pth) (pnd := pnd) (mem := mem) (nds := nds) (S := S) (dn := dn) (ly := ly) hp hn (kd := 1) (b := ba (r * 24 + i)) (Or.inl rfl) hr hi hpo (hba _ hx) (hop _ hx) (hky _ hx) (hsq _ hx) (hde _ hx)
              refine br_t hre0 (qw_in (r * 24 + i) rfl hx (by omega) ?_)
              refine xs _ ?_
              refine Y0 _ (fun z => z.2 hre0) ?_
              unfold wY_timeout_97 wY_timeout_127
              rw [nI_clamp (n := r * 24 + i) (by omega)]
              refine qw_in (r * 24 + i) rfl hx (by omega) (br_f h1 (qw_in (r * 24 + i) rfl hx (by omega) (br_t h2 (qw_in (r * 24 + i) rfl hx (by omega) ?_))))
              refine ys _ ?_
              exact ⟨rfl, qz_in (qi_I_po H5 p1)⟩
            · refine br_f hre0 ?_
              refine qh_own H5 hr hi hs (fun u' v' hR hY => qz_eta (Q := fun u => wpY_timeout (fun r' v' => r' = 6 ∧ i_Rel (k + 5) u v') (S, nI kk, nI pp, lost, dn, st, op, ky, va, sq, de, ba, rb, ph, re, rs, ce, ly, ll, po, go) (nI r) (nI i)) u' ?_)
              show wpY_timeout _ _ _ _
              unfold wpY_timeout
              refine qy_bad0 hS hr hi hn ?_
              refine br_t rfl ?_
              rw [nI_clamp (n := r) (by omega)]
              refine qw_in r rfl hr (by omega) (br_t hd (nm_r (e' := nI (r * 24 + i)) (qw_ix r i) ?_))
              rw [nI_clamp (n := r * 24 + i) (by omega)]
              refine qw_in (r * 24 + i) rfl hx (by omega) (br_f h0 (qw_in (r * 24 + i) rfl hx (by omega) (br_t h2 (qw_in (r * 24 + i) rfl hx (by omega) (br_f hre0 ?_)))))
              refine qw_in (r * 24 + i) rfl hx (by omega) (qw_in (r * 24 + i) rfl hx (by omega) (qw_in (r * 24 + i) rfl hx (by omega) (qw_in (r * 24 + i) rfl hx (by omega) (qw_in (r * 24 + i) rfl hx (by omega) ?_))))
              refine hY _ ?_
              exact ⟨rfl, hR⟩
          · obtain ⟨po', lost', p1, xs, ys⟩ := qs_others (k := k + 5) (n := n) (kk := kk) (pp := pp) (up := up) (lost := lost) (vis := vis) (dpt := dpt) (hgt := hgt) (ons := ons) (st := st) (op := op) (ky := ky) (va := va) (sq := sq) (de := de) (ba := ba) (rb := rb) (ph := ph) (re := re) (rs := rs) (li := li) (ll := ll) (ce := ce) (po := po) (go := go) (ord := ord) (low := low) (edg := edg) (pth := pth) (pnd := pnd) (mem := mem) (nds := nds) (S := S) (dn := dn) (ly := ly) hp hn (kd := 3) (b := ba (r * 24 + i)) (Or.inr (Or.inl rfl)) hr hi hpo (hba _ hx) (hop _ hx) (hky _ hx) (hsq _ hx) (hde _ hx)
            refine br_f h2 (qw_in (r * 24 + i) rfl hx (by omega) ?_)
            refine xs _ ?_
            refine Y0 _ (fun z => h2 z.1) ?_
            unfold wY_timeout_97 wY_timeout_127
            rw [nI_clamp (n := r * 24 + i) (by omega)]
            refine qw_in (r * 24 + i) rfl hx (by omega) (br_f h1 (qw_in (r * 24 + i) rfl hx (by omega) (br_f h2 (qw_in (r * 24 + i) rfl hx (by omega) ?_))))
            refine ys _ ?_
            exact ⟨rfl, qz_in (qi_I_po H5 p1)⟩
    · refine qx_al0 hr hu ?_
      refine br_t rfl ?_
      unfold wpY_timeout
      refine qy_bad0 hS hr hi hn ?_
      refine br_t rfl ?_
      rw [nI_clamp (n := r) (by omega)]
      exact qw_in r rfl hr (by omega) (br_f (by rw [hd]; decide) ⟨rfl, qz_in H5⟩)
end
end
section
/-! crash, restart -/
def qc_0 (f : Nat → Int32) (b : Nat) : Nat → Nat → Int32
  | 0 => f
  | m + 1 => upd (qc_0 f b m) (b + m) 0
def qc_s (st : Nat → Int32) (b : Nat) : Nat → Nat → Int32
  | 0 => st
  | m + 1 => if qc_s st b m (b + m) = 4 then upd (qc_s st b m) (b + m) 3 else qc_s st b m
theorem qc_0v (f : Nat → Int32) (b : Nat) : ∀ m j, qc_0 f b m j = if b ≤ j ∧ j < b + m then 0 else f j := by
  intro m
  induction m with
  | zero =>
    intro j
    rw [if_neg (by omega)]
    rfl
  | succ m ih =>
    intro j
    show upd (qc_0 f b m) (b + m) 0 j = _
    by_cases e : j = b + m
    · rw [e, pk_us, if_pos (by omega)]
    · rw [pk_un e, ih j]
      by_cases h : b ≤ j ∧ j < b + m
      · rw [if_pos h, if_pos (by omega)]
      · rw [if_neg h, if_neg (by omega)]
theorem qc_sv (st : Nat → Int32) (b : Nat) : ∀ m j, qc_s st b m j = if b ≤ j ∧ j < b + m ∧ st j = 4 then 3 else st j := by
  intro m
  induction m with
  | zero =>
    intro j
    rw [if_neg (by omega)]
    rfl
  | succ m ih =>
    intro j
    have hbm : qc_s st b m (b + m) = st (b + m) := by rw [ih, if_neg (by omega)]
    show (if qc_s st b m (b + m) = 4 then upd (qc_s st b m) (b + m) 3 else qc_s st b m) j = _
    rw [hbm]
    by_cases h4 : st (b + m) = 4
    · rw [if_pos h4]
      by_cases e : j = b + m
      · rw [e, pk_us, if_pos ⟨by omega, by omega, h4⟩]
      · rw [pk_un e, ih j]
        by_cases h : b ≤ j ∧ j < b + m ∧ st j = 4
        · rw [if_pos h, if_pos ⟨h.1, by omega, h.2.2⟩]
        · rw [if_neg h, if_neg (fun z => h ⟨z.1, by omega, z.2.2⟩)]
    · rw [if_neg h4, ih j]
      by_cases h : b ≤ j ∧ j < b + m ∧ st j = 4
      · rw [if_pos h, if_pos ⟨h.1, by omega, h.2.2⟩]
      · rw [if_neg h, if_neg (fun z => h ⟨z.1, by
          by_cases e : j = b + m
          · rw [e] at z; exact absurd z.2.2 h4
          · omega, z.2.2⟩)]
theorem qc_up {up : Int32} {dn : Nat → Int32} {r : Nat} (hr : r < 3) (h : qi_UP up dn) : qi_UP (up &&& (((1 : Int32) <<< (nI r &&& 31)) ^^^ (-1))) (upd dn r 1) := fun q hq => by
  rw [qa_clr up (by omega)]
  by_cases e : q = r
  · rw [e, pk_us]
    exact Or.inr ⟨by simp, rfl⟩
  · rw [pk_un e]
    have e2 : (bt up q && !decide (q = r)) = bt up q := by simp [e]
    rw [e2]
    exact h q hq
theorem qc_up2 {up : Int32} {dn : Nat → Int32} {r : Nat} (hr : r < 3) (h : qi_UP up dn) : qi_UP (up ||| ((1 : Int32) <<< (nI r &&& 31))) (upd dn r 0) := fun q hq => by
  rw [qa_orb up (by omega)]
  by_cases e : q = r
  · rw [e, pk_us]
    exact Or.inl ⟨by simp, rfl⟩
  · rw [pk_un e]
    have e2 : (bt up q || decide (q = r)) = bt up q := by simp [e]
    rw [e2]
    exact h q hq
theorem qc_I {k n kk pp r : Nat} {S up : Int32} {dn st op ky sq de ba ph re rs li ly ll po go : Nat → Int32} (hr : r < 3) (h : qi_I k n kk pp S up dn st op ky sq de ba ph re rs li ly ll po go) :
    qi_I k n kk pp S (up &&& (((1 : Int32) <<< (nI r &&& 31)) ^^^ (-1))) (upd dn r 1) (qc_s st (r * 24) 24) op ky sq de ba (qc_0 ph (r * 24) 24) (qc_0 re (r * 24) 24) (qc_0 rs (r * 24) 24) (qc_0 li (r * 24) 24) ly (upd ll r 0) po go := by
  obtain ⟨⟨hn3, hn, hkk, hp, hS⟩, hup, hop, hky, hsq, hde, hba, hre, hph, hrs, hli, hpo, hgo⟩ := h
  have hout : ∀ q i, q ≠ r → q < 3 → i < 24 → qc_s st (r * 24) 24 (q * 24 + i) = st (q * 24 + i) := fun q i hq hq3 hi => by
    rw [qc_sv, if_neg (by omega)]
  refine ⟨⟨hn3, hn, hkk, hp, hS⟩, qc_up hr hup, hop, hky, hsq, hde, hba, ?_, ?_, ?_, ?_, hpo, hgo⟩
  · intro x hx
    rw [qc_0v]
    by_cases hc : r * 24 ≤ x ∧ x < r * 24 + 24
    · rw [if_pos hc]; exact qi_Bs_0 3
    · rw [if_neg hc]; exact hre x hx
  · intro x hx
    rw [qc_0v, qc_sv]
    by_cases hc : r * 24 ≤ x ∧ x < r * 24 + 24
    · rw [if_pos hc]; exact fun z => absurd rfl z
    · rw [if_neg hc, if_neg (fun z => hc ⟨z.1, z.2.1⟩)]; exact hph x hx
  · intro x hx
    rw [qc_0v, qc_sv]
    by_cases hc : r * 24 ≤ x ∧ x < r * 24 + 24
    · rw [if_pos hc]; exact fun z => absurd rfl z
    · rw [if_neg hc, if_neg (fun z => hc ⟨z.1, z.2.1⟩)]; exact hrs x hx
  · intro q hq
    by_cases e : q = r
    · have h0 : qa_cn (qi_ex (qc_s st (r * 24) 24) q) n = 0 := by
        have h1 := qa_cn_mono (c := qi_ex (qc_s st (r * 24) 24) q) (c' := fun _ => false) n (fun j hj hb => by
          unfold qi_ex at hb
          have hb := of_decide_eq_true hb
          rw [e, qc_sv] at hb
          by_cases h4 : st (r * 24 + j) = 4
          · rw [if_pos ⟨by omega, by omega, h4⟩] at hb
            exact absurd hb (by decide)
          · rw [if_neg (fun z => h4 z.2.2)] at hb
            exact absurd hb h4)
        have h2 : ∀ m, qa_cn (fun _ => false) m = 0 := by
          intro m
          induction m with
          | zero => rfl
          | succ m ih => rw [qa_cnS, ih]; rfl
        rw [h2 n] at h1
        omega
      rw [h0, e, pk_us]
      exact ⟨rfl, fun m hm => absurd hm (Nat.not_lt_zero m)⟩
    · have h0 : qa_cn (qi_ex (qc_s st (r * 24) 24) q) n = qa_cn (qi_ex st q) n := qa_cn_congr n (fun j hj => by
        unfold qi_ex
        rw [hout q j e hq (by omega)])
      have hle := qa_cn_le (qi_ex st q) n
      rw [h0, pk_un e]
      obtain ⟨h1, h2⟩ := hli q hq
      refine ⟨h1, fun m hm => ?_⟩
      obtain ⟨i, hi, e1, e2, e3⟩ := h2 m hm
      refine ⟨i, hi, ?_, e2, ?_⟩
      · rw [qc_0v, if_neg (by omega)]
        exact e1
      · rw [hout q i e hq (by omega)]
        exact e3
theorem qc_I2 {k n kk pp r : Nat} {S up : Int32} {dn st op ky sq de ba ph re rs li ly ll po go : Nat → Int32} (hr : r < 3) (h : qi_I k n kk pp S up dn st op ky sq de ba ph re rs li ly ll po go) :
    qi_I k n kk pp S (up ||| ((1 : Int32) <<< (nI r &&& 31))) (upd dn r 0) st op ky sq de ba ph re rs li ly ll po go := by
  obtain ⟨h1, hup, h2⟩ := h
  exact ⟨h1, qc_up2 hr hup, h2⟩
section
variable {n kk pp : Nat} {up lost vis dpt hgt ons : Int32} {st op ky va sq de ba rb ph re rs li ll ce po go ord low edg pth pnd mem nds : Nat → Int32}
theorem qx_cr2 {post : Int32 → SX → Prop} {r : Nat} (hr : r < 3) (h : post 0 (nI n, nI kk, nI pp, up, lost, vis, dpt, hgt, ons, st, op, ky, va, sq, de, ba, rb, ph, re, rs, li, upd ll r 0, qc_0 ce (r * 8) 8, po, go, ord, low, edg, pth, pnd, mem, nds)) : wX_crash_94 post (nI r) (nI n) (nI kk) (nI pp) up lost vis dpt hgt ons 9 0 st op ky va sq de ba rb ph re rs li ll ce po go ord low edg pth pnd mem nds := by
  have key : ∀ m j, j + m = 8 → wX_crash_94 post (nI r) (nI n) (nI kk) (nI pp) up lost vis dpt hgt ons (m + 1) (nI j) st op ky va sq de ba rb ph re rs li ll (qc_0 ce (r * 8) j) po go ord low edg pth pnd mem nds := by
    intro m
    induction m with
    | zero =>
      intro j hj
      have e : j = 8 := by omega
      subst e
      refine br_t (by decide) (qw_sa r hr (by omega) ?_)
      exact h
    | succ m ih =>
      intro j hj
      refine br_f (nI_ge (b := 8) (by omega) (by decide)) ?_
      refine qw_st (r * 8 + j) (qw_ix8 r j) (by omega) (by omega) (nm_r (nI_1 j) ?_)
      exact ih (j + 1) (by omega)
  exact key 8 0 rfl
theorem qx_cr1 {post : Int32 → SX → Prop} {r : Nat} (hr : r < 3) (h : post 0 (nI n, nI kk, nI pp, up, lost, vis, dpt, hgt, ons, qc_s st (r * 24) 24, op, ky, va, sq, de, ba, rb, qc_0 ph (r * 24) 24, qc_0 re (r * 24) 24, qc_0 rs (r * 24) 24, qc_0 li (r * 24) 24, upd ll r 0, qc_0 ce (r * 8) 8, po, go, ord, low, edg, pth, pnd, mem, nds)) : wX_crash_37 post (nI r) 25 0 (nI n) (nI kk) (nI pp) up lost vis dpt hgt ons st op ky va sq de ba rb ph re rs li ll ce po go ord low edg pth pnd mem nds := by
  have key : ∀ m j, j + m = 24 → wX_crash_37 post (nI r) (m + 1) (nI j) (nI n) (nI kk) (nI pp) up lost vis dpt hgt ons (qc_s st (r * 24) j) op ky va sq de ba rb (qc_0 ph (r * 24) j) (qc_0 re (r * 24) j) (qc_0 rs (r * 24) j) (qc_0 li (r * 24) j) ll ce po go ord low edg pth pnd mem nds := by
    intro m
    induction m with
    | zero =>
      intro j hj
      have e : j = 24 := by omega
      subst e
      exact br_t (by decide) ⟨9, qx_cr2 hr h⟩
    | succ m ih =>
      intro j hj
      have ih := ih (j + 1) (by omega)
      have hx : r * 24 + j < 72 := by omega
      refine br_f (nI_ge (b := 24) (by omega) (by decide)) (nm_r (e' := nI (r * 24 + j)) (qw_ix r j) ?_)
      refine qx_endr hx ?_
      refine qw_sa (r * 24 + j) hx (by omega) ?_
      rw [nI_clamp (n := r * 24 + j) (by omega)]
      refine ⟨vp_in_nI hx (by omega), nm_e ?_⟩
      refine ⟨vp_in_nI hx (by omega), ?_⟩
      by_cases h4 : qc_s st (r * 24) j (r * 24 + j) = 4
      · refine br_t h4 ⟨vp_in_nI hx (by omega), nm_e (nm_r (nI_1 j) ?_)⟩
        have e : qc_s st (r * 24) (j + 1) = upd (qc_s st (r * 24) j) (r * 24 + j) 3 := if_pos h4
        rw [e] at ih
        exact ih
      · refine br_f h4 (nm_r (nI_1 j) ?_)
        have e : qc_s st (r * 24) (j + 1) = qc_s st (r * 24) j := if_neg h4
        rw [e] at ih
        exact ih
  exact key 24 0 rfl
end
section
variable {n kk pp : Nat} {S lost : Int32} {dn st op ky va sq de ba rb ph re rs ce ly ll po go : Nat → Int32}
theorem qy_cr2 {post : Int32 → SY → Prop} {r : Nat} (hr : r < 3) (h : post 0 (S, nI kk, nI pp, lost, dn, st, op, ky, va, sq, de, ba, rb, ph, re, rs, qc_0 ce (r * 8) 8, ly, upd ll r 0, po, go)) : wY_crash_83 post (nI r) S (nI kk) (nI pp) lost 9 0 dn st op ky va sq de ba rb ph re rs ce ly ll po go := by
  have key : ∀ m j, j + m = 8 → wY_crash_83 post (nI r) S (nI kk) (nI pp) lost (m + 1) (nI j) dn st op ky va sq de ba rb ph re rs (qc_0 ce (r * 8) j) ly ll po go := by
    intro m
    induction m with
    | zero =>
      intro j hj
      have e : j = 8 := by omega
      subst e
      refine br_t (by decide) (qw_sa r hr (by omega) ?_)
      exact h
    | succ m ih =>
      intro j hj
      refine br_f (nI_ge (b := 8) (by omega) (by decide)) ?_
      refine qw_st (r * 8 + j) (qw_ix8 r j) (by omega) (by omega) (nm_r (nI_1 j) ?_)
      exact ih (j + 1) (by omega)
  exact key 8 0 rfl
theorem qy_cr1 {post : Int32 → SY → Prop} {r : Nat} (hr : r < 3) (h : post 0 (S, nI kk, nI pp, lost, dn, qc_s st (r * 24) 24, op, ky, va, sq, de, ba, rb, qc_0 ph (r * 24) 24, qc_0 re (r * 24) 24, qc_0 rs (r * 24) 24, qc_0 ce (r * 8) 8, ly, upd ll r 0, po, go)) : wY_crash_34 post (nI r) 25 (nI (r * 24)) S (nI kk) (nI pp) lost dn st op ky va sq de ba rb ph re rs ce ly ll po go := by
  have e24 : nI r * 24 + 24 = nI (r * 24 + 24) := qw_ix r 24
  have key : ∀ m j, j + m = 24 → wY_crash_34 post (nI r) (m + 1) (nI (r * 24 + j)) S (nI kk) (nI pp) lost dn (qc_s st (r * 24) j) op ky va sq de ba rb (qc_0 ph (r * 24) j) (qc_0 re (r * 24) j) (qc_0 rs (r * 24) j) ce ly ll po go := by
    intro m
    induction m with
    | zero =>
      intro j hj
      have e : j = 24 := by omega
      subst e
      exact br_t (by rw [e24]; exact Int32.le_refl _) ⟨9, qy_cr2 hr h⟩
    | succ m ih =>
      intro j hj
      have ih := ih (j + 1) (by omega)
      have hx : r * 24 + j < 72 := by omega
      refine br_f (by rw [e24]; exact nI_ge (by omega) (by omega)) ?_
      refine qy_round hx ?_
      refine qw_sa (r * 24 + j) hx (by omega) ?_
      rw [nI_clamp (n := r * 24 + j) (by omega)]
      refine ⟨vp_in_nI hx (by omega), ?_⟩
      by_cases h4 : qc_s st (r * 24) j (r * 24 + j) = 4
      · refine br_t h4 ⟨vp_in_nI hx (by omega), nm_e (nm_r (nI_1 _) ?_)⟩
        have e : qc_s st (r * 24) (j + 1) = upd (qc_s st (r * 24) j) (r * 24 + j) 3 := if_pos h4
        rw [e] at ih
        exact ih
      · refine br_f h4 (nm_r (nI_1 _) ?_)
        have e : qc_s st (r * 24) (j + 1) = qc_s st (r * 24) j := if_neg h4
        rw [e] at ih
        exact ih
  exact key 24 0 rfl
end
section
variable {n kk pp : Nat} {up lost vis dpt hgt ons : Int32} {st op ky va sq de ba rb ph re rs li ll ce po go ord low edg pth pnd mem nds : Nat → Int32} {S : Int32} {dn ly : Nat → Int32}
theorem qv_crash {k : Nat} (hk : k + 5 ≤ 2563) (H : qi_I k n kk pp S up dn st op ky sq de ba ph re rs li ly ll po go) (v1 : Int32) : wpX_crash (fun r u' => wpY_crash (fun r' v' => r' = r ∧ i_Rel (k + 5) u' v') (S, nI kk, nI pp, lost, dn, st, op, ky, va, sq, de, ba, rb, ph, re, rs, ce, ly, ll, po, go) v1) (nI n, nI kk, nI pp, up, lost, vis, dpt, hgt, ons, st, op, ky, va, sq, de, ba, rb, ph, re, rs, li, ll, ce, po, go, ord, low, edg, pth, pnd, mem, nds) v1 := by
  have H5 := qi_I_m (k' := k + 5) (by omega) H
  have H0 := H5
  obtain ⟨⟨hn3, hn, hkk, hp, hS⟩, hup, hop, hky, hsq, hde, hba, hre, hph, hrs, hli, hpo, hgo⟩ := H0
  unfold wpX_crash
  rcases qs_rep v1 with hb | ⟨r, hr, e⟩
  · refine qx_rep0 hb ?_
    refine br_t rfl ?_
    unfold wpY_crash
    refine qy_nor1 hb ?_
    exact br_f (by decide) ⟨rfl, qz_in H5⟩
  · subst e
    refine qx_rep1 hr ?_
    refine br_f (by decide) ?_
    rcases hup r hr with ⟨hu, hd⟩ | ⟨hu, hd⟩
    · refine qx_al1 hr hu ?_
      refine br_f (by decide) (nm_e ⟨25, ?_⟩)
      refine qx_cr1 hr ?_
      unfold wpY_crash
      refine qy_nor0 hr ?_
      refine br_t rfl ?_
      rw [nI_clamp (n := r) (by omega)]
      refine qw_in r rfl hr (by omega) (br_t hd ⟨vp_in_nI hr (by omega), nm_e (nm_r (e' := nI (r * 24)) (pk_mul r 24) ⟨25, ?_⟩)⟩)
      refine qy_cr1 hr ?_
      exact ⟨rfl, qz_in (qc_I hr H5)⟩
    · refine qx_al0 hr hu ?_
      refine br_t rfl ?_
      unfold wpY_crash
      refine qy_nor0 hr ?_
      refine br_t rfl ?_
      rw [nI_clamp (n := r) (by omega)]
      exact qw_in r rfl hr (by omega) (br_f (by rw [hd]; decide) ⟨rfl, qz_in H5⟩)
theorem qv_restart {k : Nat} (hk : k + 5 ≤ 2563) (H : qi_I k n kk pp S up dn st op ky sq de ba ph re rs li ly ll po go) (v1 : Int32) : wpX_restart (fun r u' => wpY_restart (fun r' v' => r' = r ∧ i_Rel (k + 5) u' v') (S, nI kk, nI pp, lost, dn, st, op, ky, va, sq, de, ba, rb, ph, re, rs, ce, ly, ll, po, go) v1) (nI n, nI kk, nI pp, up, lost, vis, dpt, hgt, ons, st, op, ky, va, sq, de, ba, rb, ph, re, rs, li, ll, ce, po, go, ord, low, edg, pth, pnd, mem, nds) v1 := by
  have H5 := qi_I_m (k' := k + 5) (by omega) H
  have H0 := H5
  obtain ⟨⟨hn3, hn, hkk, hp, hS⟩, hup, hop, hky, hsq, hde, hba, hre, hph, hrs, hli, hpo, hgo⟩ := H0
  unfold wpX_restart
  rcases qs_rep v1 with hb | ⟨r, hr, e⟩
  · refine qx_rep0 hb ?_
    refine br_t rfl ?_
    unfold wpY_restart
    refine qy_nor1 hb ?_
    exact br_f (by decide) ⟨rfl, qz_in H5⟩
  · subst e
    refine qx_rep1 hr ?_
    refine br_f (by decide) ?_
    rcases hup r hr with ⟨hu, hd⟩ | ⟨hu, hd⟩
    · refine qx_al1 hr hu ?_
      refine br_f (by decide) ?_
      unfold wpY_restart
      refine qy_nor0 hr ?_
      refine br_t rfl ?_
      rw [nI_clamp (n := r) (by omega)]
      exact qw_in r rfl hr (by omega) (br_t hd ⟨rfl, qz_in H5⟩)
    · refine qx_al0 hr hu ?_
      refine br_t rfl (nm_e ?_)
      unfold wpY_restart
      refine qy_nor0 hr ?_
      refine br_t rfl ?_
      rw [nI_clamp (n := r) (by omega)]
      refine qw_in r rfl hr (by omega) (br_f (by rw [hd]; decide) ⟨vp_in_nI hr (by omega), nm_e ?_⟩)
      exact ⟨rfl, qz_in (qc_I2 hr H5)⟩
end
end
section
/-! getters -/
section
variable {n kk pp : Nat} {up lost vis dpt hgt ons : Int32} {st op ky va sq de ba rb ph re rs li ll ce po go ord low edg pth pnd mem nds : Nat → Int32} {S : Int32} {dn ly : Nat → Int32}
theorem qv_status {k : Nat} (hk : k + 5 ≤ 2563) (H : qi_I k n kk pp S up dn st op ky sq de ba ph re rs li ly ll po go) (v1 v2 : Int32) : wpX_status (fun r => wpY_status (fun r' => r' = r ∧ i_Rel (k + 5) (nI n, nI kk, nI pp, up, lost, vis, dpt, hgt, ons, st, op, ky, va, sq, de, ba, rb, ph, re, rs, li, ll, ce, po, go, ord, low, edg, pth, pnd, mem, nds) (S, nI kk, nI pp, lost, dn, st, op, ky, va, sq, de, ba, rb, ph, re, rs, ce, ly, ll, po, go)) (S, nI kk, nI pp, lost, dn, st, op, ky, va, sq, de, ba, rb, ph, re, rs, ce, ly, ll, po, go) v1 v2) (nI n, nI kk, nI pp, up, lost, vis, dpt, hgt, ons, st, op, ky, va, sq, de, ba, rb, ph, re, rs, li, ll, ce, po, go, ord, low, edg, pth, pnd, mem, nds) v1 v2 := by
  have H5 := qi_I_m (k' := k + 5) (by omega) H
  have H0 := H5
  obtain ⟨⟨hn3, hn, hkk, hp, hS⟩, hup, hop, hky, hsq, hde, hba, hre, hph, hrs, hli, hpo, hgo⟩ := H0
  unfold wpX_status
  rcases qs_rng n hn v1 v2 with hb | ⟨r, i, hr, hi, e1, e2⟩
  · refine qx_rng0 hb ?_
    refine br_t rfl ?_
    unfold wpY_status
    refine qy_bad1 hS hb ?_
    exact br_f (by decide) ⟨rfl, qz_in H5⟩
  · subst e1
    subst e2
    have hx : r * 24 + i < 72 := by omega
    refine qx_rng1 hr hi hn ?_
    refine br_f (by decide) ?_
    rw [qw_ix, nI_clamp (n := r * 24 + i) (by omega)]
    refine qw_in (r * 24 + i) rfl hx (by omega) ?_
    unfold wpY_status
    refine qy_bad0 hS hr hi hn ?_
    refine br_t rfl ?_
    rw [qw_ix, nI_clamp (n := r * 24 + i) (by omega)]
    exact qw_in (r * 24 + i) rfl hx (by omega) ⟨rfl, qz_in H5⟩
theorem qv_op {k : Nat} (hk : k + 5 ≤ 2563) (H : qi_I k n kk pp S up dn st op ky sq de ba ph re rs li ly ll po go) (v1 v2 : Int32) : wpX_op (fun r => wpY_op (fun r' => r' = r ∧ i_Rel (k + 5) (nI n, nI kk, nI pp, up, lost, vis, dpt, hgt, ons, st, op, ky, va, sq, de, ba, rb, ph, re, rs, li, ll, ce, po, go, ord, low, edg, pth, pnd, mem, nds) (S, nI kk, nI pp, lost, dn, st, op, ky, va, sq, de, ba, rb, ph, re, rs, ce, ly, ll, po, go)) (S, nI kk, nI pp, lost, dn, st, op, ky, va, sq, de, ba, rb, ph, re, rs, ce, ly, ll, po, go) v1 v2) (nI n, nI kk, nI pp, up, lost, vis, dpt, hgt, ons, st, op, ky, va, sq, de, ba, rb, ph, re, rs, li, ll, ce, po, go, ord, low, edg, pth, pnd, mem, nds) v1 v2 := by
  have H5 := qi_I_m (k' := k + 5) (by omega) H
  have H0 := H5
  obtain ⟨⟨hn3, hn, hkk, hp, hS⟩, hup, hop, hky, hsq, hde, hba, hre, hph, hrs, hli, hpo, hgo⟩ := H0
  unfold wpX_op
  rcases qs_rng n hn v1 v2 with hb | ⟨r, i, hr, hi, e1, e2⟩
  · refine qx_rng0 hb ?_
    refine br_t rfl ?_
    unfold wpY_op
    refine qy_bad1 hS hb ?_
    exact br_f (by decide) ⟨rfl, qz_in H5⟩
  · subst e1
    subst e2
    have hx : r * 24 + i < 72 := by omega
    refine qx_rng1 hr hi hn ?_
    refine br_f (by decide) ?_
    rw [qw_ix, nI_clamp (n := r * 24 + i) (by omega)]
    refine qw_in (r * 24 + i) rfl hx (by omega) ?_
    unfold wpY_op
    refine qy_bad0 hS hr hi hn ?_
    refine br_t rfl ?_
    rw [qw_ix, nI_clamp (n := r * 24 + i) (by omega)]
    exact qw_in (r * 24 + i) rfl hx (by omega) ⟨rfl, qz_in H5⟩
theorem qv_key {k : Nat} (hk : k + 5 ≤ 2563) (H : qi_I k n kk pp S up dn st op ky sq de ba ph re rs li ly ll po go) (v1 v2 : Int32) : wpX_key (fun r => wpY_key (fun r' => r' = r ∧ i_Rel (k + 5) (nI n, nI kk, nI pp, up, lost, vis, dpt, hgt, ons, st, op, ky, va, sq, de, ba, rb, ph, re, rs, li, ll, ce, po, go, ord, low, edg, pth, pnd, mem, nds) (S, nI kk, nI pp, lost, dn, st, op, ky, va, sq, de, ba, rb, ph, re, rs, ce, ly, ll, po, go)) (S, nI kk, nI pp, lost, dn, st, op, ky, va, sq, de, ba, rb, ph, re, rs, ce, ly, ll, po, go) v1 v2) (nI n, nI kk, nI pp, up, lost, vis, dpt, hgt, ons, st, op, ky, va, sq, de, ba, rb, ph, re, rs, li, ll, ce, po, go, ord, low, edg, pth, pnd, mem, nds) v1 v2 := by
  have H5 := qi_I_m (k' := k + 5) (by omega) H
  have H0 := H5
  obtain ⟨⟨hn3, hn, hkk, hp, hS⟩, hup, hop, hky, hsq, hde, hba, hre, hph, hrs, hli, hpo, hgo⟩ := H0
  unfold wpX_key
  rcases qs_rng n hn v1 v2 with hb | ⟨r, i, hr, hi, e1, e2⟩
  · refine qx_rng0 hb ?_
    refine br_t rfl ?_
    unfold wpY_key
    refine qy_bad1 hS hb ?_
    exact br_f (by decide) ⟨rfl, qz_in H5⟩
  · subst e1
    subst e2
    have hx : r * 24 + i < 72 := by omega
    refine qx_rng1 hr hi hn ?_
    refine br_f (by decide) ?_
    rw [qw_ix, nI_clamp (n := r * 24 + i) (by omega)]
    refine qw_in (r * 24 + i) rfl hx (by omega) ?_
    unfold wpY_key
    refine qy_bad0 hS hr hi hn ?_
    refine br_t rfl ?_
    rw [qw_ix, nI_clamp (n := r * 24 + i) (by omega)]
    exact qw_in (r * 24 + i) rfl hx (by omega) ⟨rfl, qz_in H5⟩
theorem qv_value {k : Nat} (hk : k + 5 ≤ 2563) (H : qi_I k n kk pp S up dn st op ky sq de ba ph re rs li ly ll po go) (v1 v2 : Int32) : wpX_value (fun r => wpY_value (fun r' => r' = r ∧ i_Rel (k + 5) (nI n, nI kk, nI pp, up, lost, vis, dpt, hgt, ons, st, op, ky, va, sq, de, ba, rb, ph, re, rs, li, ll, ce, po, go, ord, low, edg, pth, pnd, mem, nds) (S, nI kk, nI pp, lost, dn, st, op, ky, va, sq, de, ba, rb, ph, re, rs, ce, ly, ll, po, go)) (S, nI kk, nI pp, lost, dn, st, op, ky, va, sq, de, ba, rb, ph, re, rs, ce, ly, ll, po, go) v1 v2) (nI n, nI kk, nI pp, up, lost, vis, dpt, hgt, ons, st, op, ky, va, sq, de, ba, rb, ph, re, rs, li, ll, ce, po, go, ord, low, edg, pth, pnd, mem, nds) v1 v2 := by
  have H5 := qi_I_m (k' := k + 5) (by omega) H
  have H0 := H5
  obtain ⟨⟨hn3, hn, hkk, hp, hS⟩, hup, hop, hky, hsq, hde, hba, hre, hph, hrs, hli, hpo, hgo⟩ := H0
  unfold wpX_value
  rcases qs_rng n hn v1 v2 with hb | ⟨r, i, hr, hi, e1, e2⟩
  · refine qx_rng0 hb ?_
    refine br_t rfl ?_
    unfold wpY_value
    refine qy_bad1 hS hb ?_
    exact br_f (by decide) ⟨rfl, qz_in H5⟩
  · subst e1
    subst e2
    have hx : r * 24 + i < 72 := by omega
    refine qx_rng1 hr hi hn ?_
    refine br_f (by decide) ?_
    rw [qw_ix, nI_clamp (n := r * 24 + i) (by omega)]
    refine qw_in (r * 24 + i) rfl hx (by omega) ?_
    unfold wpY_value
    refine qy_bad0 hS hr hi hn ?_
    refine br_t rfl ?_
    rw [qw_ix, nI_clamp (n := r * 24 + i) (by omega)]
    exact qw_in (r * 24 + i) rfl hx (by omega) ⟨rfl, qz_in H5⟩
theorem qv_seq {k : Nat} (hk : k + 5 ≤ 2563) (H : qi_I k n kk pp S up dn st op ky sq de ba ph re rs li ly ll po go) (v1 v2 : Int32) : wpX_seq (fun r => wpY_seq (fun r' => r' = r ∧ i_Rel (k + 5) (nI n, nI kk, nI pp, up, lost, vis, dpt, hgt, ons, st, op, ky, va, sq, de, ba, rb, ph, re, rs, li, ll, ce, po, go, ord, low, edg, pth, pnd, mem, nds) (S, nI kk, nI pp, lost, dn, st, op, ky, va, sq, de, ba, rb, ph, re, rs, ce, ly, ll, po, go)) (S, nI kk, nI pp, lost, dn, st, op, ky, va, sq, de, ba, rb, ph, re, rs, ce, ly, ll, po, go) v1 v2) (nI n, nI kk, nI pp, up, lost, vis, dpt, hgt, ons, st, op, ky, va, sq, de, ba, rb, ph, re, rs, li, ll, ce, po, go, ord, low, edg, pth, pnd, mem, nds) v1 v2 := by
  have H5 := qi_I_m (k' := k + 5) (by omega) H
  have H0 := H5
  obtain ⟨⟨hn3, hn, hkk, hp, hS⟩, hup, hop, hky, hsq, hde, hba, hre, hph, hrs, hli, hpo, hgo⟩ := H0
  unfold wpX_seq
  rcases qs_rng n hn v1 v2 with hb | ⟨r, i, hr, hi, e1, e2⟩
  · refine qx_rng0 hb ?_
    refine br_t rfl ?_
    unfold wpY_seq
    refine qy_bad1 hS hb ?_
    exact br_f (by decide) ⟨rfl, qz_in H5⟩
  · subst e1
    subst e2
    have hx : r * 24 + i < 72 := by omega
    refine qx_rng1 hr hi hn ?_
    refine br_f (by decide) ?_
    rw [qw_ix, nI_clamp (n := r * 24 + i) (by omega)]
    refine qw_in (r * 24 + i) rfl hx (by omega) ?_
    unfold wpY_seq
    refine qy_bad0 hS hr hi hn ?_
    refine br_t rfl ?_
    rw [qw_ix, nI_clamp (n := r * 24 + i) (by omega)]
    exact qw_in (r * 24 + i) rfl hx (by omega) ⟨rfl, qz_in H5⟩
theorem qv_deps {k : Nat} (hk : k + 5 ≤ 2563) (H : qi_I k n kk pp S up dn st op ky sq de ba ph re rs li ly ll po go) (v1 v2 : Int32) : wpX_deps (fun r => wpY_deps (fun r' => r' = r ∧ i_Rel (k + 5) (nI n, nI kk, nI pp, up, lost, vis, dpt, hgt, ons, st, op, ky, va, sq, de, ba, rb, ph, re, rs, li, ll, ce, po, go, ord, low, edg, pth, pnd, mem, nds) (S, nI kk, nI pp, lost, dn, st, op, ky, va, sq, de, ba, rb, ph, re, rs, ce, ly, ll, po, go)) (S, nI kk, nI pp, lost, dn, st, op, ky, va, sq, de, ba, rb, ph, re, rs, ce, ly, ll, po, go) v1 v2) (nI n, nI kk, nI pp, up, lost, vis, dpt, hgt, ons, st, op, ky, va, sq, de, ba, rb, ph, re, rs, li, ll, ce, po, go, ord, low, edg, pth, pnd, mem, nds) v1 v2 := by
  have H5 := qi_I_m (k' := k + 5) (by omega) H
  have H0 := H5
  obtain ⟨⟨hn3, hn, hkk, hp, hS⟩, hup, hop, hky, hsq, hde, hba, hre, hph, hrs, hli, hpo, hgo⟩ := H0
  unfold wpX_deps
  rcases qs_rng n hn v1 v2 with hb | ⟨r, i, hr, hi, e1, e2⟩
  · refine qx_rng0 hb ?_
    refine br_t rfl ?_
    unfold wpY_deps
    refine qy_bad1 hS hb ?_
    exact br_f (by decide) ⟨rfl, qz_in H5⟩
  · subst e1
    subst e2
    have hx : r * 24 + i < 72 := by omega
    refine qx_rng1 hr hi hn ?_
    refine br_f (by decide) ?_
    rw [qw_ix, nI_clamp (n := r * 24 + i) (by omega)]
    refine qw_in (r * 24 + i) rfl hx (by omega) ?_
    unfold wpY_deps
    refine qy_bad0 hS hr hi hn ?_
    refine br_t rfl ?_
    rw [qw_ix, nI_clamp (n := r * 24 + i) (by omega)]
    exact qw_in (r * 24 + i) rfl hx (by omega) ⟨rfl, qz_in H5⟩
theorem qv_ballot {k : Nat} (hk : k + 5 ≤ 2563) (H : qi_I k n kk pp S up dn st op ky sq de ba ph re rs li ly ll po go) (v1 v2 : Int32) : wpX_ballot (fun r => wpY_ballot (fun r' => r' = r ∧ i_Rel (k + 5) (nI n, nI kk, nI pp, up, lost, vis, dpt, hgt, ons, st, op, ky, va, sq, de, ba, rb, ph, re, rs, li, ll, ce, po, go, ord, low, edg, pth, pnd, mem, nds) (S, nI kk, nI pp, lost, dn, st, op, ky, va, sq, de, ba, rb, ph, re, rs, ce, ly, ll, po, go)) (S, nI kk, nI pp, lost, dn, st, op, ky, va, sq, de, ba, rb, ph, re, rs, ce, ly, ll, po, go) v1 v2) (nI n, nI kk, nI pp, up, lost, vis, dpt, hgt, ons, st, op, ky, va, sq, de, ba, rb, ph, re, rs, li, ll, ce, po, go, ord, low, edg, pth, pnd, mem, nds) v1 v2 := by
  have H5 := qi_I_m (k' := k + 5) (by omega) H
  have H0 := H5
  obtain ⟨⟨hn3, hn, hkk, hp, hS⟩, hup, hop, hky, hsq, hde, hba, hre, hph, hrs, hli, hpo, hgo⟩ := H0
  unfold wpX_ballot
  rcases qs_rng n hn v1 v2 with hb | ⟨r, i, hr, hi, e1, e2⟩
  · refine qx_rng0 hb ?_
    refine br_t rfl ?_
    unfold wpY_ballot
    refine qy_bad1 hS hb ?_
    exact br_f (by decide) ⟨rfl, qz_in H5⟩
  · subst e1
    subst e2
    have hx : r * 24 + i < 72 := by omega
    refine qx_rng1 hr hi hn ?_
    refine br_f (by decide) ?_
    rw [qw_ix, nI_clamp (n := r * 24 + i) (by omega)]
    refine qw_in (r * 24 + i) rfl hx (by omega) ?_
    unfold wpY_ballot
    refine qy_bad0 hS hr hi hn ?_
    refine br_t rfl ?_
    rw [qw_ix, nI_clamp (n := r * 24 + i) (by omega)]
    exact qw_in (r * 24 + i) rfl hx (by omega) ⟨rfl, qz_in H5⟩
theorem qv_recordBallot {k : Nat} (hk : k + 5 ≤ 2563) (H : qi_I k n kk pp S up dn st op ky sq de ba ph re rs li ly ll po go) (v1 v2 : Int32) : wpX_recordBallot (fun r => wpY_recordBallot (fun r' => r' = r ∧ i_Rel (k + 5) (nI n, nI kk, nI pp, up, lost, vis, dpt, hgt, ons, st, op, ky, va, sq, de, ba, rb, ph, re, rs, li, ll, ce, po, go, ord, low, edg, pth, pnd, mem, nds) (S, nI kk, nI pp, lost, dn, st, op, ky, va, sq, de, ba, rb, ph, re, rs, ce, ly, ll, po, go)) (S, nI kk, nI pp, lost, dn, st, op, ky, va, sq, de, ba, rb, ph, re, rs, ce, ly, ll, po, go) v1 v2) (nI n, nI kk, nI pp, up, lost, vis, dpt, hgt, ons, st, op, ky, va, sq, de, ba, rb, ph, re, rs, li, ll, ce, po, go, ord, low, edg, pth, pnd, mem, nds) v1 v2 := by
  have H5 := qi_I_m (k' := k + 5) (by omega) H
  have H0 := H5
  obtain ⟨⟨hn3, hn, hkk, hp, hS⟩, hup, hop, hky, hsq, hde, hba, hre, hph, hrs, hli, hpo, hgo⟩ := H0
  unfold wpX_recordBallot
  rcases qs_rng n hn v1 v2 with hb | ⟨r, i, hr, hi, e1, e2⟩
  · refine qx_rng0 hb ?_
    refine br_t rfl ?_
    unfold wpY_recordBallot
    refine qy_bad1 hS hb ?_
    exact br_f (by decide) ⟨rfl, qz_in H5⟩
  · subst e1
    subst e2
    have hx : r * 24 + i < 72 := by omega
    refine qx_rng1 hr hi hn ?_
    refine br_f (by decide) ?_
    rw [qw_ix, nI_clamp (n := r * 24 + i) (by omega)]
    refine qw_in (r * 24 + i) rfl hx (by omega) ?_
    unfold wpY_recordBallot
    refine qy_bad0 hS hr hi hn ?_
    refine br_t rfl ?_
    rw [qw_ix, nI_clamp (n := r * 24 + i) (by omega)]
    exact qw_in (r * 24 + i) rfl hx (by omega) ⟨rfl, qz_in H5⟩
theorem qv_phase {k : Nat} (hk : k + 5 ≤ 2563) (H : qi_I k n kk pp S up dn st op ky sq de ba ph re rs li ly ll po go) (v1 v2 : Int32) : wpX_phase (fun r => wpY_phase (fun r' => r' = r ∧ i_Rel (k + 5) (nI n, nI kk, nI pp, up, lost, vis, dpt, hgt, ons, st, op, ky, va, sq, de, ba, rb, ph, re, rs, li, ll, ce, po, go, ord, low, edg, pth, pnd, mem, nds) (S, nI kk, nI pp, lost, dn, st, op, ky, va, sq, de, ba, rb, ph, re, rs, ce, ly, ll, po, go)) (S, nI kk, nI pp, lost, dn, st, op, ky, va, sq, de, ba, rb, ph, re, rs, ce, ly, ll, po, go) v1 v2) (nI n, nI kk, nI pp, up, lost, vis, dpt, hgt, ons, st, op, ky, va, sq, de, ba, rb, ph, re, rs, li, ll, ce, po, go, ord, low, edg, pth, pnd, mem, nds) v1 v2 := by
  have H5 := qi_I_m (k' := k + 5) (by omega) H
  have H0 := H5
  obtain ⟨⟨hn3, hn, hkk, hp, hS⟩, hup, hop, hky, hsq, hde, hba, hre, hph, hrs, hli, hpo, hgo⟩ := H0
  unfold wpX_phase
  rcases qs_rng n hn v1 v2 with hb | ⟨r, i, hr, hi, e1, e2⟩
  · refine qx_rng0 hb ?_
    refine br_t rfl ?_
    unfold wpY_phase
    refine qy_bad1 hS hb ?_
    exact br_f (by decide) ⟨rfl, qz_in H5⟩
  · subst e1
    subst e2
    have hx : r * 24 + i < 72 := by omega
    refine qx_rng1 hr hi hn ?_
    refine br_f (by decide) ?_
    rw [qw_ix, nI_clamp (n := r * 24 + i) (by omega)]
    refine qw_in (r * 24 + i) rfl hx (by omega) ?_
    unfold wpY_phase
    refine qy_bad0 hS hr hi hn ?_
    refine br_t rfl ?_
    rw [qw_ix, nI_clamp (n := r * 24 + i) (by omega)]
    exact qw_in (r * 24 + i) rfl hx (by omega) ⟨rfl, qz_in H5⟩
theorem qv_replies {k : Nat} (hk : k + 5 ≤ 2563) (H : qi_I k n kk pp S up dn st op ky sq de ba ph re rs li ly ll po go) (v1 v2 : Int32) : wpX_replies (fun r => wpY_replies (fun r' => r' = r ∧ i_Rel (k + 5) (nI n, nI kk, nI pp, up, lost, vis, dpt, hgt, ons, st, op, ky, va, sq, de, ba, rb, ph, re, rs, li, ll, ce, po, go, ord, low, edg, pth, pnd, mem, nds) (S, nI kk, nI pp, lost, dn, st, op, ky, va, sq, de, ba, rb, ph, re, rs, ce, ly, ll, po, go)) (S, nI kk, nI pp, lost, dn, st, op, ky, va, sq, de, ba, rb, ph, re, rs, ce, ly, ll, po, go) v1 v2) (nI n, nI kk, nI pp, up, lost, vis, dpt, hgt, ons, st, op, ky, va, sq, de, ba, rb, ph, re, rs, li, ll, ce, po, go, ord, low, edg, pth, pnd, mem, nds) v1 v2 := by
  have H5 := qi_I_m (k' := k + 5) (by omega) H
  have H0 := H5
  obtain ⟨⟨hn3, hn, hkk, hp, hS⟩, hup, hop, hky, hsq, hde, hba, hre, hph, hrs, hli, hpo, hgo⟩ := H0
  unfold wpX_replies
  rcases qs_rng n hn v1 v2 with hb | ⟨r, i, hr, hi, e1, e2⟩
  · refine qx_rng0 hb ?_
    refine br_t rfl ?_
    unfold wpY_replies
    refine qy_bad1 hS hb ?_
    exact br_f (by decide) ⟨rfl, qz_in H5⟩
  · subst e1
    subst e2
    have hx : r * 24 + i < 72 := by omega
    refine qx_rng1 hr hi hn ?_
    refine br_f (by decide) ?_
    rw [qw_ix, nI_clamp (n := r * 24 + i) (by omega)]
    refine qw_in (r * 24 + i) rfl hx (by omega) ?_
    unfold wpY_replies
    refine qy_bad0 hS hr hi hn ?_
    refine br_t rfl ?_
    rw [qw_ix, nI_clamp (n := r * 24 + i) (by omega)]
    exact qw_in (r * 24 + i) rfl hx (by omega) ⟨rfl, qz_in H5⟩
theorem qv_result {k : Nat} (hk : k + 5 ≤ 2563) (H : qi_I k n kk pp S up dn st op ky sq de ba ph re rs li ly ll po go) (v1 v2 : Int32) : wpX_result (fun r => wpY_result (fun r' => r' = r ∧ i_Rel (k + 5) (nI n, nI kk, nI pp, up, lost, vis, dpt, hgt, ons, st, op, ky, va, sq, de, ba, rb, ph, re, rs, li, ll, ce, po, go, ord, low, edg, pth, pnd, mem, nds) (S, nI kk, nI pp, lost, dn, st, op, ky, va, sq, de, ba, rb, ph, re, rs, ce, ly, ll, po, go)) (S, nI kk, nI pp, lost, dn, st, op, ky, va, sq, de, ba, rb, ph, re, rs, ce, ly, ll, po, go) v1 v2) (nI n, nI kk, nI pp, up, lost, vis, dpt, hgt, ons, st, op, ky, va, sq, de, ba, rb, ph, re, rs, li, ll, ce, po, go, ord, low, edg, pth, pnd, mem, nds) v1 v2 := by
  have H5 := qi_I_m (k' := k + 5) (by omega) H
  have H0 := H5
  obtain ⟨⟨hn3, hn, hkk, hp, hS⟩, hup, hop, hky, hsq, hde, hba, hre, hph, hrs, hli, hpo, hgo⟩ := H0
  unfold wpX_result
  rcases qs_rng n hn v1 v2 with hb | ⟨r, i, hr, hi, e1, e2⟩
  · refine qx_rng0 hb ?_
    refine br_t rfl ?_
    unfold wpY_result
    refine qy_bad1 hS hb ?_
    exact br_f (by decide) ⟨rfl, qz_in H5⟩
  · subst e1
    subst e2
    have hx : r * 24 + i < 72 := by omega
    have Y : ∀ post : Int32 → Prop, post (rs (r * 24 + i)) → wpY_result post (S, nI kk, nI pp, lost, dn, st, op, ky, va, sq, de, ba, rb, ph, re, rs, ce, ly, ll, po, go) (nI r) (nI i) := by
      intro post h
      unfold wpY_result
      refine qy_bad0 hS hr hi hn ?_
      refine br_t rfl ?_
      rw [qw_ix, nI_clamp (n := r * 24 + i) (by omega)]
      exact qw_in (r * 24 + i) rfl hx (by omega) h
    refine qx_rng1 hr hi hn ?_
    refine br_f (by decide) ?_
    rw [qw_ix, nI_clamp (n := r * 24 + i) (by omega)]
    refine qw_in (r * 24 + i) rfl hx (by omega) ?_
    by_cases h4 : st (r * 24 + i) = 4
    · exact br_t h4 (qw_in (r * 24 + i) rfl hx (by omega) (Y _ ⟨rfl, qz_in H5⟩))
    · refine br_f h4 (Y _ ⟨?_, qz_in H5⟩)
      apply Classical.byContradiction
      intro hc
      exact h4 (hrs _ hx hc)
theorem qv_position {k : Nat} (hk : k + 5 ≤ 2563) (H : qi_I k n kk pp S up dn st op ky sq de ba ph re rs li ly ll po go) (v1 v2 : Int32) : wpX_position (fun r => wpY_position (fun r' => r' = r ∧ i_Rel (k + 5) (nI n, nI kk, nI pp, up, lost, vis, dpt, hgt, ons, st, op, ky, va, sq, de, ba, rb, ph, re, rs, li, ll, ce, po, go, ord, low, edg, pth, pnd, mem, nds) (S, nI kk, nI pp, lost, dn, st, op, ky, va, sq, de, ba, rb, ph, re, rs, ce, ly, ll, po, go)) (S, nI kk, nI pp, lost, dn, st, op, ky, va, sq, de, ba, rb, ph, re, rs, ce, ly, ll, po, go) v1 v2) (nI n, nI kk, nI pp, up, lost, vis, dpt, hgt, ons, st, op, ky, va, sq, de, ba, rb, ph, re, rs, li, ll, ce, po, go, ord, low, edg, pth, pnd, mem, nds) v1 v2 := by
  have H5 := qi_I_m (k' := k + 5) (by omega) H
  have H0 := H5
  obtain ⟨⟨hn3, hn, hkk, hp, hS⟩, hup, hop, hky, hsq, hde, hba, hre, hph, hrs, hli, hpo, hgo⟩ := H0
  unfold wpX_position
  rcases qs_rng n hn v1 v2 with hb | ⟨r, i, hr, hi, e1, e2⟩
  · refine qx_rng0 hb ?_
    refine br_t rfl ?_
    unfold wpY_position
    refine qy_bad1 hS hb ?_
    exact br_f (by decide) ⟨rfl, qz_in H5⟩
  · subst e1
    subst e2
    have hx : r * 24 + i < 72 := by omega
    obtain ⟨hl1, hl2⟩ := hli r hr
    have hL := qa_cn_le (qi_ex st r) n
    generalize qa_cn (qi_ex st r) n = L at hl1 hl2 hL
    have Y0 : ∀ post : Int32 → Prop, wY_position_13 post (nI r) (nI i) S (nI kk) (nI pp) lost dn st op ky va sq de ba rb ph re rs ce ly ll po go (L + 1) 0 → wpY_position post (S, nI kk, nI pp, lost, dn, st, op, ky, va, sq, de, ba, rb, ph, re, rs, ce, ly, ll, po, go) (nI r) (nI i) := by
      intro post h
      unfold wpY_position
      refine qy_bad0 hS hr hi hn ?_
      exact br_t rfl ⟨L + 1, h⟩
    refine qx_rng1 hr hi hn ?_
    refine br_f (by decide) ?_
    rw [qw_ix, nI_clamp (n := r * 24 + i) (by omega)]
    refine qw_in (r * 24 + i) rfl hx (by omega) ?_
    by_cases h4 : st (r * 24 + i) = 4
    · have key : ∀ m j, j + m = L → ∃ q : Int32, (∀ post : Int32 → Prop, post q → wX_position_36 post (nI r) (nI i) (nI L) (nI n) (nI kk) (nI pp) up lost vis dpt hgt ons st op ky va sq de ba rb ph re rs li ll ce po go ord low edg pth pnd mem nds (m + 1) (nI j)) ∧ (∀ post : Int32 → Prop, post q → wY_position_13 post (nI r) (nI i) S (nI kk) (nI pp) lost dn st op ky va sq de ba rb ph re rs ce ly ll po go (m + 1) (nI j)) := by
        intro m
        induction m with
        | zero =>
          intro j hj
          have e : j = L := by omega
          subst e
          refine ⟨-1, fun post h => br_c (fun _ => h) (fun _ => br_t (Int32.le_refl _) h), fun post h => qw_in r rfl hr (by omega) ?_⟩
          rw [nI_clamp (n := r) (by omega), hl1]
          exact br_t (Int32.le_refl _) h
        | succ m ih =>
          intro j hj
          obtain ⟨i', hi', e1, e2, e3⟩ := hl2 j (by omega)
          obtain ⟨q, hX, hY⟩ := ih (j + 1) (by omega)
          have h24 : ¬ (24 : Int32) ≤ nI j := nI_ge (b := 24) (by omega) (by decide)
          have hLj : ¬ nI L ≤ nI j := nI_ge (by omega) (by omega)
          by_cases e : i' = i
          · subst e
            refine ⟨nI j, fun post h => br_f h24 (br_f hLj ?_), fun post h => qw_in r rfl hr (by omega) ?_⟩
            · rw [qw_ix, nI_clamp (n := r * 24 + j) (by omega)]
              exact qw_in (r * 24 + j) rfl (by omega) (by omega) (br_t e1 h)
            · rw [nI_clamp (n := r) (by omega), hl1, qw_ix, nI_clamp (n := r * 24 + j) (by omega)]
              exact br_f hLj (qw_in (r * 24 + j) rfl (by omega) (by omega) (br_t e2 h))
          · have hne : ¬ nI i' = nI i := fun z => e ((nI_eq (by omega) (by omega)).mp z)
            refine ⟨q, fun post h => br_f h24 (br_f hLj ?_), fun post h => qw_in r rfl hr (by omega) ?_⟩
            · rw [qw_ix, nI_clamp (n := r * 24 + j) (by omega)]
              exact qw_in (r * 24 + j) rfl (by omega) (by omega) (br_f (by rw [e1]; exact hne) (nm_r (nI_1 j) (hX post h)))
            · rw [nI_clamp (n := r) (by omega), hl1, qw_ix, nI_clamp (n := r * 24 + j) (by omega)]
              exact br_f hLj (qw_in (r * 24 + j) rfl (by omega) (by omega) (br_f (by rw [e2]; exact hne) (nm_r (nI_1 j) (hY post h))))
      obtain ⟨q, hX, hY⟩ := key L 0 (by omega)
      refine br_t h4 ?_
      rw [nI_clamp (n := r) (by omega)]
      refine qw_in r rfl hr (by omega) (nm_r hl1 ⟨L + 1, hX _ (Y0 _ (hY _ ⟨rfl, qz_in H5⟩))⟩)
    · have key : ∀ (post : Int32 → Prop), post (-1) → ∀ m j, j + m = L → wY_position_13 post (nI r) (nI i) S (nI kk) (nI pp) lost dn st op ky va sq de ba rb ph re rs ce ly ll po go (m + 1) (nI j) := by
        intro post h m
        induction m with
        | zero =>
          intro j hj
          have e : j = L := by omega
          subst e
          refine qw_in r rfl hr (by omega) ?_
          rw [nI_clamp (n := r) (by omega), hl1]
          exact br_t (Int32.le_refl _) h
        | succ m ih =>
          intro j hj
          obtain ⟨i', hi', e1, e2, e3⟩ := hl2 j (by omega)
          have hLj : ¬ nI L ≤ nI j := nI_ge (by omega) (by omega)
          have e : i' ≠ i := fun z => h4 (by rw [← z]; exact e3)
          have hne : ¬ nI i' = nI i := fun z => e ((nI_eq (by omega) (by omega)).mp z)
          refine qw_in r rfl hr (by omega) ?_
          rw [nI_clamp (n := r) (by omega), hl1, qw_ix, nI_clamp (n := r * 24 + j) (by omega)]
          exact br_f hLj (qw_in (r * 24 + j) rfl (by omega) (by omega) (br_f (by rw [e2]; exact hne) (nm_r (nI_1 j) (ih (j + 1) (by omega)))))
      exact br_f h4 (Y0 _ (key _ ⟨rfl, qz_in H5⟩ L 0 (by omega)))
theorem qv_isUp {k : Nat} (hk : k + 5 ≤ 2563) (H : qi_I k n kk pp S up dn st op ky sq de ba ph re rs li ly ll po go) (v1 : Int32) : wpX_isUp (fun r => wpY_isUp (fun r' => r' = r ∧ i_Rel (k + 5) (nI n, nI kk, nI pp, up, lost, vis, dpt, hgt, ons, st, op, ky, va, sq, de, ba, rb, ph, re, rs, li, ll, ce, po, go, ord, low, edg, pth, pnd, mem, nds) (S, nI kk, nI pp, lost, dn, st, op, ky, va, sq, de, ba, rb, ph, re, rs, ce, ly, ll, po, go)) (S, nI kk, nI pp, lost, dn, st, op, ky, va, sq, de, ba, rb, ph, re, rs, ce, ly, ll, po, go) v1) (nI n, nI kk, nI pp, up, lost, vis, dpt, hgt, ons, st, op, ky, va, sq, de, ba, rb, ph, re, rs, li, ll, ce, po, go, ord, low, edg, pth, pnd, mem, nds) v1 := by
  have H5 := qi_I_m (k' := k + 5) (by omega) H
  have H0 := H5
  obtain ⟨⟨hn3, hn, hkk, hp, hS⟩, hup, hop, hky, hsq, hde, hba, hre, hph, hrs, hli, hpo, hgo⟩ := H0
  unfold wpX_isUp
  rcases qs_rep v1 with hb | ⟨r, hr, e⟩
  · refine qx_rep0 hb ?_
    refine br_t rfl ?_
    unfold wpY_isUp
    by_cases h0 : v1 < 0
    · exact br_t h0 ⟨rfl, qz_in H5⟩
    · exact br_f h0 (br_t (hb.resolve_left h0) ⟨rfl, qz_in H5⟩)
  · subst e
    have Y : ∀ post : Int32 → Prop, ((dn r = 0 → post 1) ∧ (¬ dn r = 0 → post 0)) → wpY_isUp post (S, nI kk, nI pp, lost, dn, st, op, ky, va, sq, de, ba, rb, ph, re, rs, ce, ly, ll, po, go) (nI r) := by
      intro post h
      unfold wpY_isUp
      refine br_f (qs_r0 hr) (br_f (qs_r2 hr) (qw_in r rfl hr (by omega) ?_))
      rw [nI_clamp (n := r) (by omega)]
      exact h
    refine qx_rep1 hr ?_
    refine br_f (by decide) ?_
    rcases hup r hr with ⟨hu, hd⟩ | ⟨hu, hd⟩
    · refine qx_al1 hr hu ?_
      exact br_f (by decide) (Y _ (br_t hd ⟨rfl, qz_in H5⟩))
    · refine qx_al0 hr hu ?_
      exact br_t rfl (Y _ (br_f (by rw [hd]; decide) ⟨rfl, qz_in H5⟩))
theorem qv_read {k : Nat} (hk : k + 5 ≤ 2563) (H : qi_I k n kk pp S up dn st op ky sq de ba ph re rs li ly ll po go) (v1 v2 : Int32) : wpX_read (fun r => wpY_read (fun r' => r' = r ∧ i_Rel (k + 5) (nI n, nI kk, nI pp, up, lost, vis, dpt, hgt, ons, st, op, ky, va, sq, de, ba, rb, ph, re, rs, li, ll, ce, po, go, ord, low, edg, pth, pnd, mem, nds) (S, nI kk, nI pp, lost, dn, st, op, ky, va, sq, de, ba, rb, ph, re, rs, ce, ly, ll, po, go)) (S, nI kk, nI pp, lost, dn, st, op, ky, va, sq, de, ba, rb, ph, re, rs, ce, ly, ll, po, go) v1 v2) (nI n, nI kk, nI pp, up, lost, vis, dpt, hgt, ons, st, op, ky, va, sq, de, ba, rb, ph, re, rs, li, ll, ce, po, go, ord, low, edg, pth, pnd, mem, nds) v1 v2 := by
  have H5 := qi_I_m (k' := k + 5) (by omega) H
  have H0 := H5
  obtain ⟨⟨hn3, hn, hkk, hp, hS⟩, hup, hop, hky, hsq, hde, hba, hre, hph, hrs, hli, hpo, hgo⟩ := H0
  unfold wpX_read
  rcases qs_rep v1 with hb | ⟨r, hr, e⟩
  · refine qx_rep0 hb ?_
    refine br_t rfl ?_
    unfold wpY_read
    refine qy_nor1 hb ?_
    exact br_f (by decide) ⟨rfl, qz_in H5⟩
  · subst e
    refine qx_rep1 hr ?_
    refine br_f (by decide) ?_
    by_cases h3 : v2 < 0
    · refine br_t h3 ?_
      unfold wpY_read
      refine qy_nor0 hr ?_
      exact br_t rfl (br_t h3 ⟨rfl, qz_in H5⟩)
    · by_cases h4 : v2 < nI kk
      · obtain ⟨j, hj, e⟩ := nI_of h3
        subst e
        have h5 := (nI_ltI hj (by omega)).mp h4
        refine br_f h3 (br_t h4 ?_)
        rw [qw_ix8, nI_clamp (n := r * 8 + j) (by omega)]
        refine qw_in (r * 8 + j) rfl (by omega) (by omega) ?_
        unfold wpY_read
        refine qy_nor0 hr ?_
        refine br_t rfl (br_f h3 (br_t h4 ?_))
        rw [qw_ix8, nI_clamp (n := r * 8 + j) (by omega)]
        exact qw_in (r * 8 + j) rfl (by omega) (by omega) ⟨rfl, qz_in H5⟩
      · refine br_f h3 (br_f h4 ?_)
        unfold wpY_read
        refine qy_nor0 hr ?_
        exact br_t rfl (br_f h3 (br_f h4 ⟨rfl, qz_in H5⟩))
theorem qv_executedCount {k : Nat} (hk : k + 5 ≤ 2563) (H : qi_I k n kk pp S up dn st op ky sq de ba ph re rs li ly ll po go) (v1 : Int32) : wpX_executedCount (fun r => wpY_executedCount (fun r' => r' = r ∧ i_Rel (k + 5) (nI n, nI kk, nI pp, up, lost, vis, dpt, hgt, ons, st, op, ky, va, sq, de, ba, rb, ph, re, rs, li, ll, ce, po, go, ord, low, edg, pth, pnd, mem, nds) (S, nI kk, nI pp, lost, dn, st, op, ky, va, sq, de, ba, rb, ph, re, rs, ce, ly, ll, po, go)) (S, nI kk, nI pp, lost, dn, st, op, ky, va, sq, de, ba, rb, ph, re, rs, ce, ly, ll, po, go) v1) (nI n, nI kk, nI pp, up, lost, vis, dpt, hgt, ons, st, op, ky, va, sq, de, ba, rb, ph, re, rs, li, ll, ce, po, go, ord, low, edg, pth, pnd, mem, nds) v1 := by
  have H5 := qi_I_m (k' := k + 5) (by omega) H
  have H0 := H5
  obtain ⟨⟨hn3, hn, hkk, hp, hS⟩, hup, hop, hky, hsq, hde, hba, hre, hph, hrs, hli, hpo, hgo⟩ := H0
  unfold wpX_executedCount
  rcases qs_rep v1 with hb | ⟨r, hr, e⟩
  · refine qx_rep0 hb ?_
    refine br_t rfl ?_
    unfold wpY_executedCount
    refine qy_nor1 hb ?_
    exact br_f (by decide) ⟨rfl, qz_in H5⟩
  · subst e
    refine qx_rep1 hr ?_
    refine br_f (by decide) (qw_in r rfl hr (by omega) ?_)
    unfold wpY_executedCount
    refine qy_nor0 hr ?_
    exact br_t rfl (qw_in r rfl hr (by omega) ⟨rfl, qz_in H5⟩)
theorem qv_executedAt {k : Nat} (hk : k + 5 ≤ 2563) (H : qi_I k n kk pp S up dn st op ky sq de ba ph re rs li ly ll po go) (v1 v2 : Int32) : wpX_executedAt (fun r => wpY_executedAt (fun r' => r' = r ∧ i_Rel (k + 5) (nI n, nI kk, nI pp, up, lost, vis, dpt, hgt, ons, st, op, ky, va, sq, de, ba, rb, ph, re, rs, li, ll, ce, po, go, ord, low, edg, pth, pnd, mem, nds) (S, nI kk, nI pp, lost, dn, st, op, ky, va, sq, de, ba, rb, ph, re, rs, ce, ly, ll, po, go)) (S, nI kk, nI pp, lost, dn, st, op, ky, va, sq, de, ba, rb, ph, re, rs, ce, ly, ll, po, go) v1 v2) (nI n, nI kk, nI pp, up, lost, vis, dpt, hgt, ons, st, op, ky, va, sq, de, ba, rb, ph, re, rs, li, ll, ce, po, go, ord, low, edg, pth, pnd, mem, nds) v1 v2 := by
  have H5 := qi_I_m (k' := k + 5) (by omega) H
  have H0 := H5
  obtain ⟨⟨hn3, hn, hkk, hp, hS⟩, hup, hop, hky, hsq, hde, hba, hre, hph, hrs, hli, hpo, hgo⟩ := H0
  unfold wpX_executedAt
  rcases qs_rep v1 with hb | ⟨r, hr, e⟩
  · refine qx_rep0 hb ?_
    refine br_t rfl ?_
    unfold wpY_executedAt
    refine qy_nor1 hb ?_
    exact br_f (by decide) ⟨rfl, qz_in H5⟩
  · subst e
    obtain ⟨hl1, hl2⟩ := hli r hr
    have hL := qa_cn_le (qi_ex st r) n
    generalize qa_cn (qi_ex st r) n = L at hl1 hl2 hL
    refine qx_rep1 hr ?_
    refine br_f (by decide) ?_
    by_cases h3 : v2 < 0
    · refine br_t h3 ?_
      unfold wpY_executedAt
      refine qy_nor0 hr ?_
      exact br_t rfl (br_t h3 ⟨rfl, qz_in H5⟩)
    · refine br_f h3 (qw_in r rfl hr (by omega) ?_)
      rw [nI_clamp (n := r) (by omega)]
      by_cases h4 : v2 < ll r
      · have h4' := h4
        obtain ⟨j, hj, e⟩ := nI_of h3
        subst e
        rw [hl1] at h4'
        have h5 := (nI_ltI hj (by omega)).mp h4'
        obtain ⟨i', hi', e1, e2, e3⟩ := hl2 j h5
        refine br_t h4 ?_
        rw [qw_ix, nI_clamp (n := r * 24 + j) (by omega)]
        refine qw_in (r * 24 + j) rfl (by omega) (by omega) ?_
        unfold wpY_executedAt
        refine qy_nor0 hr ?_
        refine br_t rfl (br_f h3 (qw_in r rfl hr (by omega) ?_))
        rw [nI_clamp (n := r) (by omega), qw_ix, nI_clamp (n := r * 24 + j) (by omega)]
        exact br_t h4 (qw_in (r * 24 + j) rfl (by omega) (by omega) ⟨by rw [e1, e2], qz_in H5⟩)
      · refine br_f h4 ?_
        unfold wpY_executedAt
        refine qy_nor0 hr ?_
        refine br_t rfl (br_f h3 (qw_in r rfl hr (by omega) ?_))
        rw [nI_clamp (n := r) (by omega)]
        exact br_f h4 ⟨rfl, qz_in H5⟩
theorem qv_messageCount {k : Nat} (hk : k + 5 ≤ 2563) (H : qi_I k n kk pp S up dn st op ky sq de ba ph re rs li ly ll po go) : wpX_messageCount (fun r => wpY_messageCount (fun r' => r' = r ∧ i_Rel (k + 5) (nI n, nI kk, nI pp, up, lost, vis, dpt, hgt, ons, st, op, ky, va, sq, de, ba, rb, ph, re, rs, li, ll, ce, po, go, ord, low, edg, pth, pnd, mem, nds) (S, nI kk, nI pp, lost, dn, st, op, ky, va, sq, de, ba, rb, ph, re, rs, ce, ly, ll, po, go)) (S, nI kk, nI pp, lost, dn, st, op, ky, va, sq, de, ba, rb, ph, re, rs, ce, ly, ll, po, go)) (nI n, nI kk, nI pp, up, lost, vis, dpt, hgt, ons, st, op, ky, va, sq, de, ba, rb, ph, re, rs, li, ll, ce, po, go, ord, low, edg, pth, pnd, mem, nds) := by
  have H5 := qi_I_m (k' := k + 5) (by omega) H
  have H0 := H5
  obtain ⟨⟨hn3, hn, hkk, hp, hS⟩, hup, hop, hky, hsq, hde, hba, hre, hph, hrs, hli, hpo, hgo⟩ := H0
  have key : ∀ m j, j + m = pp → ∀ c : Int32, ∃ q : Int32, (∀ post : Int32 → Prop, post q → wX_messageCount_4 post (nI n) (nI kk) (nI pp) up lost vis dpt hgt ons st op ky va sq de ba rb ph re rs li ll ce po go ord low edg pth pnd mem nds (m + 1) c (nI j)) ∧ (∀ post : Int32 → Prop, post q → wY_messageCount_4 post S (nI kk) (nI pp) lost dn st op ky va sq de ba rb ph re rs ce ly ll po go (m + 1) c (nI j)) := by
    intro m
    induction m with
    | zero =>
      intro j hj c
      have e : j = pp := by omega
      subst e
      exact ⟨c, fun post h => br_t (Int32.le_refl _) h, fun post h => br_t (Int32.le_refl _) h⟩
    | succ m ih =>
      intro j hj c
      have hlt : ¬ nI pp ≤ nI j := nI_ge (by omega) (by omega)
      by_cases h0 : po (j * 12) = 0
      · obtain ⟨q, hX, hY⟩ := ih (j + 1) (by omega) c
        refine ⟨q, fun post h => br_f hlt ?_, fun post h => br_f hlt ?_⟩
        · rw [qw_m12, nI_clamp (n := j * 12) (by omega)]
          exact qw_in (j * 12) rfl (by omega) (by omega) (br_t h0 (nm_r (nI_1 j) (hX post h)))
        · rw [qw_m12, nI_clamp (n := j * 12) (by omega)]
          exact qw_in (j * 12) rfl (by omega) (by omega) (br_t h0 (nm_r (nI_1 j) (hY post h)))
      · obtain ⟨q, hX, hY⟩ := ih (j + 1) (by omega) (c + 1)
        refine ⟨q, fun post h => br_f hlt ?_, fun post h => br_f hlt ?_⟩
        · rw [qw_m12, nI_clamp (n := j * 12) (by omega)]
          exact qw_in (j * 12) rfl (by omega) (by omega) (br_f h0 (nm_e (nm_r (nI_1 j) (hX post h))))
        · rw [qw_m12, nI_clamp (n := j * 12) (by omega)]
          exact qw_in (j * 12) rfl (by omega) (by omega) (br_f h0 (nm_e (nm_r (nI_1 j) (hY post h))))
  obtain ⟨q, hX, hY⟩ := key pp 0 (by omega) 0
  unfold wpX_messageCount
  refine ⟨pp + 1, hX _ ?_⟩
  unfold wpY_messageCount
  exact ⟨pp + 1, hY _ ⟨rfl, qz_in H5⟩⟩
theorem qv_lost {k : Nat} (hk : k + 5 ≤ 2563) (H : qi_I k n kk pp S up dn st op ky sq de ba ph re rs li ly ll po go) : wpX_lost (fun r => wpY_lost (fun r' => r' = r ∧ i_Rel (k + 5) (nI n, nI kk, nI pp, up, lost, vis, dpt, hgt, ons, st, op, ky, va, sq, de, ba, rb, ph, re, rs, li, ll, ce, po, go, ord, low, edg, pth, pnd, mem, nds) (S, nI kk, nI pp, lost, dn, st, op, ky, va, sq, de, ba, rb, ph, re, rs, ce, ly, ll, po, go)) (S, nI kk, nI pp, lost, dn, st, op, ky, va, sq, de, ba, rb, ph, re, rs, ce, ly, ll, po, go)) (nI n, nI kk, nI pp, up, lost, vis, dpt, hgt, ons, st, op, ky, va, sq, de, ba, rb, ph, re, rs, li, ll, ce, po, go, ord, low, edg, pth, pnd, mem, nds) := by
  have H5 := qi_I_m (k' := k + 5) (by omega) H
  have H0 := H5
  obtain ⟨⟨hn3, hn, hkk, hp, hS⟩, hup, hop, hky, hsq, hde, hba, hre, hph, hrs, hli, hpo, hgo⟩ := H0
  unfold wpX_lost wpY_lost
  exact ⟨rfl, qz_in H5⟩
theorem qv_message {k : Nat} (hk : k + 5 ≤ 2563) (H : qi_I k n kk pp S up dn st op ky sq de ba ph re rs li ly ll po go) (v1 v2 : Int32) : wpX_message (fun r => wpY_message (fun r' => r' = r ∧ i_Rel (k + 5) (nI n, nI kk, nI pp, up, lost, vis, dpt, hgt, ons, st, op, ky, va, sq, de, ba, rb, ph, re, rs, li, ll, ce, po, go, ord, low, edg, pth, pnd, mem, nds) (S, nI kk, nI pp, lost, dn, st, op, ky, va, sq, de, ba, rb, ph, re, rs, ce, ly, ll, po, go)) (S, nI kk, nI pp, lost, dn, st, op, ky, va, sq, de, ba, rb, ph, re, rs, ce, ly, ll, po, go) v1 v2) (nI n, nI kk, nI pp, up, lost, vis, dpt, hgt, ons, st, op, ky, va, sq, de, ba, rb, ph, re, rs, li, ll, ce, po, go, ord, low, edg, pth, pnd, mem, nds) v1 v2 := by
  have H5 := qi_I_m (k' := k + 5) (by omega) H
  have H0 := H5
  obtain ⟨⟨hn3, hn, hkk, hp, hS⟩, hup, hop, hky, hsq, hde, hba, hre, hph, hrs, hli, hpo, hgo⟩ := H0
  unfold wpX_message
  by_cases h1 : v1 < 0
  · refine br_t h1 ?_
    unfold wpY_message
    exact br_t h1 ⟨rfl, qz_in H5⟩
  · refine br_f h1 ?_
    by_cases h2 : nI pp ≤ v1
    · refine br_t h2 ?_
      unfold wpY_message
      exact br_f h1 (br_t h2 ⟨rfl, qz_in H5⟩)
    · refine br_f h2 ?_
      by_cases h3 : v2 < 0
      · refine br_t h3 ?_
        unfold wpY_message
        exact br_f h1 (br_f h2 (br_t h3 ⟨rfl, qz_in H5⟩))
      · refine br_f h3 ?_
        by_cases h4 : v2 ≤ 11
        · obtain ⟨s, hs, e1⟩ := nI_of h1
          obtain ⟨j, hj, e2⟩ := nI_of2 (x := v2) (M := 11) (n := 11) (by decide) h3 h4
          have hsp : s < pp := by
            apply Classical.byContradiction
            intro hc
            exact h2 (by rw [e1]; exact nI_le (by omega) hs)
          have ei : v1 * 12 + v2 = nI (s * 12 + j) := by rw [e1, e2]; exact qw_ix12 s j
          refine br_t h4 ?_
          rw [ei, nI_clamp (n := s * 12 + j) (by omega)]
          refine qw_in (s * 12 + j) rfl (by omega) (by omega) ?_
          unfold wpY_message
          refine br_f h1 (br_f h2 (br_f h3 (br_t h4 ?_)))
          rw [ei, nI_clamp (n := s * 12 + j) (by omega)]
          exact qw_in (s * 12 + j) rfl (by omega) (by omega) ⟨rfl, qz_in H5⟩
        · refine br_f h4 ?_
          unfold wpY_message
          exact br_f h1 (br_f h2 (br_f h3 (br_f h4 ⟨rfl, qz_in H5⟩)))
end
/-! the constructors -/
theorem qv_lst (s : Nat) (h1 : 1 ≤ s) (h8 : s ≤ 8) : (3 : Int32) * nI s = nI (3 * s) := pk_mul 3 s
theorem qv_0 {k s kk pp : Nat} (h1 : 1 ≤ s) (h8 : s ≤ 8) (hk : kk ≤ 8) (hp : pp ≤ 64) : qi_I k (3 * s) kk pp (nI s) 7 (fun _ => 0) (fun _ => 0) (fun _ => 0) (fun _ => 0) (fun _ => 0) (fun _ => 0) (fun _ => 0) (fun _ => 0) (fun _ => 0) (fun _ => 0) (fun _ => 0) (fun _ => 0) (fun _ => 0) (fun _ => 0) (fun _ => 0) := by
  have h0 : ∀ r m, qa_cn (qi_ex (fun _ => 0) r) m = 0 := by
    intro r m
    induction m with
    | zero => rfl
    | succ m ih =>
      have h1 : qi_ex (fun _ => 0) r m = false := decide_eq_false (by decide : ¬ (0 : Int32) = 4)
      rw [qa_cnS, ih, h1]
      rfl
  refine ⟨⟨by omega, by omega, hk, hp, qv_lst s h1 h8⟩, ?_, fun _ _ => qi_Bd_0 _, fun _ _ => qi_Bd_0 _, fun _ _ => qi_Bd_0 _, fun _ _ => qi_Bs_0 _, fun _ _ => qi_Bd_0 _, fun _ _ => qi_Bs_0 _, fun _ _ z => absurd rfl z, fun _ _ z => absurd rfl z, ?_, fun _ _ _ => qi_F_0 _ _ _, fun _ _ => qi_F_0 _ _ _⟩
  · intro r hr
    refine Or.inl ⟨?_, rfl⟩
    rw [qd_b7 r (by omega)]
    exact decide_eq_true hr
  · intro r hr
    rw [h0 r]
    exact ⟨rfl, fun m hm => absurd hm (Nat.not_lt_zero m)⟩
theorem qv_cl (x : Int32) (a b : Nat) (hab : a ≤ b) (hb : b < 2 ^ 31) : (nI a ≤ x ∧ x ≤ nI b ∧ ∃ j, a ≤ j ∧ j ≤ b ∧ x = nI j) ∨ (nI a ≤ x ∧ ¬ x ≤ nI b) ∨ ¬ nI a ≤ x := by
  by_cases h1 : nI a ≤ x
  · by_cases h2 : x ≤ nI b
    · have h0 : ¬ x < 0 := Int32.not_lt.mpr (Int32.le_trans (nI_pos' (by omega)) h1)
      obtain ⟨j, hj, e⟩ := nI_of h0
      subst e
      exact Or.inl ⟨h1, h2, j, (nI_leI (by omega) hj).mp h1, (nI_leI hj (by omega)).mp h2, rfl⟩
    · exact Or.inr (Or.inl ⟨h1, h2⟩)
  · exact Or.inr (Or.inr h1)
theorem qv_cx {post : Int32 → Prop} {u : SX} {x : Int32} (a b j : Nat) (h : (nI a ≤ x ∧ x ≤ nI b ∧ x = nI j) ∨ (nI a ≤ x ∧ ¬ x ≤ nI b ∧ j = b) ∨ (¬ nI a ≤ x ∧ j = a)) (hp : post (nI j)) : wpX_clamp post u x (nI a) (nI b) := by
  unfold wpX_clamp
  rcases h with ⟨h1, h2, e⟩ | ⟨h1, h2, e⟩ | ⟨h1, e⟩
  · exact br_t h1 (br_t h2 (by rw [e]; exact hp))
  · exact br_t h1 (br_f h2 (by rw [e] at hp; exact hp))
  · exact br_f h1 (by rw [e] at hp; exact hp)
theorem qv_ce (x : Int32) (a b : Nat) (hab : a ≤ b) (hb : b < 2 ^ 31) : ∃ j, a ≤ j ∧ j ≤ b ∧ ((nI a ≤ x ∧ x ≤ nI b ∧ x = nI j) ∨ (nI a ≤ x ∧ ¬ x ≤ nI b ∧ j = b) ∨ (¬ nI a ≤ x ∧ j = a)) := by
  rcases qv_cl x a b hab hb with ⟨h1, h2, j, h3, h4, e⟩ | ⟨h1, h2⟩ | h1
  · exact ⟨j, h3, h4, Or.inl ⟨h1, h2, e⟩⟩
  · exact ⟨b, hab, Nat.le_refl _, Or.inr (Or.inl ⟨h1, h2, rfl⟩)⟩
  · exact ⟨a, Nat.le_refl _, hab, Or.inr (Or.inr ⟨h1, rfl⟩)⟩
theorem qv_init (k0 k1 k2 : Int32) : wpX_init (fun u => wpY_init (fun v => i_Rel 3 u v) k0 k1 k2) k0 k1 k2 := by
  obtain ⟨s, s1, s8, hs⟩ := qv_ce k0 1 8 (by decide) (by decide)
  obtain ⟨kk, kk1, kk8, hkk⟩ := qv_ce k1 1 8 (by decide) (by decide)
  obtain ⟨pp, pp1, pp8, hpp⟩ := qv_ce k2 4 64 (by decide) (by decide)
  unfold wpX_init
  refine qv_cx 1 8 s hs ?_
  refine nm_r (qv_lst s s1 s8) ?_
  refine qv_cx 1 8 kk hkk ?_
  refine qv_cx 4 64 pp hpp ?_
  have R := qz_in (lost := 0) (vis := 0) (dpt := 0) (hgt := 0) (ons := 0) (va := fun _ => 0) (rb := fun _ => 0) (ce := fun _ => 0) (ord := fun _ => 0) (low := fun _ => 0) (edg := fun _ => 0) (pth := fun _ => 0) (pnd := fun _ => 0) (mem := fun _ => 0) (nds := fun _ => 0) (qv_0 (k := 3) s1 s8 kk8 pp8)
  have K3 : wY_init_186 (fun v => i_Rel 3 (nI (3 * s), nI kk, nI pp, 7, 0, 0, 0, 0, 0, (fun _ => 0), (fun _ => 0), (fun _ => 0), (fun _ => 0), (fun _ => 0), (fun _ => 0), (fun _ => 0), (fun _ => 0), (fun _ => 0), (fun _ => 0), (fun _ => 0), (fun _ => 0), (fun _ => 0), (fun _ => 0), (fun _ => 0), (fun _ => 0), (fun _ => 0), (fun _ => 0), (fun _ => 0), (fun _ => 0), (fun _ => 0), (fun _ => 0), (fun _ => 0)) v) k2 (nI kk) (nI s) 0 0 0 (fun _ => 0) (fun _ => 0) (fun _ => 0) (fun _ => 0) (fun _ => 0) (fun _ => 0) (fun _ => 0) (fun _ => 0) (fun _ => 0) (fun _ => 0) (fun _ => 0) (fun _ => 0) (fun _ => 0) (fun _ => 0) (fun _ => 0) (fun _ => 0) (fun _ => 0) := by
    unfold wY_init_186
    rcases hpp with ⟨h1, h2, e⟩ | ⟨h1, h2, e⟩ | ⟨h1, e⟩
    · exact br_t h1 (br_t h2 (by rw [e]; exact R))
    · subst e
      exact br_t h1 (br_f h2 R)
    · subst e
      exact br_f h1 R
  have K2 : wY_init_161 (fun v => i_Rel 3 (nI (3 * s), nI kk, nI pp, 7, 0, 0, 0, 0, 0, (fun _ => 0), (fun _ => 0), (fun _ => 0), (fun _ => 0), (fun _ => 0), (fun _ => 0), (fun _ => 0), (fun _ => 0), (fun _ => 0), (fun _ => 0), (fun _ => 0), (fun _ => 0), (fun _ => 0), (fun _ => 0), (fun _ => 0), (fun _ => 0), (fun _ => 0), (fun _ => 0), (fun _ => 0), (fun _ => 0), (fun _ => 0), (fun _ => 0), (fun _ => 0)) v) k1 k2 (nI s) 0 0 0 0 (fun _ => 0) (fun _ => 0) (fun _ => 0) (fun _ => 0) (fun _ => 0) (fun _ => 0) (fun _ => 0) (fun _ => 0) (fun _ => 0) (fun _ => 0) (fun _ => 0) (fun _ => 0) (fun _ => 0) (fun _ => 0) (fun _ => 0) (fun _ => 0) (fun _ => 0) := by
    unfold wY_init_161
    rcases hkk with ⟨h1, h2, e⟩ | ⟨h1, h2, e⟩ | ⟨h1, e⟩
    · exact br_t h1 (br_t h2 (by rw [e]; exact K3))
    · subst e
      exact br_t h1 (br_f h2 K3)
    · subst e
      exact br_f h1 K3
  show wpY_init (fun v => i_Rel 3 (nI (3 * s), nI kk, nI pp, 7, 0, 0, 0, 0, 0, (fun _ => 0), (fun _ => 0), (fun _ => 0), (fun _ => 0), (fun _ => 0), (fun _ => 0), (fun _ => 0), (fun _ => 0), (fun _ => 0), (fun _ => 0), (fun _ => 0), (fun _ => 0), (fun _ => 0), (fun _ => 0), (fun _ => 0), (fun _ => 0), (fun _ => 0), (fun _ => 0), (fun _ => 0), (fun _ => 0), (fun _ => 0), (fun _ => 0), (fun _ => 0)) v) k0 k1 k2
  unfold wpY_init
  rcases hs with ⟨h1, h2, e⟩ | ⟨h1, h2, e⟩ | ⟨h1, e⟩
  · exact br_t h1 (br_t h2 (by rw [e]; exact K2))
  · subst e
    exact br_t h1 (br_f h2 K2)
  · subst e
    exact br_f h1 K2
end
section
/-! withStatus; Y's reach, component, step -/
def qs_w (st : Nat → Int32) (r : Nat) (w : Int32) : Nat → Bool := fun j => decide (st (r * 24 + j) = w)
theorem qs_wb {n : Nat} (hn : n ≤ 24) (st : Nat → Int32) (r : Nat) (w : Int32) (j : Nat) : bt (qa_sF (qs_w st r w) n) j = true ↔ (j < n ∧ st (r * 24 + j) = w) := by
  rw [qa_sFb _ n (by omega), Bool.and_eq_true, decide_eq_true_eq]
  unfold qs_w
  rw [decide_eq_true_eq]
section
variable {n kk pp : Nat} {up lost vis dpt hgt ons : Int32} {st op ky va sq de ba rb ph re rs li ll ce po go ord low edg pth pnd mem nds : Nat → Int32}
theorem qx_ws {post : Int32 → Prop} (hn : n ≤ 24) {r : Nat} {w : Int32} (hr : r < 3) (h : post (qa_sF (qs_w st r w) n)) : wpX_withStatus post (nI n, nI kk, nI pp, up, lost, vis, dpt, hgt, ons, st, op, ky, va, sq, de, ba, rb, ph, re, rs, li, ll, ce, po, go, ord, low, edg, pth, pnd, mem, nds) (nI r) w := by
  have key : ∀ m j, j + m = n → wX_withStatus_5 post (nI r) w (nI n) (nI kk) (nI pp) up lost vis dpt hgt ons st op ky va sq de ba rb ph re rs li ll ce po go ord low edg pth pnd mem nds (m + 1) (qa_sF (qs_w st r w) j) (nI j) := by
    intro m
    induction m with
    | zero =>
      intro j hj
      have e : j = n := by omega
      subst e
      exact br_t (Int32.le_refl _) h
    | succ m ih =>
      intro j hj
      have ih := ih (j + 1) (by omega)
      refine br_f (nI_ge (by omega) (by omega)) ?_
      rw [qw_ix, nI_clamp (n := r * 24 + j) (by omega)]
      refine qw_in (r * 24 + j) rfl (by omega) (by omega) ?_
      by_cases hc : st (r * 24 + j) = w
      · exact br_t hc (nm_r (qa_sFt (c := qs_w st r w) (decide_eq_true hc)) (nm_r (nI_1 j) ih))
      · refine br_f hc (nm_r (nI_1 j) ?_)
        rw [qa_sFf (c := qs_w st r w) (decide_eq_false hc)]
        exact ih
  exact ⟨n + 1, key n 0 (by omega)⟩
end
section
variable {n kk pp : Nat} {S lost : Int32} {dn st op ky va sq de ba rb ph re rs ce ly ll po go : Nat → Int32}
theorem qy_ws {post : Int32 → Prop} (hn : n ≤ 24) (hS : 3 * S = nI n) {r : Nat} {w : Int32} (hr : r < 3) (h : post (qa_sF (qs_w st r w) n)) : wpY_withStatus post (S, nI kk, nI pp, lost, dn, st, op, ky, va, sq, de, ba, rb, ph, re, rs, ce, ly, ll, po, go) (nI r) w := by
  have key : ∀ m j, j + m = n → wY_withStatus_5 post (nI r) w S (nI kk) (nI pp) lost dn st op ky va sq de ba rb ph re rs ce ly ll po go (m + 1) (qa_sF (qs_w st r w) j) (nI j) := by
    intro m
    induction m with
    | zero =>
      intro j hj
      have e : j = n := by omega
      subst e
      exact br_t (by rw [hS]; exact Int32.le_refl _) h
    | succ m ih =>
      intro j hj
      have ih := ih (j + 1) (by omega)
      refine br_f (by rw [hS]; exact nI_ge (by omega) (by omega)) ?_
      rw [qw_ix, nI_clamp (n := r * 24 + j) (by omega)]
      refine qw_in (r * 24 + j) rfl (by omega) (by omega) ?_
      by_cases hc : st (r * 24 + j) = w
      · exact br_t hc (nm_r (qa_sFt (c := qs_w st r w) (decide_eq_true hc)) (nm_r (nI_1 j) ih))
      · refine br_f hc (nm_r (nI_1 j) ?_)
        rw [qa_sFf (c := qs_w st r w) (decide_eq_false hc)]
        exact ih
  exact ⟨n + 1, key n 0 (by omega)⟩
end
/-- Y's edges -/
def qe_E (n : Nat) (st de : Nat → Int32) (r : Nat) (al : Int32) (a b : Nat) : Prop := (a < n ∧ st (r * 24 + a) = 3) ∧ bt (de (r * 24 + a)) b = true ∧ bt al b = true
theorem qe_Elt {n : Nat} {st de : Nat → Int32} {r : Nat} {al : Int32} (hr : r < 3) (hn : n ≤ 24) (hde : qi_Al (qi_Bs n) de) {i b : Nat} (hi : i < n) (h : qg_R (qe_E n st de r al) i b) : b < n :=
  h (fun y => y < n) hi (fun x y hx hE => qi_Bs_lt (hde (r * 24 + x) (by omega)) hE.2.1)
theorem qe_bool (P : Nat → Prop) : ∃ c : Nat → Bool, ∀ j, c j = true ↔ P j :=
  ⟨fun j => @decide (P j) (Classical.propDecidable _), fun j => @decide_eq_true_iff (P j) (Classical.propDecidable _)⟩
section
variable {n kk pp : Nat} {S lost : Int32} {dn st op ky va sq de ba rb ph re rs ce ly ll po go : Nat → Int32}
theorem qy_r32 {post : Int32 → Prop} {J : Int32 → Int32 → Int32 → Prop} (hn : n ≤ 24) (hS : 3 * S = nI n) {r t : Nat} (hr : r < 3) {al x5 : Int32} :
    ∀ m j, j + m = n → ∀ s, J (qe_ps (qs_w st r 3) (fun a => de (r * 24 + a) &&& al) m j s) x5 (nI (t + 1)) → wY_reach_32 post J (nI r) al x5 (nI t) S (nI kk) (nI pp) lost dn st op ky va sq de ba rb ph re rs ce ly ll po go (m + 1) s (nI j) := by
  intro m
  induction m with
  | zero =>
    intro j hj s h
    have e : j = n := by omega
    subst e
    exact br_t (by rw [hS]; exact Int32.le_refl _) (nm_r (nI_1 t) h)
  | succ m ih =>
    intro j hj s h
    refine br_f (by rw [hS]; exact nI_ge (by omega) (by omega)) ?_
    cases hb : bt s j
    · rw [← qe_ps_f (fun z => by rw [hb] at z; exact Bool.noConfusion z.1)] at h
      exact qa_s0 (by omega) hb (nm_r (nI_1 j) (ih (j + 1) (by omega) s h))
    · refine qa_s1 (by omega) hb ?_
      rw [qw_ix, nI_clamp (n := r * 24 + j) (by omega)]
      refine qw_in (r * 24 + j) rfl (by omega) (by omega) ?_
      by_cases hc : st (r * 24 + j) = 3
      · rw [← qe_ps_t hb (c := qs_w st r 3) (decide_eq_true hc)] at h
        exact br_t hc (qw_in (r * 24 + j) rfl (by omega) (by omega) (nm_e (nm_r (nI_1 j) (ih (j + 1) (by omega) _ h))))
      · rw [← qe_ps_f (c := qs_w st r 3) (fun z => hc (of_decide_eq_true z.2))] at h
        exact br_f hc (nm_r (nI_1 j) (ih (j + 1) (by omega) s h))
theorem qy_reach {post : Int32 → Prop} (hn : n ≤ 24) (hS : 3 * S = nI n) (hde : qi_Al (qi_Bs n) de) {r i : Nat} (hr : r < 3) (hi : i < n) {al : Int32}
    (h : ∀ q, (∀ b, bt q b = true ↔ qg_R (qe_E n st de r al) i b) → post q) : wpY_reach post (S, nI kk, nI pp, lost, dn, st, op, ky, va, sq, de, ba, rb, ph, re, rs, ce, ly, ll, po, go) (nI r) (nI i) al := by
  have hfin : ∀ s, bt s i = true → (∀ b, bt s b = true → qg_R (qe_E n st de r al) i b) → (∀ a b, bt s a = true → qe_E n st de r al a b → bt s b = true) → post s := fun s h1 h2 h3 =>
    h s (fun b => ⟨h2 b, fun hr => hr (fun y => bt s y = true) h1 h3⟩)
  have key : ∀ m t, t + m = 25 → ∀ s old, bt s i = true → (∀ b, bt s b = true → qg_R (qe_E n st de r al) i b) → (¬ s = old → t + 1 ≤ qe_pc s) → (s = old → ∀ a b, bt s a = true → qe_E n st de r al a b → bt s b = true) → wY_reach_11 post (nI r) al S (nI kk) (nI pp) lost dn st op ky va sq de ba rb ph re rs ce ly ll po go (m + 1) s old (nI t) := by
    intro m
    induction m with
    | zero =>
      intro t ht s old h1 h2 h3 h4
      have e : t = 25 := by omega
      subst e
      refine br_t (by decide) (hfin s h1 h2 (h4 ?_))
      apply Classical.byContradiction
      intro hc
      have h5 := h3 hc
      have h6 := qe_pc_le s
      omega
    | succ m ih =>
      intro t ht s old h1 h2 h3 h4
      refine br_f (nI_ge (b := 25) (by omega) (by decide)) ?_
      by_cases hso : s = old
      · exact br_t hso (hfin s h1 h2 (h4 hso))
      · refine br_f hso ⟨n + 1, ?_⟩
        refine qy_r32 hn hS hr n 0 (by omega) s ?_
        have hup : ∀ b, bt s b = true → bt (qe_ps (qs_w st r 3) (fun a => de (r * 24 + a) &&& al) n 0 s) b = true := fun b hb => qe_ps_up n 0 s hb
        have hin : ∀ b, bt (qe_ps (qs_w st r 3) (fun a => de (r * 24 + a) &&& al) n 0 s) b = true → qg_R (qe_E n st de r al) i b := by
          refine qe_ps_in (P := fun b => qg_R (qe_E n st de r al) i b) n 0 s h2 (fun a b ha hlt hc hg => ?_)
          rw [b_and, Bool.and_eq_true] at hg
          exact qg_st ha ⟨⟨by omega, of_decide_eq_true hc⟩, hg.1, hg.2⟩
        have hlt : ∀ b, bt (qe_ps (qs_w st r 3) (fun a => de (r * 24 + a) &&& al) n 0 s) b = true → b < 24 := fun b hb => by
          have := qe_Elt hr hn hde hi (hin b hb)
          omega
        refine ih (t + 1) (by omega) _ s (hup i h1) hin (fun hne => ?_) (fun he a b ha hE => ?_)
        · have h5 := h3 hso
          have h6 := qe_grow hlt hup hne
          omega
        · have hE2 : bt (de (r * 24 + a) &&& al) b = true := by rw [b_and, hE.2.1, hE.2.2]; rfl
          rw [he] at ha ⊢
          exact qe_ps_cl n 0 s he a (by omega) (by have := hE.1.1; omega) ha (decide_eq_true hE.1.2) b hE2
  have h0 : bt ((1 : Int32) <<< (nI i &&& 31)) i = true := by rw [qa_one (by omega)]; simp
  unfold wpY_reach
  refine nm_e ⟨26, ?_⟩
  refine key 25 0 rfl _ 0 h0 (fun b hb => ?_) (fun _ => ?_) (fun e => absurd e (qa_nz h0))
  · rw [qa_one (by omega)] at hb
    have e := of_decide_eq_true hb
    rw [e]
    exact qg_rf
  · have h5 := qe_pc_lt (s := 0) (s' := (1 : Int32) <<< (nI i &&& 31)) (i := i) (by omega) (fun j _ h => by rw [b_0] at h; exact Bool.noConfusion h) (b_0 i) h0
    omega
end
def qe_C (n : Nat) (st de : Nat → Int32) (r : Nat) (al : Int32) (i : Nat) (q : Int32) : Prop := ∀ b, bt q b = true ↔ (qg_R (qe_E n st de r al) i b ∧ qg_R (qe_E n st de r al) b i)
section
variable {n kk pp : Nat} {S lost : Int32} {dn st op ky va sq de ba rb ph re rs ce ly ll po go : Nat → Int32}
theorem qy_comp {post : Int32 → Prop} (hn : n ≤ 24) (hS : 3 * S = nI n) (hde : qi_Al (qi_Bs n) de) {r i : Nat} (hr : r < 3) (hi : i < n) {al : Int32}
    (h : ∀ q, qe_C n st de r al i q → post q) : wpY_component post (S, nI kk, nI pp, lost, dn, st, op, ky, va, sq, de, ba, rb, ph, re, rs, ce, ly, ll, po, go) (nI r) (nI i) al := by
  obtain ⟨c, hc⟩ := qe_bool (fun j => qg_R (qe_E n st de r al) i j ∧ qg_R (qe_E n st de r al) j i)
  have hend : post (qa_sF c n) := by
    refine h _ (fun b => ?_)
    rw [qa_sFb c n (by omega), Bool.and_eq_true, decide_eq_true_eq, hc b]
    exact ⟨fun z => z.2, fun z => ⟨qe_Elt hr hn hde hi z.1, z⟩⟩
  unfold wpY_component
  refine qy_reach hn hS hde hr hi (fun f hf => ?_)
  have key : ∀ m j, j + m = n → wY_component_15 post (nI r) (nI i) al f S (nI kk) (nI pp) lost dn st op ky va sq de ba rb ph re rs ce ly ll po go (m + 1) (qa_sF c j) (nI j) := by
    intro m
    induction m with
    | zero =>
      intro j hj
      have e : j = n := by omega
      subst e
      exact br_t (by rw [hS]; exact Int32.le_refl _) hend
    | succ m ih =>
      intro j hj
      have ih := ih (j + 1) (by omega)
      refine br_f (by rw [hS]; exact nI_ge (by omega) (by omega)) ?_
      refine qy_reach hn hS hde hr (by omega) (fun g hg => ?_)
      have F : c j = false → wY_component_15 post (nI r) (nI i) al f S (nI kk) (nI pp) lost dn st op ky va sq de ba rb ph re rs ce ly ll po go (m + 1) (qa_sF c j) (nI (j + 1)) := by
        intro hcj
        rw [qa_sFf hcj]
        exact ih
      have hcf : ¬ (bt f j = true ∧ bt g i = true) → c j = false := fun z => by
        cases hcj : c j
        · rfl
        · have h5 := (hc j).mp hcj
          exact absurd ⟨(hf j).mpr h5.1, (hg i).mpr h5.2⟩ z
      cases hfj : bt f j
      · exact qa_s0 (by omega) hfj (nm_r (nI_1 j) (F (hcf (fun z => by rw [hfj] at z; exact Bool.noConfusion z.1))))
      · refine qa_s1 (by omega) hfj ?_
        cases hgi : bt g i
        · exact qa_s0 (by omega) hgi (nm_r (nI_1 j) (F (hcf (fun z => by rw [hgi] at z; exact Bool.noConfusion z.2))))
        · have hcj : c j = true := (hc j).mpr ⟨(hf j).mp hfj, (hg i).mp hgi⟩
          exact qa_s1 (by omega) hgi (nm_r (qa_sFt hcj) (nm_r (nI_1 j) ih))
  exact ⟨n + 1, key n 0 (by omega)⟩
/-- the inner test of step -/
theorem qy_77f {post : Int32 → SY → Prop} {J : Int32 → Prop} (hn : n ≤ 24) (hS : 3 * S = nI n) {r i : Nat} (hr : r < 3) {wi ve ex q : Int32} (h : J (nI (i + 1))) :
    ∀ m j, j + m = n → wY_step_77 post J (nI r) wi ve ex (nI i) q S (nI kk) (nI pp) lost dn st op ky va sq de ba rb ph re rs ce ly ll po go (m + 1) 0 (nI j) := by
  intro m
  induction m with
  | zero =>
    intro j hj
    have e : j = n := by omega
    subst e
    exact br_t (by rw [hS]; exact Int32.le_refl _) (br_t rfl (nm_r (nI_1 i) h))
  | succ m ih =>
    intro j hj
    have ih := ih (j + 1) (by omega)
    refine br_f (by rw [hS]; exact nI_ge (by omega) (by omega)) ?_
    rw [qw_ix]
    exact br_c (fun _ => nm_r (nI_1 j) ih) (fun _ => qw_in (r * 24 + j) rfl (by omega) (by omega) (br_c (fun _ => nm_r (nI_1 j) ih) (fun _ => nm_r (nI_1 j) ih)))
theorem qy_77x {post : Int32 → SY → Prop} {J : Int32 → Prop} (hn : n ≤ 24) (hS : 3 * S = nI n) {r i : Nat} (hr : r < 3) {wi ve ex q : Int32} (h : J (nI (i + 1))) :
    ∀ m j, j + m = n → (∃ a, j ≤ a ∧ a < n ∧ bt q a = true ∧ ¬ (de (r * 24 + a) &&& ((q ||| ex) ^^^ (-1))) = 0) → wY_step_77 post J (nI r) wi ve ex (nI i) q S (nI kk) (nI pp) lost dn st op ky va sq de ba rb ph re rs ce ly ll po go (m + 1) 1 (nI j) := by
  intro m
  induction m with
  | zero =>
    rintro j hj ⟨a, h1, h2, _⟩
    omega
  | succ m ih =>
    rintro j hj ⟨a, h1, h2, h3, h4⟩
    refine br_f (by rw [hS]; exact nI_ge (by omega) (by omega)) ?_
    rw [qw_ix, nI_clamp (n := r * 24 + j) (by omega)]
    by_cases e : a = j
    · subst e
      exact qa_s1 (by omega) h3 (qw_in (r * 24 + a) rfl (by omega) (by omega) (br_f h4 (nm_r (nI_1 a) (qy_77f hn hS hr h m (a + 1) (by omega)))))
    · have ih := ih (j + 1) (by omega) ⟨a, by omega, h2, h3, h4⟩
      exact br_c (fun _ => nm_r (nI_1 j) ih) (fun _ => qw_in (r * 24 + j) rfl (by omega) (by omega) (br_c (fun _ => nm_r (nI_1 j) ih) (fun _ => nm_r (nI_1 j) (qy_77f hn hS hr h m (j + 1) (by omega)))))
theorem qy_77t {post : Int32 → SY → Prop} {J : Int32 → Prop} (hn : n ≤ 24) (hS : 3 * S = nI n) {r i : Nat} (hr : r < 3) {wi ve ex q : Int32} (h : wpY_runAll (fun u => post 1 u) (S, nI kk, nI pp, lost, dn, st, op, ky, va, sq, de, ba, rb, ph, re, rs, ce, ly, ll, po, go) (nI r) q)
    (hq : ∀ a, a < n → bt q a = true → (de (r * 24 + a) &&& ((q ||| ex) ^^^ (-1))) = 0) : ∀ m j, j + m = n → wY_step_77 post J (nI r) wi ve ex (nI i) q S (nI kk) (nI pp) lost dn st op ky va sq de ba rb ph re rs ce ly ll po go (m + 1) 1 (nI j) := by
  intro m
  induction m with
  | zero =>
    intro j hj
    have e : j = n := by omega
    subst e
    exact br_t (by rw [hS]; exact Int32.le_refl _) (br_f (by decide) h)
  | succ m ih =>
    intro j hj
    have ih := ih (j + 1) (by omega)
    refine br_f (by rw [hS]; exact nI_ge (by omega) (by omega)) ?_
    rw [qw_ix, nI_clamp (n := r * 24 + j) (by omega)]
    cases hb : bt q j
    · exact qa_s0 (by omega) hb (nm_r (nI_1 j) ih)
    · exact qa_s1 (by omega) hb (qw_in (r * 24 + j) rfl (by omega) (by omega) (br_t (hq j (by omega) hb) (nm_r (nI_1 j) ih)))
end
/-- ready: the set lies within, and its deps in it or executed -/
def qe_D (n : Nat) (de : Nat → Int32) (r : Nat) (wi ex q : Int32) : Prop := (q &&& (wi ^^^ (-1))) = 0 ∧ ∀ a, a < n → bt q a = true → (de (r * 24 + a) &&& ((q ||| ex) ^^^ (-1))) = 0
section
variable {n kk pp : Nat} {S lost : Int32} {dn st op ky va sq de ba rb ph re rs ce ly ll po go : Nat → Int32}
/-- a number that isn't the one -/
theorem qy_skip {post : Int32 → SY → Prop} (hn : n ≤ 24) (hS : 3 * S = nI n) (hde : qi_Al (qi_Bs n) de) {r i m : Nat} (hr : r < 3) (hi : i < n) {wi ve ex : Int32}
    (hno : st (r * 24 + i) = 3 → ∀ q, qe_C n st de r ve i q → ¬ qe_D n de r wi ex q) (h : wY_step_18 post (nI r) wi ve ex S (nI kk) (nI pp) lost dn st op ky va sq de ba rb ph re rs ce ly ll po go m (nI (i + 1))) : wY_step_18 post (nI r) wi ve ex S (nI kk) (nI pp) lost dn st op ky va sq de ba rb ph re rs ce ly ll po go (m + 1) (nI i) := by
  refine br_f (by rw [hS]; exact nI_ge (by omega) (by omega)) ?_
  rw [qw_ix, nI_clamp (n := r * 24 + i) (by omega)]
  refine qw_in (r * 24 + i) rfl (by omega) (by omega) ?_
  by_cases hs : st (r * 24 + i) = 3
  · refine br_t hs ?_
    refine qy_comp hn hS hde hr hi (fun q hq => ?_)
    have hD := hno hs q hq
    by_cases hw : (q &&& (wi ^^^ (-1))) = 0
    · refine br_t hw ⟨n + 1, ?_⟩
      refine qy_77x hn hS hr h n 0 (by omega) ?_
      apply Classical.byContradiction
      intro hc
      exact hD ⟨hw, fun a ha hb => Classical.byContradiction (fun z => hc ⟨a, Nat.zero_le _, ha, hb, z⟩)⟩
    · exact br_f hw ⟨n + 1, qy_77f hn hS hr h n 0 (by omega)⟩
  · exact br_f hs (nm_r (nI_1 i) h)
theorem qy_st0 {post : Int32 → SY → Prop} (hn : n ≤ 24) (hS : 3 * S = nI n) (hde : qi_Al (qi_Bs n) de) {r : Nat} (hr : r < 3) {wi : Int32}
    (hno : ∀ i, i < n → st (r * 24 + i) = 3 → ∀ q, qe_C n st de r (qa_sF (qs_w st r 3) n) i q → ¬ qe_D n de r wi (qa_sF (qs_w st r 4) n) q) (h : post 0 (S, nI kk, nI pp, lost, dn, st, op, ky, va, sq, de, ba, rb, ph, re, rs, ce, ly, ll, po, go)) : wpY_step post (S, nI kk, nI pp, lost, dn, st, op, ky, va, sq, de, ba, rb, ph, re, rs, ce, ly, ll, po, go) (nI r) wi := by
  have key : ∀ m i, i + m = n → wY_step_18 post (nI r) wi (qa_sF (qs_w st r 3) n) (qa_sF (qs_w st r 4) n) S (nI kk) (nI pp) lost dn st op ky va sq de ba rb ph re rs ce ly ll po go (m + 1) (nI i) := by
    intro m
    induction m with
    | zero =>
      intro i hi
      have e : i = n := by omega
      subst e
      exact br_t (by rw [hS]; exact Int32.le_refl _) h
    | succ m ih =>
      intro i hi
      exact qy_skip hn hS hde hr (by omega) (hno i (by omega)) (ih (i + 1) (by omega))
  unfold wpY_step
  refine qy_ws hn hS hr ?_
  refine qy_ws hn hS hr ?_
  exact ⟨n + 1, key n 0 (by omega)⟩
theorem qy_st1 {post : Int32 → SY → Prop} (hn : n ≤ 24) (hS : 3 * S = nI n) (hde : qi_Al (qi_Bs n) de) {r i0 : Nat} (hr : r < 3) (hi0 : i0 < n) {wi q0 : Int32}
    (hno : ∀ i, i < i0 → st (r * 24 + i) = 3 → ∀ q, qe_C n st de r (qa_sF (qs_w st r 3) n) i q → ¬ qe_D n de r wi (qa_sF (qs_w st r 4) n) q)
    (hs : st (r * 24 + i0) = 3) (hq0 : qe_C n st de r (qa_sF (qs_w st r 3) n) i0 q0) (hD : qe_D n de r wi (qa_sF (qs_w st r 4) n) q0)
    (h : wpY_runAll (fun u => post 1 u) (S, nI kk, nI pp, lost, dn, st, op, ky, va, sq, de, ba, rb, ph, re, rs, ce, ly, ll, po, go) (nI r) q0) : wpY_step post (S, nI kk, nI pp, lost, dn, st, op, ky, va, sq, de, ba, rb, ph, re, rs, ce, ly, ll, po, go) (nI r) wi := by
  have key : ∀ m i, i + m = i0 → wY_step_18 post (nI r) wi (qa_sF (qs_w st r 3) n) (qa_sF (qs_w st r 4) n) S (nI kk) (nI pp) lost dn st op ky va sq de ba rb ph re rs ce ly ll po go (m + 1) (nI i) := by
    intro m
    induction m with
    | zero =>
      intro i hi
      have e : i = i0 := by omega
      subst e
      refine br_f (by rw [hS]; exact nI_ge (by omega) (by omega)) ?_
      rw [qw_ix, nI_clamp (n := r * 24 + i) (by omega)]
      refine qw_in (r * 24 + i) rfl (by omega) (by omega) (br_t hs ?_)
      refine qy_comp hn hS hde hr hi0 (fun q hq => ?_)
      have e : q = q0 := b_ext (fun b _ => by
        have h1 := hq b
        have h2 := hq0 b
        cases hb : bt q b <;> cases hb0 : bt q0 b
        · rfl
        · exact absurd (h1.mpr (h2.mp hb0)) (by rw [hb]; exact Bool.noConfusion)
        · exact absurd (h2.mpr (h1.mp hb)) (by rw [hb0]; exact Bool.noConfusion)
        · rfl)
      subst e
      exact br_t hD.1 ⟨n + 1, qy_77t hn hS hr h hD.2 n 0 (by omega)⟩
    | succ m ih =>
      intro i hi
      exact qy_skip hn hS hde hr (by omega) (hno i (by omega)) (ih (i + 1) (by omega))
  unfold wpY_step
  refine qy_ws hn hS hr ?_
  refine qy_ws hn hS hr ?_
  exact ⟨i0 + 1, key i0 0 (by omega)⟩
end
end
section
/-! apply and run; executeComponent and runAll -/
theorem qi_I_ap {k n kk pp r c : Nat} {S up v : Int32} {dn st op ky sq de ba ph re rs li ly ll po go : Nat → Int32} (hr : r < 3) (hc : c < n) (h : qi_I k n kk pp S up dn st op ky sq de ba ph re rs li ly ll po go) (hs : st (r * 24 + c) = 3) :
    qa_cn (qi_ex st r) n < 24 ∧ ll r = nI (qa_cn (qi_ex st r) n) ∧ qi_I k n kk pp S up dn (upd st (r * 24 + c) 4) op ky sq de ba ph re (upd rs (r * 24 + c) v) (upd li (r * 24 + qa_cn (qi_ex st r) n) (nI c)) (upd ly (r * 24 + qa_cn (qi_ex st r) n) (nI c)) (upd ll r (nI (qa_cn (qi_ex st r) n + 1))) po go := by
  obtain ⟨⟨hn3, hn, hkk, hp, hS⟩, hup, hop, hky, hsq, hde, hba, hre, hph, hrs, hli, hpo, hgo⟩ := h
  have hx : r * 24 + c < 72 := by omega
  have hLn := qa_cn_lt (c := qi_ex st r) n hc (decide_eq_false (by rw [hs]; decide))
  refine ⟨by omega, (hli r hr).1, ⟨hn3, hn, hkk, hp, hS⟩, hup, hop, hky, hsq, hde, hba, hre, ?_, ?_, ?_, hpo, hgo⟩
  · refine qi_PH_s hph (fun hc => ?_)
    have h1 := hph _ hx hc
    rw [hs] at h1
    exact absurd h1 (by decide)
  · intro x hx2 hv
    by_cases e : x = r * 24 + c
    · rw [e, pk_us]
    · rw [pk_un e] at hv ⊢
      exact hrs x hx2 hv
  · intro q hq
    by_cases e : q = r
    · rw [e]
      have hcn : qa_cn (qi_ex (upd st (r * 24 + c) 4) r) n = qa_cn (qi_ex st r) n + 1 := by
        refine qa_cn_up (i := c) n hc (decide_eq_false (by rw [hs]; decide)) ?_ (fun j hj hjc => ?_)
        · unfold qi_ex
          rw [pk_us]
          decide
        · unfold qi_ex
          rw [pk_un (by omega)]
      rw [hcn, pk_us]
      refine ⟨rfl, fun m hm => ?_⟩
      by_cases em : m = qa_cn (qi_ex st r) n
      · rw [em, pk_us, pk_us]
        exact ⟨c, hc, rfl, rfl, pk_us⟩
      · obtain ⟨i, hi, e1, e2, e3⟩ := (hli r hr).2 m (by omega)
        refine ⟨i, hi, ?_, ?_, ?_⟩
        · rw [pk_un (by omega)]; exact e1
        · rw [pk_un (by omega)]; exact e2
        · by_cases eic : i = c
          · rw [eic, pk_us]
          · rw [pk_un (by omega)]; exact e3
    · have hcn : qa_cn (qi_ex (upd st (r * 24 + c) 4) q) n = qa_cn (qi_ex st q) n := qa_cn_congr n (fun j hj => by
        unfold qi_ex
        rw [pk_un (by omega)])
      have hle := qa_cn_le (qi_ex st q) n
      rw [hcn, pk_un e]
      refine ⟨(hli q hq).1, fun m hm => ?_⟩
      obtain ⟨i, hi, e1, e2, e3⟩ := (hli q hq).2 m hm
      refine ⟨i, hi, ?_, ?_, ?_⟩
      · rw [pk_un (by omega)]; exact e1
      · rw [pk_un (by omega)]; exact e2
      · rw [pk_un (by omega)]; exact e3
section
variable {n kk pp : Nat} {up lost vis dpt hgt ons : Int32} {st op ky va sq de ba rb ph re rs li ll ce po go ord low edg pth pnd mem nds : Nat → Int32}
theorem qx_105 {post : SX → Prop} {r c L : Nat} {v : Int32} (hr : r < 3) (hc : c < 24) (hL : L < 24) (hl : ll r = nI L) (h : post (nI n, nI kk, nI pp, up, lost, vis, dpt, hgt, ons, upd st (r * 24 + c) 4, op, ky, va, sq, de, ba, rb, ph, re, upd rs (r * 24 + c) v, upd li (r * 24 + L) (nI c), upd ll r (nI (L + 1)), ce, po, go, ord, low, edg, pth, pnd, mem, nds)) : wX_apply_105 post (nI r) (nI c) (nI (r * 24 + c)) v (nI n) (nI kk) (nI pp) up lost vis dpt hgt ons st op ky va sq de ba rb ph re rs li ll ce po go ord low edg pth pnd mem nds := by
  unfold wX_apply_105
  refine qw_sa (r * 24 + c) (by omega) (by omega) ?_
  refine qw_sa (r * 24 + c) (by omega) (by omega) ?_
  rw [nI_clamp (n := r) (by omega)]
  refine qw_in r rfl hr (by omega) (nm_r hl ?_)
  refine br_f (nI_ge (b := 24) hL (by decide)) ?_
  refine qw_st (r * 24 + L) (qw_ix r L) (by omega) (by omega) ?_
  rw [nI_1]
  refine ⟨vp_in_nI hr (by omega), nm_e ?_⟩
  exact h
end
section
variable {n kk pp : Nat} {S lost : Int32} {dn st op ky va sq de ba rb ph re rs ce ly ll po go : Nat → Int32}
theorem qy_106 {post : SY → Prop} {r c L : Nat} (hr : r < 3) (hc : c < 24) (hL : L < 24) (hl : ll r = nI L) (h : post (S, nI kk, nI pp, lost, dn, upd st (r * 24 + c) 4, op, ky, va, sq, de, ba, rb, ph, re, rs, ce, upd ly (r * 24 + L) (nI c), upd ll r (nI (L + 1)), po, go)) : wY_run_106 post (nI r) (nI c) (nI (r * 24 + c)) S (nI kk) (nI pp) lost dn st op ky va sq de ba rb ph re rs ce ly ll po go := by
  unfold wY_run_106
  refine qw_sa (r * 24 + c) (by omega) (by omega) ?_
  rw [nI_clamp (n := r) (by omega), hl, nI_1]
  refine qw_in r rfl hr (by omega) (qw_st (r * 24 + L) (qw_ix r L) (by omega) (by omega) ?_)
  refine qw_in r rfl hr (by omega) ⟨vp_in_nI hr (by omega), nm_e ?_⟩
  exact h
end
section
variable {n kk pp : Nat} {up lost vis dpt hgt ons : Int32} {st op ky va sq de ba rb ph re rs li ll ce po go ord low edg pth pnd mem nds : Nat → Int32} {S : Int32} {dn ly : Nat → Int32}
theorem qe_run {k : Nat} (H : qi_I k n kk pp S up dn st op ky sq de ba ph re rs li ly ll po go) {r c : Nat} (hr : r < 3) (hc : c < n) (hs : st (r * 24 + c) = 3) :
    ∃ ce' rs' li' ly' ll', qi_I k n kk pp S up dn (upd st (r * 24 + c) 4) op ky sq de ba ph re rs' li' ly' ll' po go ∧ ll' r = ll r + 1 ∧
      (∀ post : SX → Prop, post (nI n, nI kk, nI pp, up, lost, vis, dpt, hgt, ons, upd st (r * 24 + c) 4, op, ky, va, sq, de, ba, rb, ph, re, rs', li', ll', ce', po, go, ord, low, edg, pth, pnd, mem, nds) → wpX_apply post (nI n, nI kk, nI pp, up, lost, vis, dpt, hgt, ons, st, op, ky, va, sq, de, ba, rb, ph, re, rs, li, ll, ce, po, go, ord, low, edg, pth, pnd, mem, nds) (nI r) (nI c)) ∧
      (∀ post : SY → Prop, post (S, nI kk, nI pp, lost, dn, upd st (r * 24 + c) 4, op, ky, va, sq, de, ba, rb, ph, re, rs', ce', ly', ll', po, go) → wpY_run post (S, nI kk, nI pp, lost, dn, st, op, ky, va, sq, de, ba, rb, ph, re, rs, ce, ly, ll, po, go) (nI r) (nI c)) := by
  have HA := fun v => qi_I_ap (v := v) hr hc H hs
  obtain ⟨⟨hn3, hn, hkk, hp, hS⟩, hup, hop, hky, hsq, hde, hba, hre, hph, hrs, hli, hpo, hgo⟩ := H
  have hx : r * 24 + c < 72 := by omega
  generalize qa_cn (qi_ex st r) n = L at HA
  have hL := (HA 0).1
  have hl := (HA 0).2.1
  obtain ⟨y, hy, ey⟩ := hky _ hx
  have hcx : r * 8 + y < 24 := by omega
  have eic : nI r * 8 + ky (r * 24 + c) = nI (r * 8 + y) := by rw [ey]; exact qw_ix8 r y
  have hl' : upd ll r (nI (L + 1)) r = ll r + 1 := by rw [pk_us, hl, nI_1]
  by_cases h1 : op (r * 24 + c) = 1
  · refine ⟨ce, upd rs (r * 24 + c) (ce (r * 8 + y)), upd li (r * 24 + L) (nI c), upd ly (r * 24 + L) (nI c), upd ll r (nI (L + 1)), (HA _).2.2, hl', fun post h => ?_, fun post h => ?_⟩
    · unfold wpX_apply
      refine nm_r (e' := nI (r * 24 + c)) (qw_ix r c) ?_
      rw [nI_clamp (n := r * 24 + c) (by omega)]
      refine qw_in (r * 24 + c) rfl hx (by omega) (nm_r (e' := nI (r * 8 + y)) eic ?_)
      rw [nI_clamp (n := r * 8 + y) (by omega)]
      refine qw_in (r * 8 + y) rfl hcx (by omega) (nm_e (qw_in (r * 24 + c) rfl hx (by omega) (br_t h1 ?_)))
      exact qx_105 hr (by omega) hL hl h
    · unfold wpY_run
      refine nm_r (e' := nI (r * 24 + c)) (qw_ix r c) ?_
      rw [nI_clamp (n := r * 24 + c) (by omega)]
      refine qw_in (r * 24 + c) rfl hx (by omega) (nm_r (e' := nI (r * 8 + y)) eic (qw_in (r * 24 + c) rfl hx (by omega) (br_t h1 ?_)))
      unfold wY_run_45 wY_run_56
      rw [nI_clamp (n := r * 8 + y) (by omega), nI_clamp (n := r * 24 + c) (by omega)]
      refine qw_in (r * 8 + y) rfl hcx (by omega) ⟨vp_in_nI hx (by omega), nm_e (qw_in (r * 24 + c) rfl hx (by omega) (br_f (by rw [h1]; decide) ?_))⟩
      unfold wY_run_80
      rw [nI_clamp (n := r * 24 + c) (by omega)]
      refine qw_in (r * 24 + c) rfl hx (by omega) (br_f (by rw [h1]; decide) ?_)
      exact qy_106 hr (by omega) hL hl h
  · by_cases h2 : op (r * 24 + c) = 2
    · refine ⟨upd ce (r * 8 + y) (va (r * 24 + c)), upd rs (r * 24 + c) (ce (r * 8 + y)), upd li (r * 24 + L) (nI c), upd ly (r * 24 + L) (nI c), upd ll r (nI (L + 1)), (HA _).2.2, hl', fun post h => ?_, fun post h => ?_⟩
      · unfold wpX_apply
        refine nm_r (e' := nI (r * 24 + c)) (qw_ix r c) ?_
        rw [nI_clamp (n := r * 24 + c) (by omega)]
        refine qw_in (r * 24 + c) rfl hx (by omega) (nm_r (e' := nI (r * 8 + y)) eic ?_)
        rw [nI_clamp (n := r * 8 + y) (by omega)]
        refine qw_in (r * 8 + y) rfl hcx (by omega) (nm_e (qw_in (r * 24 + c) rfl hx (by omega) (br_f h1 ?_)))
        refine qw_in (r * 24 + c) rfl hx (by omega) (br_t h2 (qw_in (r * 24 + c) rfl hx (by omega) ⟨vp_in_nI hcx (by omega), nm_e ?_⟩))
        exact qx_105 hr (by omega) hL hl h
      · unfold wpY_run
        refine nm_r (e' := nI (r * 24 + c)) (qw_ix r c) ?_
        rw [nI_clamp (n := r * 24 + c) (by omega)]
        refine qw_in (r * 24 + c) rfl hx (by omega) (nm_r (e' := nI (r * 8 + y)) eic (qw_in (r * 24 + c) rfl hx (by omega) (br_f h1 (qw_in (r * 24 + c) rfl hx (by omega) (br_t h2 ?_)))))
        unfold wY_run_45 wY_run_56
        rw [nI_clamp (n := r * 8 + y) (by omega), nI_clamp (n := r * 24 + c) (by omega)]
        refine qw_in (r * 8 + y) rfl hcx (by omega) ⟨vp_in_nI hx (by omega), nm_e (qw_in (r * 24 + c) rfl hx (by omega) (br_t h2 (qw_in (r * 24 + c) rfl hx (by omega) ⟨vp_in_nI hcx (by omega), nm_e ?_⟩)))⟩
        unfold wY_run_80
        rw [nI_clamp (n := r * 24 + c) (by omega)]
        refine qw_in (r * 24 + c) rfl hx (by omega) (br_f (by rw [h2]; decide) ?_)
        exact qy_106 hr (by omega) hL hl h
    · by_cases h3 : op (r * 24 + c) = 3
      · refine ⟨upd ce (r * 8 + y) (ce (r * 8 + y) + va (r * 24 + c)), upd rs (r * 24 + c) 0, upd li (r * 24 + L) (nI c), upd ly (r * 24 + L) (nI c), upd ll r (nI (L + 1)), (HA _).2.2, hl', fun post h => ?_, fun post h => ?_⟩
        · unfold wpX_apply
          refine nm_r (e' := nI (r * 24 + c)) (qw_ix r c) ?_
          rw [nI_clamp (n := r * 24 + c) (by omega)]
          refine qw_in (r * 24 + c) rfl hx (by omega) (nm_r (e' := nI (r * 8 + y)) eic ?_)
          rw [nI_clamp (n := r * 8 + y) (by omega)]
          refine qw_in (r * 8 + y) rfl hcx (by omega) (nm_e (qw_in (r * 24 + c) rfl hx (by omega) (br_f h1 ?_)))
          refine qw_in (r * 24 + c) rfl hx (by omega) (br_f h2 (qw_in (r * 24 + c) rfl hx (by omega) (br_t h3 (qw_in (r * 24 + c) rfl hx (by omega) ⟨vp_in_nI hcx (by omega), nm_e ?_⟩))))
          exact qx_105 hr (by omega) hL hl h
        · unfold wpY_run
          refine nm_r (e' := nI (r * 24 + c)) (qw_ix r c) ?_
          rw [nI_clamp (n := r * 24 + c) (by omega)]
          refine qw_in (r * 24 + c) rfl hx (by omega) (nm_r (e' := nI (r * 8 + y)) eic (qw_in (r * 24 + c) rfl hx (by omega) (br_f h1 (qw_in (r * 24 + c) rfl hx (by omega) (br_f h2 ?_)))))
          unfold wY_run_56
          rw [nI_clamp (n := r * 24 + c) (by omega)]
          refine ⟨vp_in_nI hx (by omega), nm_e (qw_in (r * 24 + c) rfl hx (by omega) (br_f h2 ?_))⟩
          unfold wY_run_80
          rw [nI_clamp (n := r * 24 + c) (by omega), nI_clamp (n := r * 8 + y) (by omega)]
          refine qw_in (r * 24 + c) rfl hx (by omega) (br_t h3 (qw_in (r * 8 + y) rfl hcx (by omega) (qw_in (r * 24 + c) rfl hx (by omega) ⟨vp_in_nI hcx (by omega), nm_e ?_⟩)))
          exact qy_106 hr (by omega) hL hl h
      · refine ⟨ce, upd rs (r * 24 + c) 0, upd li (r * 24 + L) (nI c), upd ly (r * 24 + L) (nI c), upd ll r (nI (L + 1)), (HA _).2.2, hl', fun post h => ?_, fun post h => ?_⟩
        · unfold wpX_apply
          refine nm_r (e' := nI (r * 24 + c)) (qw_ix r c) ?_
          rw [nI_clamp (n := r * 24 + c) (by omega)]
          refine qw_in (r * 24 + c) rfl hx (by omega) (nm_r (e' := nI (r * 8 + y)) eic ?_)
          rw [nI_clamp (n := r * 8 + y) (by omega)]
          refine qw_in (r * 8 + y) rfl hcx (by omega) (nm_e (qw_in (r * 24 + c) rfl hx (by omega) (br_f h1 ?_)))
          refine qw_in (r * 24 + c) rfl hx (by omega) (br_f h2 (qw_in (r * 24 + c) rfl hx (by omega) (br_f h3 ?_)))
          exact qx_105 hr (by omega) hL hl h
        · unfold wpY_run
          refine nm_r (e' := nI (r * 24 + c)) (qw_ix r c) ?_
          rw [nI_clamp (n := r * 24 + c) (by omega)]
          refine qw_in (r * 24 + c) rfl hx (by omega) (nm_r (e' := nI (r * 8 + y)) eic (qw_in (r * 24 + c) rfl hx (by omega) (br_f h1 (qw_in (r * 24 + c) rfl hx (by omega) (br_f h2 ?_)))))
          unfold wY_run_56
          rw [nI_clamp (n := r * 24 + c) (by omega)]
          refine ⟨vp_in_nI hx (by omega), nm_e (qw_in (r * 24 + c) rfl hx (by omega) (br_f h2 ?_))⟩
          unfold wY_run_80
          rw [nI_clamp (n := r * 24 + c) (by omega)]
          refine qw_in (r * 24 + c) rfl hx (by omega) (br_f h3 ?_)
          exact qy_106 hr (by omega) hL hl h
end
end
section
/-! executeComponent and runAll in lockstep -/
section
variable {n kk pp : Nat} {up lost vis dpt hgt ons : Int32} {st op ky va sq de ba rb ph re rs li ll ce po go ord low edg pth pnd mem nds : Nat → Int32}
theorem qx_low {post : Int32 → Prop} {s : Int32} {l : Nat} (hl : l < 24) (hb : bt s l = true) (hm : ∀ j, j < l → bt s j = false) (h : post (nI l)) : wpX_lowest post (nI n, nI kk, nI pp, up, lost, vis, dpt, hgt, ons, st, op, ky, va, sq, de, ba, rb, ph, re, rs, li, ll, ce, po, go, ord, low, edg, pth, pnd, mem, nds) s := by
  have key : ∀ m j, j + m = l → wX_lowest_2 post s (nI n) (nI kk) (nI pp) up lost vis dpt hgt ons st op ky va sq de ba rb ph re rs li ll ce po go ord low edg pth pnd mem nds (m + 1) (nI j) := by
    intro m
    induction m with
    | zero =>
      intro j hj
      have e : j = l := by omega
      subst e
      exact br_f (nI_ge (b := 24) hl (by decide)) (qa_t1 (by omega) hb h)
    | succ m ih =>
      intro j hj
      exact br_f (nI_ge (b := 24) (by omega) (by decide)) (qa_t0 (by omega) (hm j (by omega)) (nm_r (nI_1 j) (ih (j + 1) (by omega))))
  exact ⟨l + 1, key l 0 (by omega)⟩
theorem qx_32 {post : Int32 → SX → Prop} {J} {r : Nat} {L x4 x5 : Int32} {c : Nat} (hr : r < 3) (hB : qe_B L (fun j => sq (r * 24 + j)) 24 c) (h : wX_executeComponent_32 post J (nI r) L x4 x5 (nI n) (nI kk) (nI pp) up lost vis dpt hgt ons st op ky va sq de ba rb ph re rs li ll ce po go ord low edg pth pnd mem nds 1 (nI c) (nI 24)) :
    ∀ m j, j + m = 24 → ∀ c', qe_B L (fun j => sq (r * 24 + j)) j c' → wX_executeComponent_32 post J (nI r) L x4 x5 (nI n) (nI kk) (nI pp) up lost vis dpt hgt ons st op ky va sq de ba rb ph re rs li ll ce po go ord low edg pth pnd mem nds (m + 1) (nI c') (nI j) := by
  intro m
  induction m with
  | zero =>
    intro j hj c' hc'
    have e : j = 24 := by omega
    subst e
    rw [qe_B_u hc' hB]
    exact h
  | succ m ih =>
    intro j hj c' hc'
    have hcj := hc'.2.1
    refine br_f (nI_ge (b := 24) (by omega) (by decide)) ?_
    cases hb : bt L j
    · exact qa_t0 (by omega) hb (nm_r (nI_1 j) (ih (j + 1) (by omega) c' (qe_B_0 hc' hb)))
    · refine qa_t1 (by omega) hb ?_
      rw [qw_ix, qw_ix, nI_clamp (n := r * 24 + j) (by omega), nI_clamp (n := r * 24 + c') (by omega)]
      refine qw_in (r * 24 + j) rfl (by omega) (by omega) (qw_in (r * 24 + c') rfl (by omega) (by omega) ?_)
      by_cases hq : sq (r * 24 + c') ≤ sq (r * 24 + j)
      · exact br_t hq (nm_r (nI_1 j) (ih (j + 1) (by omega) c' (qe_B_keep hc' hq)))
      · exact br_f hq (nm_r (nI_1 j) (ih (j + 1) (by omega) j (qe_B_new hc' hb hq)))
end
section
variable {n kk pp : Nat} {S lost : Int32} {dn st op ky va sq de ba rb ph re rs ce ly ll po go : Nat → Int32}
theorem qy_ra2 {post : SY → Prop} {J} (hn : n ≤ 24) (hS : 3 * S = nI n) {r : Nat} {L x4 : Int32} {c : Nat} (hr : r < 3) (hB : qe_B L (fun j => sq (r * 24 + j)) n c) (h : wY_runAll_18 post J (nI r) L x4 S (nI kk) (nI pp) lost dn st op ky va sq de ba rb ph re rs ce ly ll po go 1 (nI c) (nI n)) :
    ∀ m j, j + m = n → ∀ c', qe_B L (fun j => sq (r * 24 + j)) j c' → wY_runAll_18 post J (nI r) L x4 S (nI kk) (nI pp) lost dn st op ky va sq de ba rb ph re rs ce ly ll po go (m + 1) (nI c') (nI j) := by
  intro m
  induction m with
  | zero =>
    intro j hj c' hc'
    have e : j = n := by omega
    subst e
    rw [qe_B_u hc' hB]
    exact h
  | succ m ih =>
    intro j hj c' hc'
    have hcj := hc'.2.1
    refine br_f (by rw [hS]; exact nI_ge (by omega) (by omega)) ?_
    cases hb : bt L j
    · exact qa_s0 (by omega) hb (nm_r (nI_1 j) (ih (j + 1) (by omega) c' (qe_B_0 hc' hb)))
    · refine qa_s1 (by omega) hb (br_f (nI_pos (by omega)) ?_)
      rw [qw_ix, qw_ix, nI_clamp (n := r * 24 + j) (by omega), nI_clamp (n := r * 24 + c') (by omega)]
      refine qw_in (r * 24 + j) rfl (by omega) (by omega) (qw_in (r * 24 + c') rfl (by omega) (by omega) ?_)
      by_cases hq : sq (r * 24 + c') ≤ sq (r * 24 + j)
      · exact br_t hq (nm_r (nI_1 j) (ih (j + 1) (by omega) c' (qe_B_keep hc' hq)))
      · exact br_f hq (nm_r (nI_1 j) (ih (j + 1) (by omega) j (qe_B_new hc' hb hq)))
theorem qy_ra1 {post : SY → Prop} {J} (hn : n ≤ 24) (hS : 3 * S = nI n) {r : Nat} {L x4 : Int32} {c : Nat} (hr : r < 3) (hB : qe_B L (fun j => sq (r * 24 + j)) n c) (h : wY_runAll_18 post J (nI r) L x4 S (nI kk) (nI pp) lost dn st op ky va sq de ba rb ph re rs ce ly ll po go 1 (nI c) (nI n)) :
    ∀ m j, j + m = n → (∀ a, a < j → bt L a = false) → wY_runAll_18 post J (nI r) L x4 S (nI kk) (nI pp) lost dn st op ky va sq de ba rb ph re rs ce ly ll po go (m + 1) (-1) (nI j) := by
  intro m
  induction m with
  | zero =>
    intro j hj h0
    exfalso
    have h1 := h0 c (by have := hB.2.1; omega)
    rw [hB.1] at h1
    exact Bool.noConfusion h1
  | succ m ih =>
    intro j hj h0
    refine br_f (by rw [hS]; exact nI_ge (by omega) (by omega)) ?_
    cases hb : bt L j
    · refine qa_s0 (by omega) hb (nm_r (nI_1 j) (ih (j + 1) (by omega) (fun a ha => ?_)))
      by_cases e : a = j
      · rw [e]; exact hb
      · exact h0 a (by omega)
    · refine qa_s1 (by omega) hb (br_t (by decide) (nm_r (nI_1 j) ?_))
      exact qy_ra2 hn hS hr hB h m (j + 1) (by omega) j (qe_B_fst hb h0)
theorem qy_ra0 {post : SY → Prop} {J} (hn : n ≤ 24) (hS : 3 * S = nI n) {r : Nat} {x4 : Int32} (h : post (S, nI kk, nI pp, lost, dn, st, op, ky, va, sq, de, ba, rb, ph, re, rs, ce, ly, ll, po, go)) :
    ∀ m j, j + m = n → wY_runAll_18 post J (nI r) 0 x4 S (nI kk) (nI pp) lost dn st op ky va sq de ba rb ph re rs ce ly ll po go (m + 1) (-1) (nI j) := by
  intro m
  induction m with
  | zero =>
    intro j hj
    have e : j = n := by omega
    subst e
    exact br_t (by rw [hS]; exact Int32.le_refl _) (br_f (by decide) h)
  | succ m ih =>
    intro j hj
    refine br_f (by rw [hS]; exact nI_ge (by omega) (by omega)) ?_
    exact qa_s0 (by omega) (b_0 j) (nm_r (nI_1 j) (ih (j + 1) (by omega)))
end
section
variable {n kk pp : Nat} {up lost vis dpt hgt ons : Int32} {st op ky va sq de ba rb ph re rs li ll ce po go ord low edg pth pnd mem nds : Nat → Int32} {S : Int32} {dn ly : Nat → Int32}
theorem qe_exec {k r : Nat} (hr : r < 3) : ∀ (m : Nat) (L : Int32) (t cnt : Nat) (st ce rs li ly ll : Nat → Int32), qe_pc L = m → t + m ≤ 24 → (∀ j, bt L j = true → j < n ∧ st (r * 24 + j) = 3) → qi_I k n kk pp S up dn st op ky sq de ba ph re rs li ly ll po go →
    ∃ st' ce' rs' li' ly' ll', qi_I k n kk pp S up dn st' op ky sq de ba ph re rs' li' ly' ll' po go ∧ (∀ j, bt L j = true → st' (r * 24 + j) = 4) ∧ (∀ x, (∀ j, bt L j = true → x ≠ r * 24 + j) → st' x = st x) ∧ ll' r = ll r + nI m ∧
      (∀ post : Int32 → SX → Prop, post (nI (cnt + m)) (nI n, nI kk, nI pp, up, lost, vis, dpt, hgt, ons, st', op, ky, va, sq, de, ba, rb, ph, re, rs', li', ll', ce', po, go, ord, low, edg, pth, pnd, mem, nds) → wX_executeComponent_8 post (nI r) (m + 1) L (nI cnt) (nI t) (nI n) (nI kk) (nI pp) up lost vis dpt hgt ons st op ky va sq de ba rb ph re rs li ll ce po go ord low edg pth pnd mem nds) ∧
      (∀ post : SY → Prop, post (S, nI kk, nI pp, lost, dn, st', op, ky, va, sq, de, ba, rb, ph, re, rs', ce', ly', ll', po, go) → wY_runAll_5 post (nI r) (m + 1) L (nI t) S (nI kk) (nI pp) lost dn st op ky va sq de ba rb ph re rs ce ly ll po go) := by
  intro m
  induction m with
  | zero =>
    intro L t cnt st ce rs li ly ll hpc ht hL H
    have H0 := H
    obtain ⟨⟨hn3, hn, hkk, hp, hS⟩, hup, hop, hky, hsq, hde, hba, hre, hph, hrs, hli, hpo, hgo⟩ := H0
    have e : L = 0 := qa_eq0.mpr (fun j => by
      cases hb : bt L j
      · rfl
      · have h1 := (hL j hb).1
        rw [qe_pc_0 hpc (by omega)] at hb
        exact Bool.noConfusion hb)
    subst e
    refine ⟨st, ce, rs, li, ly, ll, H, fun j hb => by rw [b_0] at hb; exact Bool.noConfusion hb, fun _ _ => rfl, by rw [nI_0, Int32.add_zero], fun post h => ?_, fun post h => ?_⟩
    · exact br_c (fun _ => h) (fun _ => br_t rfl h)
    · exact br_c (fun _ => h) (fun _ => ⟨n + 1, qy_ra0 hn hS h n 0 (by omega)⟩)
  | succ m ih =>
    intro L t cnt st ce rs li ly ll hpc ht hL H
    have H0 := H
    obtain ⟨⟨hn3, hn, hkk, hp, hS⟩, hup, hop, hky, hsq, hde, hba, hre, hph, hrs, hli, hpo, hgo⟩ := H0
    have hL0 : ¬ L = 0 := fun e => by
      rw [e] at hpc
      have h1 : qe_pc 0 = 0 := by decide
      omega
    obtain ⟨l, hl, hlm⟩ := qe_least hL0
    have hln := (hL l hl).1
    obtain ⟨c, hB⟩ := qe_B_ex (s := L) (q := fun j => sq (r * 24 + j)) n ⟨l, hln, hl⟩
    have hB24 : qe_B L (fun j => sq (r * 24 + j)) 24 c := qe_B_ext hB hn (fun j hj => by
      cases hb : bt L j
      · rfl
      · have := (hL j hb).1
        omega)
    have hcn := hB.2.1
    obtain ⟨ce1, rs1, li1, ly1, ll1, H1, hl1, xr, yr⟩ := qe_run (n := n) (kk := kk) (pp := pp) (up := up) (lost := lost) (vis := vis) (dpt := dpt) (hgt := hgt) (ons := ons) (st := st) (op := op) (ky := ky) (va := va) (sq := sq) (de := de) (ba := ba) (rb := rb) (ph := ph) (re := re) (rs := rs) (li := li) (ll := ll) (ce := ce) (po := po) (go := go) (ord := ord) (low := low) (edg := edg) (pth := pth) (pnd := pnd) (mem := mem) (nds := nds) (S := S) (dn := dn) (ly := ly) H hr hcn (hL c hB.1).2
    have hclr : ∀ j, bt (L &&& (((1 : Int32) <<< (nI c &&& 31)) ^^^ (-1))) j = (bt L j && !decide (j = c)) := qa_clr L (by omega)
    have hclr2 : ∀ j, bt (L &&& (((1 : Int32) <<< (nI c &&& 31)) ^^^ (-1))) j = true → bt L j = true ∧ j ≠ c := fun j hb => by
      rw [hclr j] at hb
      simp at hb
      exact hb
    have hpc' := qe_pc_dn (s := L) (i := c) (by omega) hB.1 hclr
    obtain ⟨st', ce', rs', li', ly', ll', H2, h4, hk, hl2, xo, yo⟩ := ih (L &&& (((1 : Int32) <<< (nI c &&& 31)) ^^^ (-1))) (t + 1) (cnt + 1) (upd st (r * 24 + c) 4) ce1 rs1 li1 ly1 ll1 (by omega) (by omega) (fun j hb => by
      have h5 := hclr2 j hb
      have h6 := hL j h5.1
      rw [pk_un (by omega)]
      exact h6) H1
    have ht24 : ¬ (24 : Int32) ≤ nI t := nI_ge (b := 24) (by omega) (by decide)
    refine ⟨st', ce', rs', li', ly', ll', H2, fun j hb => ?_, fun x hx => ?_, ?_, fun post h => ?_, fun post h => ?_⟩
    · by_cases e : j = c
      · rw [e, hk _ (fun j' hj' ee => (hclr2 j' hj').2 (by omega)), pk_us]
      · exact h4 j (by rw [hclr j, hb]; simp [e])
    · rw [hk x (fun j hj => hx j (hclr2 j hj).1), pk_un (hx c hB.1)]
    · rw [hl2, hl1, Int32.add_assoc, show (1 : Int32) + nI m = nI (m + 1) from by rw [← nI_1, Int32.add_comm]]
    · refine br_f ht24 (br_f hL0 ?_)
      refine qx_low (by omega) hl hlm (nm_r (nI_1 l) ⟨24 - (l + 1) + 1, ?_⟩)
      refine qx_32 hr hB24 ?_ (24 - (l + 1)) (l + 1) (by omega) l (qe_B_fst hl hlm)
      refine br_t (by decide) ?_
      refine xr _ ?_
      refine nm_e (nm_r (nI_1 cnt) (nm_r (nI_1 t) ?_))
      refine xo post ?_
      rw [show cnt + 1 + m = cnt + (m + 1) from by omega]
      exact h
    · refine br_f ht24 ⟨n + 1, ?_⟩
      refine qy_ra1 hn hS hr hB ?_ n 0 (by omega) (fun a ha => absurd ha (Nat.not_lt_zero a))
      refine br_t (by rw [hS]; exact Int32.le_refl _) (br_t (nI_pos' (by omega)) (nm_e ?_))
      refine yr _ ?_
      refine nm_r (nI_1 t) ?_
      exact yo post h
end
end
section
/-! Tarjan's search: the arrays against the numbers -/
def qk_A (sc : Int32) (de : Nat → Int32) (r : Nat) (a b : Nat) : Prop := bt sc a = true ∧ bt sc b = true ∧ bt (de (r * 24 + a)) b = true
def qk_C (sc : Int32) (de : Nat → Int32) (r v : Nat) (m q : Int32) : Prop :=
  (∀ w, bt m w = true ↔ (qg_R (qk_A sc de r) v w ∧ qg_R (qk_A sc de r) w v)) ∧ (∀ x, bt q x = true ↔ ((∃ w, bt m w = true ∧ bt (de (r * 24 + w)) x = true) ∧ bt m x = false))
def qk_M (sc : Int32) (de : Nat → Int32) (r : Nat) (o pe : Nat → Nat) (h : Nat) (mem nds : Nat → Int32) : Prop := ∀ v, o v ≠ 0 → (∀ j, j < h → pe j ≠ v) → qk_C sc de r v (mem v) (nds v)
def qk_mu (o : Nat → Nat) (edg : Nat → Int32) (d : Nat) : Nat := qa_sm (fun x => if o x = 0 then 25 else qe_pc (edg x)) 24 + d
def qk_J (r : Nat) (sc : Int32) (de : Nat → Int32) (V0 : Nat → Prop) (ons : Int32) (ord low edg pth pnd mem nds : Nat → Int32) (o l pa pe : Nat → Nat) (d h v : Nat) : Prop :=
  (∀ x, x < 24 → ord x = nI (o x)) ∧ (∀ x, x < 24 → low x = nI (l x)) ∧ (∀ i, i < d → pth i = nI (pa i)) ∧ (∀ j, j < h → pnd j = nI (pe j)) ∧ (∀ x, bt ons x = true ↔ ∃ j, j < h ∧ pe j = x) ∧
  qt_T (fun x => bt sc x = true) (qk_A sc de r) o l (fun x w => bt (edg x) w = true) pa pe d h v ∧ (∀ x w, o x ≠ 0 → bt (edg x) w = true → qk_A sc de r x w) ∧ qk_M sc de r o pe h mem nds ∧ (∀ x, V0 x → o x ≠ 0) ∧ v + qa_cn (fun x => decide (o x = 0)) 24 ≤ 24
section
variable {n r : Nat} {sc : Int32} {de : Nat → Int32} {V0 : Nat → Prop} {ons : Int32} {ord low edg pth pnd mem nds : Nat → Int32} {o l pa pe : Nat → Nat} {d h v : Nat}
theorem qk_vlt (hn : n ≤ 24) (hsc : qi_Bs n sc) (J : qk_J r sc de V0 ons ord low edg pth pnd mem nds o l pa pe d h v) {x : Nat} (hx : o x ≠ 0) : x < 24 := by
  obtain ⟨j1, j2, j3, j4, j5, T, j7, j8, j9, j10⟩ := J
  have h1 := qi_Bs_lt hsc (T.1 x hx)
  omega
theorem qk_pe0 (J : qk_J r sc de V0 ons ord low edg pth pnd mem nds o l pa pe d h v) {j : Nat} (hj : j < h) : o (pe j) ≠ 0 := by
  obtain ⟨j1, j2, j3, j4, j5, T, j7, j8, j9, j10⟩ := J
  exact T.2.2.2.1 j hj
theorem qk_pa0 (J : qk_J r sc de V0 ons ord low edg pth pnd mem nds o l pa pe d h v) {i : Nat} (hi : i < d) : o (pa i) ≠ 0 := by
  obtain ⟨j1, j2, j3, j4, j5, T, j7, j8, j9, j10⟩ := J
  exact qt_gray T hi
theorem qk_v24 (J : qk_J r sc de V0 ons ord low edg pth pnd mem nds o l pa pe d h v) : v ≤ 24 ∧ ∀ x, o x ≤ 24 := by
  obtain ⟨j1, j2, j3, j4, j5, T, j7, j8, j9, j10⟩ := J
  have h1 := T.2.1
  refine ⟨by omega, fun x => ?_⟩
  have := h1 x
  omega
theorem qk_d24 (hn : n ≤ 24) (hsc : qi_Bs n sc) (J : qk_J r sc de V0 ons ord low edg pth pnd mem nds o l pa pe d h v) : d ≤ 24 ∧ h ≤ 24 := by
  have hv := fun {x : Nat} => @qk_vlt n r sc de V0 ons ord low edg pth pnd mem nds o l pa pe d h v hn hsc J x
  have hpa := fun {i : Nat} => @qk_pa0 r sc de V0 ons ord low edg pth pnd mem nds o l pa pe d h v J i
  have hpe := fun {i : Nat} => @qk_pe0 r sc de V0 ons ord low edg pth pnd mem nds o l pa pe d h v J i
  obtain ⟨j1, j2, j3, j4, j5, T, j7, j8, j9, j10⟩ := J
  obtain ⟨Ta, Tf, Te, Tb, Tc, Td, T'⟩ := T
  have h1 : d < 25 := qa_pig (f := pa) (w := 24) (fun i j hij hj e => by
    have := Tc i j hij hj
    rw [e] at this
    omega) (fun i hi => by have := hv (hpa hi); omega) (by decide) (fun i hi => by have := hv (hpa hi); omega)
  have h2 : h < 25 := qa_pig (f := pe) (w := 24) (fun i j hij hj e => by
    have := Td i j hij hj
    rw [e] at this
    omega) (fun i hi => by have := hv (hpe hi); omega) (by decide) (fun i hi => by have := hv (hpe hi); omega)
  omega
theorem qk_room (hn : n ≤ 24) (hsc : qi_Bs n sc) (J : qk_J r sc de V0 ons ord low edg pth pnd mem nds o l pa pe d h v) {w : Nat} (hw : o w = 0) (hw24 : w < 24) : d < 24 ∧ h < 24 := by
  have hv := fun {x : Nat} => @qk_vlt n r sc de V0 ons ord low edg pth pnd mem nds o l pa pe d h v hn hsc J x
  have hpa := fun {i : Nat} => @qk_pa0 r sc de V0 ons ord low edg pth pnd mem nds o l pa pe d h v J i
  have hpe := fun {i : Nat} => @qk_pe0 r sc de V0 ons ord low edg pth pnd mem nds o l pa pe d h v J i
  obtain ⟨j1, j2, j3, j4, j5, T, j7, j8, j9, j10⟩ := J
  obtain ⟨Ta, Tf, Te, Tb, Tc, Td, T'⟩ := T
  constructor
  · exact qa_pig (f := pa) (w := w) (fun i j hij hj e => by
      have := Tc i j hij hj
      rw [e] at this
      omega) (fun i hi => hv (hpa hi)) hw24 (fun i hi e => hpa hi (by rw [e]; exact hw))
  · exact qa_pig (f := pe) (w := w) (fun i j hij hj e => by
      have := Td i j hij hj
      rw [e] at this
      omega) (fun i hi => hv (hpe hi)) hw24 (fun i hi e => hpe hi (by rw [e]; exact hw))
/-- entering w -/
theorem qk_Jenter (hn : n ≤ 24) (hsc : qi_Bs n sc) (J : qk_J r sc de V0 ons ord low edg pth pnd mem nds o l pa pe d h v) {w : Nat} {edg1 : Nat → Int32} (hw : o w = 0) (hV : bt sc w = true)
    (hd : 0 < d → qk_A sc de r (pa (d - 1)) w) (he1 : ∀ a b, bt (edg1 a) b = true → bt (edg a) b = true) (he2 : ∀ a b, bt (edg a) b = true → bt (edg1 a) b = true ∨ b = w) :
    qk_J r sc de V0 (ons ||| ((1 : Int32) <<< (nI w &&& 31))) (upd ord w (nI (v + 1))) (upd low w (nI (v + 1))) (upd edg1 w (de (r * 24 + w) &&& sc)) (upd pth d (nI w)) (upd pnd h (nI w)) mem nds
      (qt_u o w (v + 1)) (qt_u l w (v + 1)) (qt_u pa d w) (qt_u pe h w) (d + 1) (h + 1) (v + 1) := by
  have hwn : w < n := qi_Bs_lt hsc hV
  have hpe := fun {i : Nat} => @qk_pe0 r sc de V0 ons ord low edg pth pnd mem nds o l pa pe d h v J i
  obtain ⟨j1, j2, j3, j4, j5, T, j7, j8, j9, j10⟩ := J
  refine ⟨?_, ?_, ?_, ?_, ?_, ?_, ?_, ?_, ?_, ?_⟩
  · intro x hx
    by_cases e : x = w
    · rw [e, pk_us, qt_us]
    · rw [pk_un e, qt_un e]; exact j1 x hx
  · intro x hx
    by_cases e : x = w
    · rw [e, pk_us, qt_us]
    · rw [pk_un e, qt_un e]; exact j2 x hx
  · intro i hi
    by_cases e : i = d
    · rw [e, pk_us, qt_us]
    · rw [pk_un e, qt_un e]; exact j3 i (by omega)
  · intro j hj
    by_cases e : j = h
    · rw [e, pk_us, qt_us]
    · rw [pk_un e, qt_un e]; exact j4 j (by omega)
  · intro x
    rw [qa_orb ons (by omega), Bool.or_eq_true, decide_eq_true_eq, j5 x]
    constructor
    · rintro (⟨j, hj, e⟩ | e)
      · exact ⟨j, by omega, by rw [qt_un (by omega)]; exact e⟩
      · exact ⟨h, by omega, by rw [qt_us, e]⟩
    · rintro ⟨j, hj, e⟩
      by_cases ej : j = h
      · rw [ej, qt_us] at e
        exact Or.inr e.symm
      · rw [qt_un ej] at e
        exact Or.inl ⟨j, by omega, e⟩
  · refine qt_enter (e1 := fun x w => bt (edg1 x) w = true) T hw hV hd he1 he2 (fun a b ha => ?_) (fun b hb => ?_)
    · show bt (upd edg1 w (de (r * 24 + w) &&& sc) a) b = true ↔ _
      rw [pk_un ha]
    · show bt (upd edg1 w (de (r * 24 + w) &&& sc) w) b = true
      rw [pk_us, b_and, hb.2.2, hb.2.1]; rfl
  · intro x b hx hb
    by_cases e : x = w
    · rw [e, pk_us, b_and, Bool.and_eq_true] at hb
      rw [e]
      exact ⟨hV, hb.2, hb.1⟩
    · rw [qt_un e] at hx
      rw [pk_un e] at hb
      exact j7 x b hx (he1 x b hb)
  · intro x hx hp
    have e : x ≠ w := fun e => hp h (by omega) (by rw [qt_us, e])
    rw [qt_un e] at hx
    exact j8 x hx (fun j hj ej => hp j (by omega) (by rw [qt_un (by omega)]; exact ej))
  · intro x hx
    by_cases e : x = w
    · rw [e, qt_us]; omega
    · rw [qt_un e]; exact j9 x hx
  · have h1 := qa_cn_up (c := fun x => decide (qt_u o w (v + 1) x = 0)) (c' := fun x => decide (o x = 0)) (i := w) 24 (by omega) (decide_eq_false (by rw [qt_us]; omega)) (decide_eq_true hw) (fun j _ hj => by
      show decide (o j = 0) = decide (qt_u o w (v + 1) j = 0)
      rw [qt_un hj])
    omega
theorem qk_mu_enter {w : Nat} {edg1 : Nat → Int32} {x : Int32} (hw24 : w < 24) (hw : o w = 0) : qk_mu (qt_u o w (v + 1)) (upd edg1 w x) (d + 1) ≤ qk_mu o edg1 d := by
  unfold qk_mu
  have h1 := qa_sm_one (f := fun x => if o x = 0 then 25 else qe_pc (edg1 x)) (g := fun y => if qt_u o w (v + 1) y = 0 then 25 else qe_pc (upd edg1 w x y)) (i := w) 24 hw24 (fun j _ hj => by
    show (if qt_u o w (v + 1) j = 0 then 25 else qe_pc (upd edg1 w x j)) = if o j = 0 then 25 else qe_pc (edg1 j)
    rw [qt_un hj, pk_un hj])
  have h2 : (if o w = 0 then 25 else qe_pc (edg1 w)) = 25 := if_pos hw
  have h3 : (if qt_u o w (v + 1) w = 0 then 25 else qe_pc (upd edg1 w x w)) = qe_pc x := by rw [qt_us, if_neg (by omega), pk_us]
  have h4 := qe_pc_le x
  rw [h2, h3] at h1
  omega
theorem qk_mu_edge {u w : Nat} {x : Int32} (hu24 : u < 24) (hu : o u ≠ 0) (hw24 : w < 24) (hb : bt (edg u) w = true) (hx : ∀ j, bt x j = (bt (edg u) j && !decide (j = w))) : qk_mu o (upd edg u x) d + 1 = qk_mu o edg d := by
  unfold qk_mu
  have h1 := qa_sm_one (f := fun x => if o x = 0 then 25 else qe_pc (edg x)) (g := fun y => if o y = 0 then 25 else qe_pc (upd edg u x y)) (i := u) 24 hu24 (fun j _ hj => by
    show (if o j = 0 then 25 else qe_pc (upd edg u x j)) = if o j = 0 then 25 else qe_pc (edg j)
    rw [pk_un hj])
  have h2 : (if o u = 0 then 25 else qe_pc (edg u)) = qe_pc (edg u) := if_neg hu
  have h3 : (if o u = 0 then 25 else qe_pc (upd edg u x u)) = qe_pc x := by rw [if_neg hu, pk_us]
  have h4 := qe_pc_dn hw24 hb hx
  rw [h2, h3] at h1
  omega
/-- an edge to a met one -/
theorem qk_Jedge (J : qk_J r sc de V0 ons ord low edg pth pnd mem nds o l pa pe d h v) {u w m : Nat} {x : Int32} {low' : Nat → Int32} (hd : 0 < d) (hu : pa (d - 1) = u) (hA : qk_A sc de r u w) (hw : o w ≠ 0)
    (hx : ∀ j, bt x j = (bt (edg u) j && !decide (j = w))) (hl : ∀ y, y < 24 → low' y = nI (qt_u l u m y)) (hm1 : m ≤ l u) (hm2 : (∃ j, j < h ∧ pe j = w) → m ≤ o w)
    (hm3 : m = l u ∨ ((∃ j, j < h ∧ pe j = w) ∧ m = o w)) : qk_J r sc de V0 ons ord low' (upd edg u x) pth pnd mem nds o (qt_u l u m) pa pe d h v := by
  obtain ⟨j1, j2, j3, j4, j5, T, j7, j8, j9, j10⟩ := J
  have he : ∀ a b, bt (upd edg u x a) b = true ↔ (bt (edg a) b = true ∧ ¬ (a = u ∧ b = w)) := fun a b => by
    by_cases e : a = u
    · rw [e, pk_us, hx b]
      by_cases e2 : b = w
      · simp [e2]
      · simp [e2]
    · rw [pk_un e]
      simp [e]
  refine ⟨j1, hl, j3, j4, j5, qt_edge T hd hu hA hw he hm1 hm2 hm3, fun y b hy hb => j7 y b hy ((he y b).mp hb).1, j8, j9, j10⟩
theorem qk_Jleave (J : qk_J r sc de V0 ons ord low edg pth pnd mem nds o l pa pe d h v) {v1 u m : Nat} {low' : Nat → Int32} (hd : 0 < d) (hv : pa (d - 1) = v1) (hu : pa (d - 2) = u) (hne : edg v1 = 0) (hlv : l v1 ≠ o v1)
    (hl : ∀ y, y < 24 → low' y = nI (qt_u l u m y)) (hm1 : m ≤ l u) (hm2 : m ≤ l v1) (hm3 : m = l u ∨ m = l v1) : qk_J r sc de V0 ons ord low' edg pth pnd mem nds o (qt_u l u m) pa pe (d - 1) h v := by
  obtain ⟨j1, j2, j3, j4, j5, T, j7, j8, j9, j10⟩ := J
  exact ⟨j1, hl, fun i hi => j3 i (by omega), j4, j5, qt_leave T hd hv hu (fun w hb => by rw [hne, b_0] at hb; exact Bool.noConfusion hb) hlv hm1 hm2 hm3, j7, j8, j9, j10⟩
theorem qk_Jclose (J : qk_J r sc de V0 ons ord low edg pth pnd mem nds o l pa pe d h v) {v1 jv : Nat} {s nd : Int32} {mem' nds' : Nat → Int32} (hd : 0 < d) (hv : pa (d - 1) = v1) (hne : edg v1 = 0) (hlv : l v1 = o v1) (hjv : jv < h) (ejv : pe jv = v1)
    (hs : ∀ x, bt s x = true ↔ ∃ j, jv ≤ j ∧ j < h ∧ pe j = x) (hnd : ∀ x, bt nd x = true ↔ ∃ j, jv ≤ j ∧ j < h ∧ bt (de (r * 24 + pe j)) x = true)
    (hm : ∀ w, w < 24 → mem' w = if bt s w = true then s else mem w) (hq : ∀ w, w < 24 → nds' w = if bt s w = true then nd &&& (s ^^^ (-1)) else nds w) (h24 : ∀ x, o x ≠ 0 → x < 24) :
    qk_J r sc de V0 (ons &&& (s ^^^ (-1))) ord low edg pth pnd mem' nds' o l pa pe (d - 1) jv v := by
  obtain ⟨j1, j2, j3, j4, j5, T, j7, j8, j9, j10⟩ := J
  have hne' : ∀ w, ¬ bt (edg v1) w = true := fun w hb => by rw [hne, b_0] at hb; exact Bool.noConfusion hb
  have hinj : ∀ i j, i < h → j < h → pe i = pe j → i = j := fun i j hi hj e => by
    rcases Nat.lt_trichotomy i j with h1 | h1 | h1
    · have := T.2.2.2.2.2.1 i j h1 hj
      rw [e] at this
      omega
    · exact h1
    · have := T.2.2.2.2.2.1 j i h1 hi
      rw [e] at this
      omega
  refine ⟨j1, j2, fun i hi => j3 i (by omega), fun j hj => j4 j (by omega), ?_, qt_close T hd hv hne' hlv hjv ejv, j7, ?_, j9, j10⟩
  · intro x
    rw [qa_diff, Bool.and_eq_true, j5 x, Bool.not_eq_true']
    constructor
    · rintro ⟨⟨j, hj, e⟩, hsx⟩
      refine ⟨j, ?_, e⟩
      apply Classical.byContradiction
      intro hc
      have := (hs x).mpr ⟨j, by omega, hj, e⟩
      rw [hsx] at this
      exact Bool.noConfusion this
    · rintro ⟨j, hj, e⟩
      refine ⟨⟨j, by omega, e⟩, ?_⟩
      cases hb : bt s x
      · rfl
      · obtain ⟨j2, hj2, hj3, e2⟩ := (hs x).mp hb
        have := hinj j j2 (by omega) hj3 (e.trans e2.symm)
        omega
  · intro x hx hp
    have hx24 := h24 x hx
    rw [hm x hx24, hq x hx24]
    by_cases hb : bt s x = true
    · rw [if_pos hb, if_pos hb]
      obtain ⟨j, hj1, hj2, e⟩ := (hs x).mp hb
      refine ⟨fun w => ?_, fun y => ?_⟩
      · rw [hs w, qt_scc T hd hv hne' hlv hjv ejv hj1 hj2 w, e]
      · rw [qa_diff, Bool.and_eq_true, Bool.not_eq_true', hnd y]
        constructor
        · rintro ⟨⟨j', h1, h2, h3⟩, h4⟩
          exact ⟨⟨pe j', (hs _).mpr ⟨j', h1, h2, rfl⟩, h3⟩, h4⟩
        · rintro ⟨⟨w, h1, h2⟩, h4⟩
          obtain ⟨j', h5, h6, e2⟩ := (hs w).mp h1
          exact ⟨⟨j', h5, h6, by rw [e2]; exact h2⟩, h4⟩
    · rw [if_neg hb, if_neg hb]
      refine j8 x hx (fun j hj e => ?_)
      by_cases hj2 : j < jv
      · exact hp j hj2 e
      · exact hb ((hs x).mpr ⟨j, by omega, hj, e⟩)
end
end
section
/-! Tarjan's search: the walk -/
section
variable {n kk pp : Nat} {up lost vis dpt hgt ons : Int32} {st op ky va sq de ba rb ph re rs li ll ce po go ord low edg pth pnd mem nds : Nat → Int32}
theorem qx_enter {post : SX → Prop} {r d h v w : Nat} {sc : Int32} (hr : r < 3) (hw : w < 24) (hd : d < 24) (hh : h < 24)
    (hp : post (nI n, nI kk, nI pp, up, lost, nI (v + 1), nI (d + 1), nI (h + 1), ons ||| ((1 : Int32) <<< (nI w &&& 31)), st, op, ky, va, sq, de, ba, rb, ph, re, rs, li, ll, ce, po, go, upd ord w (nI (v + 1)), upd low w (nI (v + 1)), upd edg w (de (r * 24 + w) &&& sc), upd pth d (nI w), upd pnd h (nI w), mem, nds)) :
    wpX_enter post (nI n, nI kk, nI pp, up, lost, nI v, nI d, nI h, ons, st, op, ky, va, sq, de, ba, rb, ph, re, rs, li, ll, ce, po, go, ord, low, edg, pth, pnd, mem, nds) (nI r) (nI w) sc := by
  unfold wpX_enter
  refine br_f (nI_ge (b := 24) hd (by decide)) (br_t (nI_lt (b := 24) hh (by decide)) (nm_r (nI_1 v) ?_))
  refine qw_sa w hw (by omega) ?_
  refine qw_sa w hw (by omega) ?_
  rw [qw_ix, nI_clamp (n := r * 24 + w) (by omega)]
  refine qw_in (r * 24 + w) rfl (by omega) (by omega) (qw_sa w hw (by omega) ?_)
  refine qw_sa d hd (by omega) (nm_r (nI_1 d) ?_)
  refine qw_sa h hh (by omega) (nm_r (nI_1 h) (nm_e ?_))
  exact hp
theorem qx_86 {post : SX → Prop} {s nd : Int32} (h : ∀ mem' nds' : Nat → Int32, (∀ w, w < 24 → mem' w = if bt s w = true then s else mem w) → (∀ w, w < 24 → nds' w = if bt s w = true then nd &&& (s ^^^ (-1)) else nds w) → post (nI n, nI kk, nI pp, up, lost, vis, dpt, hgt, ons, st, op, ky, va, sq, de, ba, rb, ph, re, rs, li, ll, ce, po, go, ord, low, edg, pth, pnd, mem', nds')) :
    wX_closeComponent_86 post s nd (nI n) (nI kk) (nI pp) up lost vis dpt hgt ons 25 0 st op ky va sq de ba rb ph re rs li ll ce po go ord low edg pth pnd mem nds := by
  have key : ∀ m j, j + m = 24 → ∀ mem1 nds1 : Nat → Int32, (∀ w, w < 24 → mem1 w = if w < j ∧ bt s w = true then s else mem w) → (∀ w, w < 24 → nds1 w = if w < j ∧ bt s w = true then nd &&& (s ^^^ (-1)) else nds w) → wX_closeComponent_86 post s nd (nI n) (nI kk) (nI pp) up lost vis dpt hgt ons (m + 1) (nI j) st op ky va sq de ba rb ph re rs li ll ce po go ord low edg pth pnd mem1 nds1 := by
    intro m
    induction m with
    | zero =>
      intro j hj mem1 nds1 h1 h2
      have e : j = 24 := by omega
      subst e
      refine br_t (by decide) (h mem1 nds1 (fun w hw => ?_) (fun w hw => ?_))
      · rw [h1 w hw]
        by_cases hb : bt s w = true
        · rw [if_pos ⟨hw, hb⟩, if_pos hb]
        · rw [if_neg (fun z => hb z.2), if_neg hb]
      · rw [h2 w hw]
        by_cases hb : bt s w = true
        · rw [if_pos ⟨hw, hb⟩, if_pos hb]
        · rw [if_neg (fun z => hb z.2), if_neg hb]
    | succ m ih =>
      intro j hj mem1 nds1 h1 h2
      refine br_f (nI_ge (b := 24) (by omega) (by decide)) ?_
      cases hb : bt s j
      · have hb' : ¬ bt s j = true := by rw [hb]; exact Bool.noConfusion
        refine qa_t0 (by omega) hb (nm_r (nI_1 j) (ih (j + 1) (by omega) mem1 nds1 (fun w hw => ?_) (fun w hw => ?_)))
        · rw [h1 w hw]
          by_cases e : w = j
          · subst e
            rw [if_neg (fun z => hb' z.2), if_neg (fun z => hb' z.2)]
          · by_cases hc : w < j ∧ bt s w = true
            · rw [if_pos hc, if_pos ⟨by omega, hc.2⟩]
            · rw [if_neg hc, if_neg (fun z => hc ⟨by omega, z.2⟩)]
        · rw [h2 w hw]
          by_cases e : w = j
          · subst e
            rw [if_neg (fun z => hb' z.2), if_neg (fun z => hb' z.2)]
          · by_cases hc : w < j ∧ bt s w = true
            · rw [if_pos hc, if_pos ⟨by omega, hc.2⟩]
            · rw [if_neg hc, if_neg (fun z => hc ⟨by omega, z.2⟩)]
      · refine qa_t1 (by omega) hb ?_
        refine qw_sa j (by omega) (by omega) ?_
        refine qw_sa j (by omega) (by omega) (nm_r (nI_1 j) ?_)
        refine ih (j + 1) (by omega) _ _ (fun w hw => ?_) (fun w hw => ?_)
        · by_cases e : w = j
          · subst e
            rw [pk_us, if_pos ⟨by omega, hb⟩]
          · rw [pk_un e, h1 w hw]
            by_cases hc : w < j ∧ bt s w = true
            · rw [if_pos hc, if_pos ⟨by omega, hc.2⟩]
            · rw [if_neg hc, if_neg (fun z => hc ⟨by omega, z.2⟩)]
        · by_cases e : w = j
          · subst e
            rw [pk_us, if_pos ⟨by omega, hb⟩]
          · rw [pk_un e, h2 w hw]
            by_cases hc : w < j ∧ bt s w = true
            · rw [if_pos hc, if_pos ⟨by omega, hc.2⟩]
            · rw [if_neg hc, if_neg (fun z => hc ⟨by omega, z.2⟩)]
  exact key 24 0 rfl mem nds (fun w _ => by rw [if_neg (by omega)]) (fun w _ => by rw [if_neg (by omega)])
theorem qx_13 {post : SX → Prop} {r v1 jv h : Nat} {pe : Nat → Nat} (hr : r < 3) (hh : h ≤ 24) (hpn : ∀ j, j < h → pnd j = nI (pe j)) (hlt : ∀ j, j < h → pe j < 24) (ejv : pe jv = v1) (hinj : ∀ j, j < h → pe j = v1 → j = jv)
    (C : ∀ s nd : Int32, (∀ x, bt s x = true ↔ ∃ j, jv ≤ j ∧ j < h ∧ pe j = x) → (∀ x, bt nd x = true ↔ ∃ j, jv ≤ j ∧ j < h ∧ bt (de (r * 24 + pe j)) x = true) → wX_closeComponent_71 post s nd (nI n) (nI kk) (nI pp) up lost vis dpt (nI jv) ons st op ky va sq de ba rb ph re rs li ll ce po go ord low edg pth pnd mem nds) :
    ∀ m k, k = jv + m → k < h → ∀ s nd hg : Int32, (∀ x, bt s x = true ↔ ∃ j, k < j ∧ j < h ∧ pe j = x) → (∀ x, bt nd x = true ↔ ∃ j, k < j ∧ j < h ∧ bt (de (r * 24 + pe j)) x = true) →
      wX_closeComponent_13 post (nI r) (nI v1) (nI n) (nI kk) (nI pp) up lost vis dpt ons st op ky va sq de ba rb ph re rs li ll ce po go ord low edg pth pnd mem nds (m + 2) s nd (nI k) hg := by
  intro m
  induction m with
  | zero =>
    intro k hk hkh s nd hg hs hnd
    have hv24 : pe k < 24 := hlt k hkh
    have ek : k = jv := by omega
    have ev : pe k = v1 := by rw [ek]; exact ejv
    have hsv : bt s v1 = false := by
      cases hb : bt s v1
      · rfl
      · obtain ⟨j, h1, h2, h3⟩ := (hs v1).mp hb
        have := hinj j h2 h3
        omega
    refine br_f (nI_pos (by omega)) (qa_t0 (by omega) hsv ?_)
    refine qw_in k rfl (by omega) (by omega) ?_
    rw [nI_clamp (n := k) (by omega)]
    refine nm_r (hpn k hkh) (nm_e ?_)
    rw [qw_ix, nI_clamp (n := r * 24 + pe k) (by omega)]
    refine qw_in (r * 24 + pe k) rfl (by omega) (by omega) (nm_e (nm_e ?_))
    have K := C (s ||| ((1 : Int32) <<< (nI (pe k) &&& 31))) (nd ||| de (r * 24 + pe k)) (fun x => by
      rw [qa_orb s (by omega), Bool.or_eq_true, decide_eq_true_eq, hs x]
      constructor
      · rintro (⟨j, h1, h2, h3⟩ | h1)
        · exact ⟨j, by omega, h2, h3⟩
        · exact ⟨k, by omega, hkh, h1.symm⟩
      · rintro ⟨j, h1, h2, h3⟩
        by_cases e : j = k
        · rw [e] at h3
          exact Or.inr h3.symm
        · exact Or.inl ⟨j, by omega, h2, h3⟩) (fun x => by
      rw [b_or, Bool.or_eq_true, hnd x]
      constructor
      · rintro (⟨j, h1, h2, h3⟩ | h1)
        · exact ⟨j, by omega, h2, h3⟩
        · exact ⟨k, by omega, hkh, h1⟩
      · rintro ⟨j, h1, h2, h3⟩
        by_cases e : j = k
        · rw [e] at h3
          exact Or.inr h3
        · exact Or.inl ⟨j, by omega, h2, h3⟩)
    rw [← ek] at K
    refine br_c (fun _ => K) (fun _ => qa_t1 (by omega) ?_ K)
    rw [qa_orb s (by omega), ev]
    simp
  | succ m ih =>
    intro k hk hkh s nd hg hs hnd
    have hv24 : pe k < 24 := hlt k hkh
    have hv1 : v1 < 24 := by rw [← ejv]; exact hlt jv (by omega)
    have hsv : bt s v1 = false := by
      cases hb : bt s v1
      · rfl
      · obtain ⟨j, h1, h2, h3⟩ := (hs v1).mp hb
        have := hinj j h2 h3
        omega
    refine br_f (nI_pos (by omega)) (qa_t0 (by omega) hsv ?_)
    refine qw_in k rfl (by omega) (by omega) ?_
    rw [nI_clamp (n := k) (by omega)]
    refine nm_r (hpn k hkh) (nm_e ?_)
    rw [qw_ix, nI_clamp (n := r * 24 + pe k) (by omega)]
    obtain ⟨k', ek'⟩ : ∃ k', k = k' + 1 := ⟨k - 1, by omega⟩
    refine qw_in (r * 24 + pe k) rfl (by omega) (by omega) (nm_e (nm_r (e' := nI k') (by rw [ek']; exact pk_m1 k') ?_))
    refine ih k' (by omega) (by omega) _ _ _ (fun x => ?_) (fun x => ?_)
    · rw [qa_orb s (by omega), Bool.or_eq_true, decide_eq_true_eq, hs x]
      constructor
      · rintro (⟨j, h1, h2, h3⟩ | h1)
        · exact ⟨j, by omega, h2, h3⟩
        · exact ⟨k, by omega, hkh, h1.symm⟩
      · rintro ⟨j, h1, h2, h3⟩
        by_cases e : j = k
        · rw [e] at h3
          exact Or.inr h3.symm
        · exact Or.inl ⟨j, by omega, h2, h3⟩
    · rw [b_or, Bool.or_eq_true, hnd x]
      constructor
      · rintro (⟨j, h1, h2, h3⟩ | h1)
        · exact ⟨j, by omega, h2, h3⟩
        · exact ⟨k, by omega, hkh, h1⟩
      · rintro ⟨j, h1, h2, h3⟩
        by_cases e : j = k
        · rw [e] at h3
          exact Or.inr h3
        · exact Or.inl ⟨j, by omega, h2, h3⟩
theorem qx_close {post : SX → Prop} {r v1 jv h : Nat} {pe : Nat → Nat} (hr : r < 3) (hh : h ≤ 24) (hpn : ∀ j, j < h → pnd j = nI (pe j)) (hlt : ∀ j, j < h → pe j < 24) (hjv : jv < h) (ejv : pe jv = v1) (hinj : ∀ j, j < h → pe j = v1 → j = jv)
    (C : ∀ (s nd : Int32) (mem' nds' : Nat → Int32), (∀ x, bt s x = true ↔ ∃ j, jv ≤ j ∧ j < h ∧ pe j = x) → (∀ x, bt nd x = true ↔ ∃ j, jv ≤ j ∧ j < h ∧ bt (de (r * 24 + pe j)) x = true) →
      (∀ w, w < 24 → mem' w = if bt s w = true then s else mem w) → (∀ w, w < 24 → nds' w = if bt s w = true then nd &&& (s ^^^ (-1)) else nds w) → post (nI n, nI kk, nI pp, up, lost, vis, dpt, nI jv, ons &&& (s ^^^ (-1)), st, op, ky, va, sq, de, ba, rb, ph, re, rs, li, ll, ce, po, go, ord, low, edg, pth, pnd, mem', nds')) :
    wpX_closeComponent post (nI n, nI kk, nI pp, up, lost, vis, dpt, nI h, ons, st, op, ky, va, sq, de, ba, rb, ph, re, rs, li, ll, ce, po, go, ord, low, edg, pth, pnd, mem, nds) (nI r) (nI v1) := by
  obtain ⟨h', eh'⟩ : ∃ h', h = h' + 1 := ⟨h - 1, by omega⟩
  unfold wpX_closeComponent
  refine nm_r (e' := nI h') (by rw [eh']; exact nI_pred h') ⟨(h' - jv) + 2, ?_⟩
  refine qx_13 hr hh hpn hlt ejv hinj (fun s nd hs hnd => ?_) (h' - jv) h' (by omega) (by omega) 0 0 (nI h) (fun x => ?_) (fun x => ?_)
  · unfold wX_closeComponent_71
    refine nm_e ⟨25, ?_⟩
    exact qx_86 (fun mem' nds' h1 h2 => C s nd mem' nds' hs hnd h1 h2)
  · rw [b_0]
    exact ⟨fun z => Bool.noConfusion z, fun ⟨j, h1, h2, _⟩ => by omega⟩
  · rw [b_0]
    exact ⟨fun z => Bool.noConfusion z, fun ⟨j, h1, h2, _⟩ => by omega⟩
theorem qx_leave {post : SX → Prop} {r d h v : Nat} {sc : Int32} {V0 : Nat → Prop} {o l pa pe : Nat → Nat} (hr : r < 3) (hn : n ≤ 24) (hsc : qi_Bs n sc) (J : qk_J r sc de V0 ons ord low edg pth pnd mem nds o l pa pe (d + 1) h v) (he : edg (pa d) = 0)
    (C : ∀ (h' : Nat) (ons' : Int32) (low' mem' nds' : Nat → Int32) (l' : Nat → Nat), qk_J r sc de V0 ons' ord low' edg pth pnd mem' nds' o l' pa pe d h' v → post (nI n, nI kk, nI pp, up, lost, nI v, nI d, nI h', ons', st, op, ky, va, sq, de, ba, rb, ph, re, rs, li, ll, ce, po, go, ord, low', edg, pth, pnd, mem', nds')) :
    wpX_leave post (nI n, nI kk, nI pp, up, lost, nI v, nI (d + 1), nI h, ons, st, op, ky, va, sq, de, ba, rb, ph, re, rs, li, ll, ce, po, go, ord, low, edg, pth, pnd, mem, nds) (nI r) (nI (pa d)) := by
  have hv24 := fun {x : Nat} => @qk_vlt n r sc de V0 ons ord low edg pth pnd mem nds o l pa pe (d + 1) h v hn hsc J x
  have hpa := fun {i : Nat} => @qk_pa0 r sc de V0 ons ord low edg pth pnd mem nds o l pa pe (d + 1) h v J i
  have hpe := fun {i : Nat} => @qk_pe0 r sc de V0 ons ord low edg pth pnd mem nds o l pa pe (d + 1) h v J i
  have hd24 := qk_d24 hn hsc J
  have ho24 := (qk_v24 J).2
  have J0 := J
  obtain ⟨j1, j2, j3, j4, j5, T, j7, j8, j9, j10⟩ := J0
  have hvd : pa d < 24 := hv24 (hpa (i := d) (by omega))
  have hlm := T.2.2.2.2.2.2.2.2.2.2.2.2
  have hlo : ∀ i, i < d + 1 → l (pa i) ≤ 24 := fun i hi => by
    have h1 := (hlm i hi).1
    have h2 := ho24 (pa i)
    omega
  have Tc := T.2.2.2.2.1
  have Td := T.2.2.2.2.2.1
  have Te := T.2.2.1
  unfold wpX_leave
  refine nm_r (nI_pred d) ?_
  by_cases hlv : l (pa d) = o (pa d)
  · have K : wX_leave_56 post (nI r) (nI (pa d)) (nI n) (nI kk) (nI pp) up lost (nI v) (nI d) (nI h) ons st op ky va sq de ba rb ph re rs li ll ce po go ord low edg pth pnd mem nds := by
      unfold wX_leave_56
      rw [nI_clamp (n := pa d) (by omega)]
      refine qw_in (pa d) rfl hvd (by omega) (qw_in (pa d) rfl hvd (by omega) (br_t (by rw [j1 _ hvd, j2 _ hvd, hlv]) ?_))
      obtain ⟨jv, hjv, ejv⟩ := Te d (by omega)
      refine qx_close hr hd24.2 j4 (fun j hj => hv24 (hpe hj)) hjv ejv (fun j hj e => ?_) (fun s nd mem' nds' hs hnd hm hq => ?_)
      · rcases Nat.lt_trichotomy j jv with h1 | h1 | h1
        · have := Td j jv h1 hjv
          rw [e, ejv] at this
          omega
        · exact h1
        · have := Td jv j h1 hj
          rw [e, ejv] at this
          omega
      · exact C jv _ low mem' nds' l (qk_Jclose J (Nat.succ_pos d) rfl he hlv hjv ejv hs hnd hm hq (fun x hx => hv24 hx))
    by_cases hd0 : d = 0
    · refine br_t (by rw [hd0]; decide) K
    · obtain ⟨d', ed'⟩ : ∃ d', d = d' + 1 := ⟨d - 1, by omega⟩
      have hu24 : pa d' < 24 := hv24 (hpa (i := d') (by omega))
      refine br_f (nI_nle (by omega) (by omega)) ?_
      rw [show nI d - 1 = nI d' from by rw [ed']; exact nI_pred d']
      refine qw_in d' rfl (by omega) (by omega) ?_
      rw [nI_clamp (n := d') (by omega)]
      refine nm_r (j3 d' (by omega)) ?_
      rw [nI_clamp (n := pa d') (by omega), nI_clamp (n := pa d) (by omega)]
      refine qw_in (pa d) rfl hvd (by omega) (qw_in (pa d') rfl hu24 (by omega) (br_t ?_ K))
      rw [j2 _ hu24, j2 _ hvd]
      have h1 := (hlm d' (by omega)).1
      have h2 := Tc d' d (by omega) (by omega)
      exact nI_le (by omega) (by have := hlo d (by omega); omega)
  · have hl1 := qt_leave1 T (Nat.succ_pos d) rfl hlv
    obtain ⟨d', ed'⟩ : ∃ d', d = d' + 1 := ⟨d - 1, by omega⟩
    have hu24 : pa d' < 24 := hv24 (hpa (i := d') (by omega))
    have hne : pa d ≠ pa d' := fun e => by
      have := Tc d' d (by omega) (by omega)
      rw [e] at this
      omega
    have hlov := hlo d (by omega)
    have hlou := hlo d' (by omega)
    have hov := ho24 (pa d)
    have hq : ¬ nI (l (pa d)) = nI (o (pa d)) := fun z => hlv ((nI_eq (by omega) (by omega)).mp z)
    refine br_f (nI_nle (by omega) (by omega)) ?_
    rw [show nI d - 1 = nI d' from by rw [ed']; exact nI_pred d']
    refine qw_in d' rfl (by omega) (by omega) ?_
    rw [nI_clamp (n := d') (by omega)]
    refine nm_r (j3 d' (by omega)) ?_
    rw [nI_clamp (n := pa d') (by omega), nI_clamp (n := pa d) (by omega)]
    refine qw_in (pa d) rfl hvd (by omega) (qw_in (pa d') rfl hu24 (by omega) ?_)
    by_cases hle : l (pa d') ≤ l (pa d)
    · refine br_t (by rw [j2 _ hu24, j2 _ hvd]; exact nI_le hle (by omega)) ?_
      unfold wX_leave_56
      rw [nI_clamp (n := pa d) (by omega)]
      refine qw_in (pa d) rfl hvd (by omega) (qw_in (pa d) rfl hvd (by omega) (br_f (by rw [j1 _ hvd, j2 _ hvd]; exact hq) ?_))
      refine C h ons low mem nds _ (qk_Jleave (m := l (pa d')) J (Nat.succ_pos d) rfl (u := pa d') (by rw [ed']; rfl) he hlv (fun y hy => ?_) (Nat.le_refl _) hle (Or.inl rfl))
      rw [qt_self]
      exact j2 y hy
    · refine br_f (by rw [j2 _ hu24, j2 _ hvd]; exact nI_ge (by omega) (by omega)) (qw_in (pa d) rfl hvd (by omega) ⟨vp_in_nI hu24 (by omega), nm_e ?_⟩)
      unfold wX_leave_56
      rw [nI_clamp (n := pa d) (by omega), pk_un hne]
      refine qw_in (pa d) rfl hvd (by omega) (qw_in (pa d) rfl hvd (by omega) (br_f (by rw [j1 _ hvd, j2 _ hvd]; exact hq) ?_))
      refine C h ons _ mem nds _ (qk_Jleave (m := l (pa d)) J (Nat.succ_pos d) rfl (u := pa d') (by rw [ed']; rfl) he hlv (fun y hy => ?_) (by omega) (Nat.le_refl _) (Or.inr rfl))
      by_cases e : y = pa d'
      · rw [e, pk_us, qt_us, j2 _ hvd]
      · rw [pk_un e, qt_un e]; exact j2 y hy
end
end
section
/-! explore, findComponents -/
section
variable {n kk pp : Nat} {up lost vis dpt hgt ons : Int32} {st op ky va sq de ba rb ph re rs li ll ce po go ord low edg pth pnd mem nds : Nat → Int32}
theorem qx_expl {post : SX → Prop} {r : Nat} {sc : Int32} {V0 : Nat → Prop} (hr : r < 3) (hn : n ≤ 24) (hsc : qi_Bs n sc)
    (C : ∀ (h' v' : Nat) (ons' : Int32) (ord' low' edg' pth' pnd' mem' nds' : Nat → Int32) (o' l' pa' pe' : Nat → Nat), qk_J r sc de V0 ons' ord' low' edg' pth' pnd' mem' nds' o' l' pa' pe' 0 h' v' →
      post (nI n, nI kk, nI pp, up, lost, nI v', nI 0, nI h', ons', st, op, ky, va, sq, de, ba, rb, ph, re, rs, li, ll, ce, po, go, ord', low', edg', pth', pnd', mem', nds')) :
    ∀ (N t d h v : Nat) (ons : Int32) (ord low edg pth pnd mem nds : Nat → Int32) (o l pa pe : Nat → Nat), qk_J r sc de V0 ons ord low edg pth pnd mem nds o l pa pe d h v → qk_mu o edg d < N → t + qk_mu o edg d ≤ 700 →
      wX_explore_10 post (nI r) sc N (nI t) (nI n) (nI kk) (nI pp) up lost (nI v) (nI d) (nI h) ons st op ky va sq de ba rb ph re rs li ll ce po go ord low edg pth pnd mem nds := by
  intro N
  induction N with
  | zero => intro t d h v ons ord low edg pth pnd mem nds o l pa pe J hmu; omega
  | succ N ih =>
    intro t d h v ons ord low edg pth pnd mem nds o l pa pe J hmu ht
    cases d with
    | zero =>
      have K := C h v ons ord low edg pth pnd mem nds o l pa pe J
      exact br_c (fun _ => K) (fun _ => br_t (by decide) K)
    | succ d =>
      have hv24 := fun {x : Nat} => @qk_vlt n r sc de V0 ons ord low edg pth pnd mem nds o l pa pe (d + 1) h v hn hsc J x
      have hpa := fun {i : Nat} => @qk_pa0 r sc de V0 ons ord low edg pth pnd mem nds o l pa pe (d + 1) h v J i
      have hd24 := qk_d24 hn hsc J
      have ho24 := (qk_v24 J).2
      have J0 := J
      obtain ⟨j1, j2, j3, j4, j5, T, j7, j8, j9, j10⟩ := J0
      have hu0 : o (pa d) ≠ 0 := hpa (i := d) (by omega)
      have hu24 : pa d < 24 := hv24 hu0
      have hlu : l (pa d) ≤ 24 := by
        have h1 := (T.2.2.2.2.2.2.2.2.2.2.2.2 d (by omega)).1
        have h2 := ho24 (pa d)
        omega
      have hmu1 : qk_mu o edg (d + 1) = qk_mu o edg d + 1 := by
        unfold qk_mu
        exact (Nat.add_assoc _ _ _).symm
      refine br_f (nI_ge (b := 700) (by omega) (by decide)) (br_f (nI_nle (by omega) (by omega)) ?_)
      rw [show nI (d + 1) - 1 = nI d from nI_pred d]
      refine qw_in d rfl (by omega) (by omega) ?_
      rw [nI_clamp (n := d) (by omega)]
      refine nm_r (j3 d (by omega)) ?_
      rw [nI_clamp (n := pa d) (by omega)]
      refine qw_in (pa d) rfl hu24 (by omega) ?_
      by_cases he : edg (pa d) = 0
      · refine br_t he ?_
        refine qx_leave hr hn hsc J he (fun h' ons' low' mem' nds' l' J' => ?_)
        refine nm_r (nI_1 t) ?_
        exact ih (t + 1) d h' v ons' ord low' edg pth pnd mem' nds' o l' pa pe J' (by omega) (by omega)
      · obtain ⟨w, hw, hwm⟩ := qe_least he
        have hA := j7 (pa d) w hu0 hw
        have hwn : w < n := qi_Bs_lt hsc hA.2.1
        have hw24 : w < 24 := by omega
        have hclr : ∀ j, bt (edg (pa d) &&& (((1 : Int32) <<< (nI w &&& 31)) ^^^ (-1))) j = (bt (edg (pa d)) j && !decide (j = w)) := qa_clr _ (by omega)
        have hmu2 := qk_mu_edge (d := d + 1) hu24 hu0 hw24 hw hclr
        refine br_f he (qw_in (pa d) rfl hu24 (by omega) ?_)
        refine qx_low hw24 hw hwm ?_
        refine qw_in (pa d) rfl hu24 (by omega) ⟨vp_in_nI hu24 (by omega), nm_e (qw_in w rfl hw24 (by omega) ?_)⟩
        rw [nI_clamp (n := w) (by omega)]
        by_cases how : o w = 0
        · have hroom := qk_room hn hsc J how hw24
          refine br_t (by rw [j1 w hw24, how]; rfl) ?_
          refine qx_enter hr hw24 hroom.1 hroom.2 ?_
          refine nm_r (nI_1 t) ?_
          have hmu3 := qk_mu_enter (o := o) (v := v) (d := d + 1) (edg1 := upd edg (pa d) (edg (pa d) &&& (((1 : Int32) <<< (nI w &&& 31)) ^^^ (-1)))) (x := de (r * 24 + w) &&& sc) hw24 how
          refine ih (t + 1) (d + 1 + 1) (h + 1) (v + 1) _ _ _ _ _ _ mem nds _ _ _ _ (qk_Jenter hn hsc J (edg1 := upd edg (pa d) (edg (pa d) &&& (((1 : Int32) <<< (nI w &&& 31)) ^^^ (-1)))) how hA.2.1 (fun _ => hA) (fun a b hb => ?_) (fun a b hb => ?_)) (by omega) (by omega)
          · by_cases e : a = pa d
            · rw [e, pk_us, hclr b, Bool.and_eq_true] at hb
              rw [e]
              exact hb.1
            · rw [pk_un e] at hb
              exact hb
          · by_cases e : a = pa d
            · rw [e, pk_us, hclr b]
              rw [e] at hb
              by_cases e2 : b = w
              · exact Or.inr e2
              · exact Or.inl (by rw [hb]; simp [e2])
            · rw [pk_un e]
              exact Or.inl hb
        · have hiw : ord w = nI (o w) := j1 w hw24
          have how24 := ho24 w
          refine br_f (by rw [hiw]; exact nI_ne0 (by omega) (by omega)) ?_
          cases hb : bt ons w
          · refine qa_t0 (by omega) hb (nm_r (nI_1 t) ?_)
            refine ih (t + 1) (d + 1) h v ons ord low _ pth pnd mem nds o _ pa pe (qk_Jedge (m := l (pa d)) J (Nat.succ_pos d) rfl hA how hclr (fun y hy => by rw [qt_self]; exact j2 y hy) (Nat.le_refl _) (fun z => ?_) (Or.inl rfl)) (by omega) (by omega)
            rw [(j5 w).mpr z] at hb
            exact Bool.noConfusion hb
          · have hpen := (j5 w).mp hb
            refine qa_t1 (by omega) hb (qw_in w rfl hw24 (by omega) (qw_in (pa d) rfl hu24 (by omega) ?_))
            by_cases hle : l (pa d) ≤ o w
            · refine br_t (by rw [hiw, j2 _ hu24]; exact nI_le hle (by omega)) (nm_r (nI_1 t) ?_)
              exact ih (t + 1) (d + 1) h v ons ord low _ pth pnd mem nds o _ pa pe (qk_Jedge (m := l (pa d)) J (Nat.succ_pos d) rfl hA how hclr (fun y hy => by rw [qt_self]; exact j2 y hy) (Nat.le_refl _) (fun _ => hle) (Or.inl rfl)) (by omega) (by omega)
            · refine br_f (by rw [hiw, j2 _ hu24]; exact nI_ge (by omega) (by omega)) (qw_in w rfl hw24 (by omega) ⟨vp_in_nI hu24 (by omega), nm_e (nm_r (nI_1 t) ?_)⟩)
              refine ih (t + 1) (d + 1) h v ons ord _ _ pth pnd mem nds o _ pa pe (qk_Jedge (m := o w) J (Nat.succ_pos d) rfl hA how hclr (fun y hy => ?_) (by omega) (fun _ => Nat.le_refl _) (Or.inr ⟨hpen, rfl⟩)) (by omega) (by omega)
              by_cases e : y = pa d
              · rw [e, pk_us, qt_us, hiw]
              · rw [pk_un e, qt_un e]; exact j2 y hy
theorem qk_mu600 (o : Nat → Nat) (edg : Nat → Int32) : qk_mu o edg 0 ≤ 600 := by
  have h1 := qa_sm_le (f := fun x => if o x = 0 then 25 else qe_pc (edg x)) (b := 25) 24 (fun j _ => by
    by_cases e : o j = 0
    · rw [if_pos e]; exact Nat.le_refl _
    · rw [if_neg e]
      have := qe_pc_le (edg j)
      omega)
  unfold qk_mu
  omega
theorem qk_h0 {r : Nat} {sc : Int32} {V0 : Nat → Prop} {o l pa pe : Nat → Nat} {h v : Nat} (J : qk_J r sc de V0 ons ord low edg pth pnd mem nds o l pa pe 0 h v) : h = 0 := by
  obtain ⟨j1, j2, j3, j4, j5, T, j7, j8, j9, j10⟩ := J
  apply Classical.byContradiction
  intro hc
  obtain ⟨i, hi, _⟩ := T.2.2.2.2.2.2.2.1 0 (by omega)
  omega
theorem qx_explore {post : SX → Prop} {r w h v : Nat} {sc : Int32} {V0 : Nat → Prop} {o l pa pe : Nat → Nat} (hr : r < 3) (hn : n ≤ 24) (hsc : qi_Bs n sc) (J : qk_J r sc de V0 ons ord low edg pth pnd mem nds o l pa pe 0 h v) (hw : bt sc w = true) (how : o w = 0)
    (C : ∀ (h' v' : Nat) (ons' : Int32) (ord' low' edg' pth' pnd' mem' nds' : Nat → Int32) (o' l' pa' pe' : Nat → Nat), qk_J r sc de (fun x => V0 x ∨ x = w) ons' ord' low' edg' pth' pnd' mem' nds' o' l' pa' pe' 0 h' v' →
      post (nI n, nI kk, nI pp, up, lost, nI v', nI 0, nI h', ons', st, op, ky, va, sq, de, ba, rb, ph, re, rs, li, ll, ce, po, go, ord', low', edg', pth', pnd', mem', nds')) :
    wpX_explore post (nI n, nI kk, nI pp, up, lost, nI v, nI 0, nI h, ons, st, op, ky, va, sq, de, ba, rb, ph, re, rs, li, ll, ce, po, go, ord, low, edg, pth, pnd, mem, nds) (nI r) (nI w) sc := by
  have hwn : w < n := qi_Bs_lt hsc hw
  have hroom := qk_room hn hsc J how (by omega)
  have J' := qk_Jenter hn hsc J (edg1 := edg) how hw (fun z => absurd z (Nat.lt_irrefl 0)) (fun a b hb => hb) (fun a b hb => Or.inl hb)
  obtain ⟨k1, k2, k3, k4, k5, k6, k7, k8, k9, k10⟩ := J'
  have hmu := qk_mu_enter (o := o) (v := v) (d := 0) (edg1 := edg) (x := de (r * 24 + w) &&& sc) (w := w) (by omega) how
  have hm6 := qk_mu600 o edg
  unfold wpX_explore
  refine qx_enter hr (by omega) hroom.1 hroom.2 ⟨601, ?_⟩
  refine qx_expl (V0 := fun x => V0 x ∨ x = w) hr hn hsc C 601 0 (0 + 1) (h + 1) (v + 1) _ _ _ _ _ _ mem nds _ _ _ _ ⟨k1, k2, k3, k4, k5, k6, k7, k8, fun x hx => ?_, k10⟩ (by omega) (by omega)
  rcases hx with hx | hx
  · exact k9 x hx
  · rw [hx, qt_us]; omega
theorem qx_f71 {post : SX → Prop} {r : Nat} {sc : Int32} (hr : r < 3) (hn : n ≤ 24) (hsc : qi_Bs n sc)
    (C : ∀ (vis' dpt' hgt' ons' : Int32) (ord' low' edg' pth' pnd' mem' nds' : Nat → Int32), (∀ v, bt sc v = true → qk_C sc de r v (mem' v) (nds' v)) →
      post (nI n, nI kk, nI pp, up, lost, vis', dpt', hgt', ons', st, op, ky, va, sq, de, ba, rb, ph, re, rs, li, ll, ce, po, go, ord', low', edg', pth', pnd', mem', nds')) :
    ∀ (m x : Nat), x + m = n → ∀ (h v : Nat) (ons : Int32) (ord low edg pth pnd mem nds : Nat → Int32) (o l pa pe : Nat → Nat), qk_J r sc de (fun y => y < x ∧ bt sc y = true) ons ord low edg pth pnd mem nds o l pa pe 0 h v →
      wX_findComponents_71 post (nI r) sc (m + 1) (nI x) (nI n) (nI kk) (nI pp) up lost (nI v) (nI 0) (nI h) ons st op ky va sq de ba rb ph re rs li ll ce po go ord low edg pth pnd mem nds := by
  intro m
  induction m with
  | zero =>
    intro x hx h v ons ord low edg pth pnd mem nds o l pa pe J
    have e : x = n := by omega
    subst e
    have h0 := qk_h0 J
    obtain ⟨j1, j2, j3, j4, j5, T, j7, j8, j9, j10⟩ := J
    refine br_t (Int32.le_refl _) (C _ _ _ _ _ _ _ _ _ _ _ (fun y hy => ?_))
    exact j8 y (j9 y ⟨qi_Bs_lt hsc hy, hy⟩) (fun j hj => by omega)
  | succ m ih =>
    intro x hx h v ons ord low edg pth pnd mem nds o l pa pe J
    have hx24 : x < 24 := by omega
    have J0 := J
    obtain ⟨j1, j2, j3, j4, j5, T, j7, j8, j9, j10⟩ := J0
    have ho24 := (qk_v24 J).2 x
    refine br_f (nI_ge (by omega) (by omega)) ?_
    cases hb : bt sc x
    · refine qa_t0 (by omega) hb (nm_r (nI_1 x) ?_)
      refine ih (x + 1) (by omega) h v ons ord low edg pth pnd mem nds o l pa pe ⟨j1, j2, j3, j4, j5, T, j7, j8, fun y hy => ?_, j10⟩
      by_cases e : y = x
      · rw [e, hb] at hy; exact Bool.noConfusion hy.2
      · exact j9 y ⟨by omega, hy.2⟩
    · refine qa_t1 (by omega) hb (qw_in x rfl hx24 (by omega) ?_)
      rw [nI_clamp (n := x) (by omega)]
      by_cases hox : o x = 0
      · refine br_t (by rw [j1 x hx24, hox]; rfl) ?_
        refine qx_explore hr hn hsc J hb hox (fun h' v' ons' ord' low' edg' pth' pnd' mem' nds' o' l' pa' pe' J' => ?_)
        refine nm_r (nI_1 x) ?_
        obtain ⟨k1, k2, k3, k4, k5, k6, k7, k8, k9, k10⟩ := J'
        refine ih (x + 1) (by omega) h' v' ons' ord' low' edg' pth' pnd' mem' nds' o' l' pa' pe' ⟨k1, k2, k3, k4, k5, k6, k7, k8, fun y hy => k9 y ?_, k10⟩
        by_cases e : y = x
        · exact Or.inr e
        · exact Or.inl ⟨by omega, hy.2⟩
      · refine br_f (by rw [j1 x hx24]; exact nI_ne0 (by omega) (by omega)) (nm_r (nI_1 x) ?_)
        refine ih (x + 1) (by omega) h v ons ord low edg pth pnd mem nds o l pa pe ⟨j1, j2, j3, j4, j5, T, j7, j8, fun y hy => ?_, j10⟩
        by_cases e : y = x
        · rw [e]; exact hox
        · exact j9 y ⟨by omega, hy.2⟩
theorem qx_find {post : SX → Prop} {r : Nat} {sc : Int32} (hr : r < 3) (hn : n ≤ 24) (hsc : qi_Bs n sc)
    (C : ∀ (vis' dpt' hgt' ons' : Int32) (ord' low' edg' pth' pnd' mem' nds' : Nat → Int32), (∀ v, bt sc v = true → qk_C sc de r v (mem' v) (nds' v)) →
      post (nI n, nI kk, nI pp, up, lost, vis', dpt', hgt', ons', st, op, ky, va, sq, de, ba, rb, ph, re, rs, li, ll, ce, po, go, ord', low', edg', pth', pnd', mem', nds')) : wpX_findComponents post (nI n, nI kk, nI pp, up, lost, vis, dpt, hgt, ons, st, op, ky, va, sq, de, ba, rb, ph, re, rs, li, ll, ce, po, go, ord, low, edg, pth, pnd, mem, nds) (nI r) sc := by
  have key : ∀ m j, j + m = 24 → ∀ ord low edg mem nds : Nat → Int32, (∀ x, x < j → ord x = 0 ∧ low x = 0 ∧ edg x = 0) → wX_findComponents_2 post (nI r) sc (nI n) (nI kk) (nI pp) up lost vis dpt hgt ons (m + 1) (nI j) st op ky va sq de ba rb ph re rs li ll ce po go ord low edg pth pnd mem nds := by
    intro m
    induction m with
    | zero =>
      intro j hj ord low edg mem nds h0
      have e : j = 24 := by omega
      subst e
      refine br_t (by decide) ⟨n + 1, ?_⟩
      refine qx_f71 hr hn hsc C n 0 (by omega) 0 0 0 ord low edg pth pnd mem nds (fun _ => 0) (fun _ => 0) (fun _ => 0) (fun _ => 0) ⟨fun x hx => (h0 x hx).1, fun x hx => (h0 x hx).2.1, fun i hi => absurd hi (Nat.not_lt_zero i), fun i hi => absurd hi (Nat.not_lt_zero i), fun x => ?_, ?_, fun x w hx => absurd rfl hx, fun x hx => absurd rfl hx, fun x hx => absurd hx.1 (Nat.not_lt_zero x), ?_⟩
      · rw [b_0]
        exact ⟨fun z => Bool.noConfusion z, fun ⟨j, h1, _⟩ => absurd h1 (Nat.not_lt_zero j)⟩
      · exact ⟨fun v hv => absurd rfl hv, fun v => Nat.le_refl _, fun i hi => absurd hi (Nat.not_lt_zero i), fun i hi => absurd hi (Nat.not_lt_zero i), fun i j _ hi => absurd hi (Nat.not_lt_zero j), fun i j _ hi => absurd hi (Nat.not_lt_zero j), fun i j hi => absurd hi (Nat.not_lt_zero i), fun i hi => absurd hi (Nat.not_lt_zero i), fun v w hv => absurd rfl hv, fun v w hv => absurd rfl hv, fun v w hv => absurd rfl hv, fun i j w hi => absurd hi (Nat.not_lt_zero i), fun i hi => absurd hi (Nat.not_lt_zero i)⟩
      · have := qa_cn_le (fun x => decide ((fun _ : Nat => (0 : Nat)) x = 0)) 24
        omega
    | succ m ih =>
      intro j hj ord low edg mem nds h0
      refine br_f (nI_ge (b := 24) (by omega) (by decide)) ?_
      refine qw_sa j (by omega) (by omega) ?_
      refine qw_sa j (by omega) (by omega) ?_
      refine qw_sa j (by omega) (by omega) ?_
      refine qw_sa j (by omega) (by omega) ?_
      refine qw_sa j (by omega) (by omega) (nm_r (nI_1 j) ?_)
      refine ih (j + 1) (by omega) _ _ _ _ _ (fun x hx => ?_)
      by_cases e : x = j
      · rw [e, pk_us, pk_us, pk_us]
        exact ⟨rfl, rfl, rfl⟩
      · rw [pk_un e, pk_un e, pk_un e]
        exact h0 x (by omega)
  exact ⟨25, key 24 0 rfl ord low edg mem nds (fun x hx => absurd hx (Nat.not_lt_zero x))⟩
end
end
section
/-! one step of execution on both sides -/
section
variable {n kk pp : Nat} {up lost vis dpt hgt ons : Int32} {st op ky va sq de ba rb ph re rs li ll ce po go ord low edg pth pnd mem nds : Nat → Int32}
theorem qx_fR0 {post : Int32 → Prop} {lf ex : Int32} (hno : ∀ i, i < 24 → ¬ (bt lf i = true ∧ (nds i &&& (ex ^^^ (-1))) = 0)) (h : post (-1)) : wpX_firstReady post (nI n, nI kk, nI pp, up, lost, vis, dpt, hgt, ons, st, op, ky, va, sq, de, ba, rb, ph, re, rs, li, ll, ce, po, go, ord, low, edg, pth, pnd, mem, nds) lf ex := by
  have key : ∀ m j, j + m = 24 → wX_firstReady_2 post lf ex (nI n) (nI kk) (nI pp) up lost vis dpt hgt ons st op ky va sq de ba rb ph re rs li ll ce po go ord low edg pth pnd mem nds (m + 1) (nI j) := by
    intro m
    induction m with
    | zero =>
      intro j hj
      have e : j = 24 := by omega
      subst e
      exact br_t (by decide) h
    | succ m ih =>
      intro j hj
      have ih := ih (j + 1) (by omega)
      refine br_f (nI_ge (b := 24) (by omega) (by decide)) ?_
      cases hb : bt lf j
      · exact qa_t0 (by omega) hb (nm_r (nI_1 j) ih)
      · refine qa_t1 (by omega) hb (qw_in j rfl (by omega) (by omega) ?_)
        rw [nI_clamp (n := j) (by omega)]
        exact br_f (fun z => hno j (by omega) ⟨hb, z⟩) (nm_r (nI_1 j) ih)
  exact ⟨25, key 24 0 rfl⟩
theorem qx_fR1 {post : Int32 → Prop} {lf ex : Int32} {i : Nat} (hi : i < 24) (h1 : bt lf i = true) (h2 : (nds i &&& (ex ^^^ (-1))) = 0) (hno : ∀ j, j < i → ¬ (bt lf j = true ∧ (nds j &&& (ex ^^^ (-1))) = 0)) (h : post (nI i)) : wpX_firstReady post (nI n, nI kk, nI pp, up, lost, vis, dpt, hgt, ons, st, op, ky, va, sq, de, ba, rb, ph, re, rs, li, ll, ce, po, go, ord, low, edg, pth, pnd, mem, nds) lf ex := by
  have key : ∀ m j, j + m = i → wX_firstReady_2 post lf ex (nI n) (nI kk) (nI pp) up lost vis dpt hgt ons st op ky va sq de ba rb ph re rs li ll ce po go ord low edg pth pnd mem nds (m + 1) (nI j) := by
    intro m
    induction m with
    | zero =>
      intro j hj
      have e : j = i := by omega
      subst e
      refine br_f (nI_ge (b := 24) (by omega) (by decide)) (qa_t1 (by omega) h1 (qw_in j rfl (by omega) (by omega) ?_))
      rw [nI_clamp (n := j) (by omega)]
      exact br_t h2 h
    | succ m ih =>
      intro j hj
      have ih := ih (j + 1) (by omega)
      refine br_f (nI_ge (b := 24) (by omega) (by decide)) ?_
      cases hb : bt lf j
      · exact qa_t0 (by omega) hb (nm_r (nI_1 j) ih)
      · refine qa_t1 (by omega) hb (qw_in j rfl (by omega) (by omega) ?_)
        rw [nI_clamp (n := j) (by omega)]
        exact br_f (fun z => hno j (by omega) ⟨hb, z⟩) (nm_r (nI_1 j) ih)
  exact ⟨i + 1, key i 0 (by omega)⟩
end
/-- what holds between the steps of a run: sc scope, wi within, ex executed, lf left -/
def qe_S (n r : Nat) (sc wi ex lf : Int32) (st de : Nat → Int32) : Prop :=
  qi_Bs n sc ∧
  (∀ a b, bt sc a = true → st (r * 24 + a) = 3 → bt (de (r * 24 + a)) b = true → (b < n ∧ st (r * 24 + b) = 3) → bt sc b = true) ∧
  (∀ a b, bt sc a = true → st (r * 24 + a) = 3 → qg_R (qk_A sc de r) a b → qg_R (qk_A sc de r) b a → st (r * 24 + b) = 3) ∧
  (∀ j, bt lf j = true ↔ (bt sc j = true ∧ st (r * 24 + j) = 3)) ∧
  (∀ j, bt ex j = true ↔ (j < n ∧ st (r * 24 + j) = 4)) ∧
  (∀ i, i < n → st (r * 24 + i) = 3 → (bt wi i = true ↔ bt sc i = true))
theorem qe_bext {x y : Int32} (h : ∀ j, bt x j = true ↔ bt y j = true) : x = y := b_ext (fun j _ => by
  have h1 := h j
  cases hx : bt x j <;> cases hy : bt y j
  · rfl
  · rw [h1.mpr hy] at hx; exact Bool.noConfusion hx
  · rw [h1.mp hx] at hy; exact Bool.noConfusion hy
  · rfl)
theorem qe_and0 {x y : Int32} : (x &&& (y ^^^ (-1))) = 0 ↔ ∀ j, bt x j = true → bt y j = true := by
  rw [qa_eq0]
  constructor
  · intro h j hx
    have h1 := h j
    rw [qa_diff, hx] at h1
    simpa using h1
  · intro h j
    rw [qa_diff]
    cases hx : bt x j
    · rfl
    · rw [h j hx]; rfl
section
variable {n r : Nat} {sc wi ex lf : Int32} {st de mem nds : Nat → Int32}
theorem qe_Rsc {a b : Nat} (ha : bt sc a = true) (h : qg_R (qk_A sc de r) a b) : bt sc b = true :=
  h (fun y => bt sc y = true) ha (fun _ _ _ hA => hA.2.1)
/-- a component of Y's is the one that Tarjan found -/
theorem qe_CC (hn : n ≤ 24) (Z : qe_S n r sc wi ex lf st de) (hM : ∀ v, bt sc v = true → qk_C sc de r v (mem v) (nds v)) {i : Nat} (hsi : bt sc i = true) (hs : st (r * 24 + i) = 3) :
    qe_C n st de r (qa_sF (qs_w st r 3) n) i (mem i) := by
  obtain ⟨z1, z2, z3, z4, z5, z6⟩ := Z
  have hin : i < n := qi_Bs_lt z1 hsi
  intro b
  rw [(hM i hsi).1 b]
  have hcomp := qe_comp (sc := fun a => bt sc a = true) (cm := fun a => a < n ∧ st (r * 24 + a) = 3) (dp := fun a b => bt (de (r * 24 + a)) b = true)
    (fun a b h1 h2 h3 h4 => z2 a b h1 h2.2 h3 h4)
    (fun a b h1 h2 h3 h4 => ⟨qi_Bs_lt z1 (qe_Rsc h1 h3), z3 a b h1 h2.2 h3 h4⟩) (i := i) hsi ⟨hin, hs⟩ b
  have hE : ∀ a c, qe_E n st de r (qa_sF (qs_w st r 3) n) a c → ((a < n ∧ st (r * 24 + a) = 3) ∧ bt (de (r * 24 + a)) c = true ∧ (c < n ∧ st (r * 24 + c) = 3)) := fun a c h => ⟨h.1, h.2.1, (qs_wb hn st r 3 c).mp h.2.2⟩
  have hE' : ∀ a c, ((a < n ∧ st (r * 24 + a) = 3) ∧ bt (de (r * 24 + a)) c = true ∧ (c < n ∧ st (r * 24 + c) = 3)) → qe_E n st de r (qa_sF (qs_w st r 3) n) a c := fun a c h => ⟨h.1, h.2.1, (qs_wb hn st r 3 c).mpr h.2.2⟩
  constructor
  · intro h
    have h1 := hcomp.mpr h
    exact ⟨qg_mono hE' h1.1, qg_mono hE' h1.2⟩
  · intro h
    exact hcomp.mp ⟨qg_mono hE h.1, qg_mono hE h.2⟩
theorem qe_rdy (hn : n ≤ 24) (Z : qe_S n r sc wi ex lf st de) (hM : ∀ v, bt sc v = true → qk_C sc de r v (mem v) (nds v)) {i : Nat} (hsi : bt sc i = true) (hs : st (r * 24 + i) = 3) :
    qe_D n de r wi ex (mem i) ↔ (nds i &&& (ex ^^^ (-1))) = 0 := by
  obtain ⟨z1, z2, z3, z4, z5, z6⟩ := Z
  obtain ⟨m1, m2⟩ := hM i hsi
  have hmn : ∀ a, bt (mem i) a = true → a < n ∧ bt sc a = true ∧ st (r * 24 + a) = 3 := fun a ha => by
    have h1 := (m1 a).mp ha
    have h2 := qe_Rsc hsi h1.1
    exact ⟨qi_Bs_lt z1 h2, h2, z3 i a hsi hs h1.1 h1.2⟩
  unfold qe_D
  rw [qe_and0, qe_and0]
  constructor
  · rintro ⟨_, h⟩ x hx
    obtain ⟨⟨w, h1, h2⟩, h3⟩ := (m2 x).mp hx
    have h4 := qe_and0.mp (h w (hmn w h1).1 h1) x h2
    rw [b_or, h3, Bool.false_or] at h4
    exact h4
  · intro h
    refine ⟨fun a ha => (z6 a (hmn a ha).1 (hmn a ha).2.2).mpr (hmn a ha).2.1, fun a _ ha => qe_and0.mpr (fun x hx => ?_)⟩
    rw [b_or]
    cases hmx : bt (mem i) x
    · rw [h x ((m2 x).mpr ⟨⟨a, ha, hx⟩, hmx⟩)]; rfl
    · rfl
theorem qe_notin (Z : qe_S n r sc wi ex lf st de) {i : Nat} {al q : Int32} (hi : i < n) (hs : st (r * 24 + i) = 3) (hns : ¬ bt sc i = true) (hq : qe_C n st de r al i q) : ¬ qe_D n de r wi ex q := by
  obtain ⟨z1, z2, z3, z4, z5, z6⟩ := Z
  intro hD
  have h1 := qe_and0.mp hD.1 i ((hq i).mpr ⟨qg_rf, qg_rf⟩)
  exact hns ((z6 i hi hs).mp h1)
theorem qe_Cu {i : Nat} {al q q' : Int32} (h : qe_C n st de r al i q) (h' : qe_C n st de r al i q') : q = q' := qe_bext (fun j => (h j).trans (h' j).symm)
theorem qe_Snext (Z : qe_S n r sc wi ex lf st de) (hM : ∀ v, bt sc v = true → qk_C sc de r v (mem v) (nds v)) {i : Nat} (hsi : bt sc i = true) (hs : st (r * 24 + i) = 3) {st' : Nat → Int32}
    (h4 : ∀ j, bt (mem i) j = true → st' (r * 24 + j) = 4) (hk : ∀ x, (∀ j, bt (mem i) j = true → x ≠ r * 24 + j) → st' x = st x) :
    qe_S n r sc wi (ex ||| mem i) (lf &&& (mem i ^^^ (-1))) st' de := by
  obtain ⟨z1, z2, z3, z4, z5, z6⟩ := Z
  obtain ⟨m1, m2⟩ := hM i hsi
  have hno : ∀ j, ¬ bt (mem i) j = true → st' (r * 24 + j) = st (r * 24 + j) := fun j hj => hk _ (fun j' hj' e => hj (by rw [show j = j' from by omega]; exact hj'))
  have h3 : ∀ j, st' (r * 24 + j) = 3 → st (r * 24 + j) = 3 ∧ ¬ bt (mem i) j = true := fun j hj => by
    have hc : ¬ bt (mem i) j = true := fun z => by
      rw [h4 j z] at hj
      exact absurd hj (by decide)
    rw [hno j hc] at hj
    exact ⟨hj, hc⟩
  refine ⟨z1, ?_, ?_, ?_, ?_, ?_⟩
  · intro a b ha hs1 hd hb
    exact z2 a b ha (h3 a hs1).1 hd ⟨hb.1, (h3 b hb.2).1⟩
  · intro a b ha hs1 hab hba
    have h5 := h3 a hs1
    rw [hno b (fun z => ?_)]
    · exact z3 a b ha h5.1 hab hba
    · have h6 := (m1 b).mp z
      exact h5.2 ((m1 a).mpr ⟨qg_tr h6.1 hba, qg_tr hab h6.2⟩)
  · intro j
    rw [qa_diff, Bool.and_eq_true, z4 j, Bool.not_eq_true']
    constructor
    · rintro ⟨⟨h5, h6⟩, h7⟩
      exact ⟨h5, by rw [hno j (by rw [h7]; exact Bool.noConfusion)]; exact h6⟩
    · rintro ⟨h5, h6⟩
      have h7 := h3 j h6
      refine ⟨⟨h5, h7.1⟩, ?_⟩
      cases hb : bt (mem i) j
      · rfl
      · exact absurd hb h7.2
  · intro j
    rw [b_or, Bool.or_eq_true, z5 j]
    constructor
    · rintro (⟨h5, h6⟩ | h5)
      · refine ⟨h5, ?_⟩
        by_cases hb : bt (mem i) j = true
        · exact h4 j hb
        · rw [hno j hb]; exact h6
      · exact ⟨qi_Bs_lt z1 (qe_Rsc hsi ((m1 j).mp h5).1), h4 j h5⟩
    · rintro ⟨h5, h6⟩
      by_cases hb : bt (mem i) j = true
      · exact Or.inr hb
      · rw [hno j hb] at h6
        exact Or.inl ⟨h5, h6⟩
  · intro j hj hs1
    exact z6 j hj (h3 j hs1).1
end
section
variable {n kk pp : Nat} {up lost vis dpt hgt ons : Int32} {st op ky va sq de ba rb ph re rs li ll ce po go ord low edg pth pnd mem nds : Nat → Int32} {S : Int32} {dn ly : Nat → Int32}
/-- one step: either none is ready, or the same component runs on both sides -/
theorem qe_step {k r : Nat} (hr : r < 3) {sc wi ex lf : Int32} (H : qi_I k n kk pp S up dn st op ky sq de ba ph re rs li ly ll po go) (Z : qe_S n r sc wi ex lf st de) (hM : ∀ v, bt sc v = true → qk_C sc de r v (mem v) (nds v)) :
    ((∀ post : Int32 → Prop, post (-1) → wpX_firstReady post (nI n, nI kk, nI pp, up, lost, vis, dpt, hgt, ons, st, op, ky, va, sq, de, ba, rb, ph, re, rs, li, ll, ce, po, go, ord, low, edg, pth, pnd, mem, nds) lf ex) ∧ (∀ post : Int32 → SY → Prop, post 0 (S, nI kk, nI pp, lost, dn, st, op, ky, va, sq, de, ba, rb, ph, re, rs, ce, ly, ll, po, go) → wpY_step post (S, nI kk, nI pp, lost, dn, st, op, ky, va, sq, de, ba, rb, ph, re, rs, ce, ly, ll, po, go) (nI r) wi)) ∨
    (∃ (i c : Nat) (st' ce' rs' li' ly' ll' : Nat → Int32), i < 24 ∧ qi_I k n kk pp S up dn st' op ky sq de ba ph re rs' li' ly' ll' po go ∧ qe_S n r sc wi (ex ||| mem i) (lf &&& (mem i ^^^ (-1))) st' de ∧ ll' r = ll r + nI c ∧
      (∀ post : Int32 → Prop, post (nI i) → wpX_firstReady post (nI n, nI kk, nI pp, up, lost, vis, dpt, hgt, ons, st, op, ky, va, sq, de, ba, rb, ph, re, rs, li, ll, ce, po, go, ord, low, edg, pth, pnd, mem, nds) lf ex) ∧
      (∀ post : Int32 → SX → Prop, post (nI c) (nI n, nI kk, nI pp, up, lost, vis, dpt, hgt, ons, st', op, ky, va, sq, de, ba, rb, ph, re, rs', li', ll', ce', po, go, ord, low, edg, pth, pnd, mem, nds) → wpX_executeComponent post (nI n, nI kk, nI pp, up, lost, vis, dpt, hgt, ons, st, op, ky, va, sq, de, ba, rb, ph, re, rs, li, ll, ce, po, go, ord, low, edg, pth, pnd, mem, nds) (nI r) (mem i)) ∧
      (∀ post : Int32 → SY → Prop, post 1 (S, nI kk, nI pp, lost, dn, st', op, ky, va, sq, de, ba, rb, ph, re, rs', ce', ly', ll', po, go) → wpY_step post (S, nI kk, nI pp, lost, dn, st, op, ky, va, sq, de, ba, rb, ph, re, rs, ce, ly, ll, po, go) (nI r) wi)) := by
  have H0 := H
  obtain ⟨⟨hn3, hn, hkk, hp, hS⟩, hup, hop, hky, hsq, hde, hba, hre, hph, hrs, hli, hpo, hgo⟩ := H0
  have Z0 := Z
  obtain ⟨z1, z2, z3, z4, z5, z6⟩ := Z0
  have eex : qa_sF (qs_w st r 4) n = ex := qe_bext (fun j => (qs_wb hn st r 4 j).trans (z5 j).symm)
  have hno : ∀ i, i < n → ¬ (bt lf i = true ∧ (nds i &&& (ex ^^^ (-1))) = 0) → st (r * 24 + i) = 3 → ∀ q, qe_C n st de r (qa_sF (qs_w st r 3) n) i q → ¬ qe_D n de r wi (qa_sF (qs_w st r 4) n) q := by
    intro i hi hP hs q hq
    rw [eex]
    by_cases hsi : bt sc i = true
    · rw [qe_Cu hq (qe_CC hn Z hM hsi hs), qe_rdy hn Z hM hsi hs]
      exact fun z => hP ⟨(z4 i).mpr ⟨hsi, hs⟩, z⟩
    · exact qe_notin Z hi hs hsi hq
  by_cases hex : ∃ i, i < 24 ∧ (bt lf i = true ∧ (nds i &&& (ex ^^^ (-1))) = 0)
  · obtain ⟨i, ⟨hi24, hlf, hnd⟩, hmin⟩ := pk_least (fun i => i < 24 ∧ (bt lf i = true ∧ (nds i &&& (ex ^^^ (-1))) = 0)) hex
    obtain ⟨hsi, hs⟩ := (z4 i).mp hlf
    have hin : i < n := qi_Bs_lt z1 hsi
    have hmin' : ∀ j, j < i → ¬ (bt lf j = true ∧ (nds j &&& (ex ^^^ (-1))) = 0) := fun j hj z => hmin j hj ⟨by omega, z⟩
    have m1 := (hM i hsi).1
    obtain ⟨st', ce', rs', li', ly', ll', H', h4, hk', hl', xo, yo⟩ := qe_exec (n := n) (kk := kk) (pp := pp) (up := up) (lost := lost) (vis := vis) (dpt := dpt) (hgt := hgt) (ons := ons) (op := op) (ky := ky) (va := va) (sq := sq) (de := de) (ba := ba) (rb := rb) (ph := ph) (re := re) (po := po) (go := go) (ord := ord) (low := low) (edg := edg) (pth := pth) (pnd := pnd) (mem := mem) (nds := nds) (S := S) (dn := dn) (k := k) hr (qe_pc (mem i)) (mem i) 0 0 st ce rs li ly ll rfl (by have := qe_pc_le (mem i); omega) (fun j hj => by
      have h1 := (m1 j).mp hj
      exact ⟨qi_Bs_lt z1 (qe_Rsc hsi h1.1), z3 i j hsi hs h1.1 h1.2⟩) H
    refine Or.inr ⟨i, qe_pc (mem i), st', ce', rs', li', ly', ll', hi24, H', qe_Snext Z hM hsi hs h4 hk', hl', fun post h => qx_fR1 hi24 hlf hnd hmin' h, fun post h => ?_, fun post h => ?_⟩
    · refine ⟨_, xo post ?_⟩
      rw [Nat.zero_add]
      exact h
    · refine qy_st1 hn hS hde hr hin (fun j hj => hno j (by omega) (hmin' j hj)) hs (qe_CC hn Z hM hsi hs) (by rw [eex]; exact (qe_rdy hn Z hM hsi hs).mpr hnd) ?_
      exact ⟨_, yo _ h⟩
  · have hno' : ∀ i, i < 24 → ¬ (bt lf i = true ∧ (nds i &&& (ex ^^^ (-1))) = 0) := fun i hi z => hex ⟨i, hi, z⟩
    exact Or.inl ⟨fun post h => qx_fR0 hno' h, fun post h => qy_st0 hn hS hde hr (fun i hi => hno i hi (hno' i (by omega))) h⟩
end
end
section
/-! runSteps against execute's and demand's loops; neededFor -/
section
variable {n kk pp : Nat} {up lost vis dpt hgt ons : Int32} {st op ky va sq de ba rb ph re rs li ll ce po go ord low edg pth pnd mem nds : Nat → Int32} {S : Int32} {dn ly : Nat → Int32}
theorem qe_r32 {k r lim : Nat} (hr : r < 3) (hlim : lim ≤ 24) {sc v2 l0 : Int32} (hlo : ∀ t, t < lim → ¬ v2 ≤ nI t) (hhi : v2 ≤ nI lim ∨ lim = 24) (hM : ∀ v, bt sc v = true → qk_C sc de r v (mem v) (nds v)) :
    ∀ (m t : Nat), t + m = lim → ∀ (ex lf cnt : Int32) (st ce rs li ly ll : Nat → Int32), qi_I k n kk pp S up dn st op ky sq de ba ph re rs li ly ll po go → qe_S n r sc (-1) ex lf st de → cnt = ll r - l0 →
    ∃ q st' ce' rs' li' ly' ll', qi_I k n kk pp S up dn st' op ky sq de ba ph re rs' li' ly' ll' po go ∧
      (∀ post : Int32 → SX → Prop, post q (nI n, nI kk, nI pp, up, lost, vis, dpt, hgt, ons, st', op, ky, va, sq, de, ba, rb, ph, re, rs', li', ll', ce', po, go, ord, low, edg, pth, pnd, mem, nds) → wX_runSteps_23 post (nI r) (nI lim) (m + 1) ex lf cnt (nI t) (nI n) (nI kk) (nI pp) up lost vis dpt hgt ons st op ky va sq de ba rb ph re rs li ll ce po go ord low edg pth pnd mem nds) ∧
      (∀ post : Int32 → SY → Prop, post q (S, nI kk, nI pp, lost, dn, st', op, ky, va, sq, de, ba, rb, ph, re, rs', ce', ly', ll', po, go) → wY_execute_32 post (nI r) v2 l0 (m + 1) (nI t) S (nI kk) (nI pp) lost dn st op ky va sq de ba rb ph re rs ce ly ll po go) := by
  intro m
  induction m with
  | zero =>
    intro t ht ex lf cnt st ce rs li ly ll H Z hc
    have e : t = lim := by omega
    subst e
    refine ⟨cnt, st, ce, rs, li, ly, ll, H, fun post h => br_t (Int32.le_refl _) h, fun post h => ?_⟩
    have h' : vp_in (nI r) 3 ∧ post (ll (nI r).toNatClampNeg - l0) (S, nI kk, nI pp, lost, dn, st, op, ky, va, sq, de, ba, rb, ph, re, rs, ce, ly, ll, po, go) := by
      rw [nI_clamp (n := r) (by omega), ← hc]
      exact ⟨vp_in_nI hr (by omega), h⟩
    by_cases hv : v2 ≤ nI t
    · exact br_t hv h'
    · have e24 := hhi.resolve_left hv
      exact br_f hv (br_t (by rw [e24]; decide) h')
  | succ m ih =>
    intro t ht ex lf cnt st ce rs li ly ll H Z hc
    have h1 : ¬ nI lim ≤ nI t := nI_ge (by omega) (by omega)
    have h2 : ¬ v2 ≤ nI t := hlo t (by omega)
    have h3 : ¬ (24 : Int32) ≤ nI t := nI_ge (b := 24) (by omega) (by decide)
    rcases qe_step (n := n) (kk := kk) (pp := pp) (up := up) (lost := lost) (vis := vis) (dpt := dpt) (hgt := hgt) (ons := ons) (st := st) (op := op) (ky := ky) (va := va) (sq := sq) (de := de) (ba := ba) (rb := rb) (ph := ph) (re := re) (rs := rs) (li := li) (ll := ll) (ce := ce) (po := po) (go := go) (ord := ord) (low := low) (edg := edg) (pth := pth) (pnd := pnd) (mem := mem) (nds := nds) (S := S) (dn := dn) (ly := ly) hr H Z hM with ⟨x0, y0⟩ | ⟨i, c, st1, ce1, rs1, li1, ly1, ll1, hi, H1, Z1, hl1, xf, xe, ys⟩
    · refine ⟨cnt, st, ce, rs, li, ly, ll, H, fun post h => br_f h1 (x0 _ (br_f (by decide) h)), fun post h => br_f h2 (br_f h3 (y0 _ (br_t rfl ?_)))⟩
      rw [nI_clamp (n := r) (by omega), ← hc]
      exact ⟨vp_in_nI hr (by omega), h⟩
    · obtain ⟨q, st', ce', rs', li', ly', ll', H', xo, yo⟩ := ih (t + 1) (by omega) (ex ||| mem i) (lf &&& (mem i ^^^ (-1))) (cnt + nI c) st1 ce1 rs1 li1 ly1 ll1 H1 Z1 (by rw [hl1, hc]; grind)
      refine ⟨q, st', ce', rs', li', ly', ll', H', fun post h => br_f h1 (xf _ (br_t (nI_pos' (by omega)) (qw_in i rfl hi (by omega) ?_))), fun post h => br_f h2 (br_f h3 (ys _ (br_f (by decide) (nm_r (nI_1 t) (yo post h)))))⟩
      rw [nI_clamp (n := i) (by omega)]
      refine nm_e (xe _ ?_)
      exact nm_e (nm_e (nm_e (nm_r (nI_1 t) (xo post h))))
theorem qe_r90 {k r : Nat} (hr : r < 3) {sc wi l0 : Int32} (hM : ∀ v, bt sc v = true → qk_C sc de r v (mem v) (nds v)) :
    ∀ (m t : Nat), t + m = 24 → ∀ (ex lf cnt : Int32) (st ce rs li ly ll : Nat → Int32), qi_I k n kk pp S up dn st op ky sq de ba ph re rs li ly ll po go → qe_S n r sc wi ex lf st de → cnt = ll r - l0 →
    ∃ q st' ce' rs' li' ly' ll', qi_I k n kk pp S up dn st' op ky sq de ba ph re rs' li' ly' ll' po go ∧
      (∀ post : Int32 → SX → Prop, post q (nI n, nI kk, nI pp, up, lost, vis, dpt, hgt, ons, st', op, ky, va, sq, de, ba, rb, ph, re, rs', li', ll', ce', po, go, ord, low, edg, pth, pnd, mem, nds) → wX_runSteps_23 post (nI r) 24 (m + 1) ex lf cnt (nI t) (nI n) (nI kk) (nI pp) up lost vis dpt hgt ons st op ky va sq de ba rb ph re rs li ll ce po go ord low edg pth pnd mem nds) ∧
      (∀ post : Int32 → SY → Prop, post q (S, nI kk, nI pp, lost, dn, st', op, ky, va, sq, de, ba, rb, ph, re, rs', ce', ly', ll', po, go) → wY_demand_90 post (nI r) wi l0 (m + 1) (nI t) S (nI kk) (nI pp) lost dn st op ky va sq de ba rb ph re rs ce ly ll po go) := by
  intro m
  induction m with
  | zero =>
    intro t ht ex lf cnt st ce rs li ly ll H Z hc
    have e : t = 24 := by omega
    subst e
    refine ⟨cnt, st, ce, rs, li, ly, ll, H, fun post h => br_t (by decide) h, fun post h => br_t (by decide) ?_⟩
    rw [nI_clamp (n := r) (by omega), ← hc]
    exact ⟨vp_in_nI hr (by omega), h⟩
  | succ m ih =>
    intro t ht ex lf cnt st ce rs li ly ll H Z hc
    have h3 : ¬ (24 : Int32) ≤ nI t := nI_ge (b := 24) (by omega) (by decide)
    rcases qe_step (n := n) (kk := kk) (pp := pp) (up := up) (lost := lost) (vis := vis) (dpt := dpt) (hgt := hgt) (ons := ons) (st := st) (op := op) (ky := ky) (va := va) (sq := sq) (de := de) (ba := ba) (rb := rb) (ph := ph) (re := re) (rs := rs) (li := li) (ll := ll) (ce := ce) (po := po) (go := go) (ord := ord) (low := low) (edg := edg) (pth := pth) (pnd := pnd) (mem := mem) (nds := nds) (S := S) (dn := dn) (ly := ly) hr H Z hM with ⟨x0, y0⟩ | ⟨i, c, st1, ce1, rs1, li1, ly1, ll1, hi, H1, Z1, hl1, xf, xe, ys⟩
    · refine ⟨cnt, st, ce, rs, li, ly, ll, H, fun post h => br_f h3 (x0 _ (br_f (by decide) h)), fun post h => br_f h3 (y0 _ (br_t rfl ?_))⟩
      rw [nI_clamp (n := r) (by omega), ← hc]
      exact ⟨vp_in_nI hr (by omega), h⟩
    · obtain ⟨q, st', ce', rs', li', ly', ll', H', xo, yo⟩ := ih (t + 1) (by omega) (ex ||| mem i) (lf &&& (mem i ^^^ (-1))) (cnt + nI c) st1 ce1 rs1 li1 ly1 ll1 H1 Z1 (by rw [hl1, hc]; grind)
      refine ⟨q, st', ce', rs', li', ly', ll', H', fun post h => br_f h3 (xf _ (br_t (nI_pos' (by omega)) (qw_in i rfl hi (by omega) ?_))), fun post h => br_f h3 (ys _ (br_f (by decide) (nm_r (nI_1 t) (yo post h))))⟩
      rw [nI_clamp (n := i) (by omega)]
      refine nm_e (xe _ ?_)
      exact nm_e (nm_e (nm_e (nm_r (nI_1 t) (xo post h))))
theorem qv_execute {k : Nat} (hk : k + 5 ≤ 2563) (H : qi_I k n kk pp S up dn st op ky sq de ba ph re rs li ly ll po go) (v1 v2 : Int32) : wpX_execute (fun r u' => wpY_execute (fun r' v' => r' = r ∧ i_Rel (k + 5) u' v') (S, nI kk, nI pp, lost, dn, st, op, ky, va, sq, de, ba, rb, ph, re, rs, ce, ly, ll, po, go) v1 v2) (nI n, nI kk, nI pp, up, lost, vis, dpt, hgt, ons, st, op, ky, va, sq, de, ba, rb, ph, re, rs, li, ll, ce, po, go, ord, low, edg, pth, pnd, mem, nds) v1 v2 := by
  have H5 := qi_I_m (k' := k + 5) (by omega) H
  have H0 := H5
  obtain ⟨⟨hn3, hn, hkk, hp, hS⟩, hup, hop, hky, hsq, hde, hba, hre, hph, hrs, hli, hpo, hgo⟩ := H0
  unfold wpX_execute
  rcases qs_rep v1 with hb | ⟨r, hr, e⟩
  · refine qx_rep0 hb ?_
    refine br_t rfl ?_
    unfold wpY_execute
    refine qy_nor1 hb ?_
    exact br_f (by decide) ⟨rfl, qz_in H5⟩
  · subst e
    refine qx_rep1 hr ?_
    refine br_f (by decide) ?_
    rcases hup r hr with ⟨hu, hd⟩ | ⟨hu, hd⟩
    · have Y0 : ∀ post : Int32 → SY → Prop, (∃ n32 : Nat, wY_execute_32 post (nI r) v2 (ll r) n32 0 S (nI kk) (nI pp) lost dn st op ky va sq de ba rb ph re rs ce ly ll po go) → wpY_execute post (S, nI kk, nI pp, lost, dn, st, op, ky, va, sq, de, ba, rb, ph, re, rs, ce, ly, ll, po, go) (nI r) v2 := by
        intro post h
        unfold wpY_execute
        refine qy_nor0 hr ?_
        refine br_t rfl ?_
        rw [nI_clamp (n := r) (by omega)]
        exact qw_in r rfl hr (by omega) (br_t hd (qw_in r rfl hr (by omega) (nm_e h)))
      obtain ⟨lim, _, hlim, hcl⟩ := qv_ce v2 0 24 (by decide) (by decide)
      have hlo : ∀ t, t < lim → ¬ v2 ≤ nI t := fun t ht z => by
        rcases hcl with ⟨h1, h2, e⟩ | ⟨h1, h2, e⟩ | ⟨h1, e⟩
        · rw [e, nI_leI (by omega) (by omega)] at z
          omega
        · exact h2 (Int32.le_trans z (nI_le (by omega) (by omega)))
        · omega
      have hhi : v2 ≤ nI lim ∨ lim = 24 := by
        rcases hcl with ⟨h1, h2, e⟩ | ⟨h1, h2, e⟩ | ⟨h1, e⟩
        · exact Or.inl (by rw [e]; exact Int32.le_refl _)
        · exact Or.inr e
        · refine Or.inl ?_
          rw [e]
          exact Int32.le_of_lt (Int32.not_le.mp h1)
      refine qx_al1 hr hu ?_
      refine br_f (by decide) ?_
      refine qv_cx 0 24 lim hcl ?_
      refine qx_ws hn hr ?_
      have hsc : qi_Bs n (qa_sF (qs_w st r 3) n) := qi_Bs_sF (by omega) _
      unfold wpX_runSteps
      refine qx_find hr hn hsc (fun vis' dpt' hgt' ons' ord' low' edg' pth' pnd' mem' nds' hM => ?_)
      refine qx_ws hn hr ?_
      have Z : qe_S n r (qa_sF (qs_w st r 3) n) (-1) (qa_sF (qs_w st r 4) n) (qa_sF (qs_w st r 3) n) st de := by
        refine ⟨hsc, fun a b _ _ _ hb => (qs_wb hn st r 3 b).mpr hb, fun a b ha _ hab _ => ((qs_wb hn st r 3 b).mp (qe_Rsc ha hab)).2, fun j => ⟨fun z => ⟨z, ((qs_wb hn st r 3 j).mp z).2⟩, fun z => z.1⟩, fun j => qs_wb hn st r 4 j, fun i hi hs => ⟨fun _ => (qs_wb hn st r 3 i).mpr ⟨hi, hs⟩, fun _ => b_m1 i (by omega)⟩⟩
      obtain ⟨q, st', ce', rs', li', ly', ll', H', xo, yo⟩ := qe_r32 (k := k + 5) (n := n) (kk := kk) (pp := pp) (up := up) (lost := lost) (vis := vis') (dpt := dpt') (hgt := hgt') (ons := ons') (op := op) (ky := ky) (va := va) (sq := sq) (de := de) (ba := ba) (rb := rb) (ph := ph) (re := re) (po := po) (go := go) (ord := ord') (low := low') (edg := edg') (pth := pth') (pnd := pnd') (mem := mem') (nds := nds') (S := S) (dn := dn) hr hlim hlo hhi hM lim 0 (by omega) (qa_sF (qs_w st r 4) n) (qa_sF (qs_w st r 3) n) 0 st ce rs li ly ll H5 Z (by rw [Int32.sub_self])
      refine ⟨lim + 1, ?_⟩
      refine xo _ ?_
      refine Y0 _ ⟨lim + 1, ?_⟩
      refine yo _ ?_
      exact ⟨rfl, qz_in H'⟩
    · refine qx_al0 hr hu ?_
      refine br_t rfl ?_
      unfold wpY_execute
      refine qy_nor0 hr ?_
      refine br_t rfl ?_
      rw [nI_clamp (n := r) (by omega)]
      exact qw_in r rfl hr (by omega) (br_f (by rw [hd]; decide) ⟨rfl, qz_in H5⟩)
end
section
variable {n kk pp : Nat} {up lost vis dpt hgt ons : Int32} {st op ky va sq de ba rb ph re rs li ll ce po go ord low edg pth pnd mem nds : Nat → Int32}
theorem qx_need {post : Int32 → Prop} {r i : Nat} (hr : r < 3) (hn : n ≤ 24) (hi : i < n) (hde : qi_Al (qi_Bs n) de)
    (C1 : ∀ W, (∀ b, bt W b = true ↔ qg_R (qe_E n st de r (qa_sF (qs_w st r 4) n ^^^ (-1))) i b) → (∀ b, bt W b = true → st (r * 24 + b) = 3) → post W)
    (C0 : ∀ j, qg_R (qe_E n st de r (qa_sF (qs_w st r 4) n ^^^ (-1))) i j → ¬ st (r * 24 + j) = 3 → post 0) : wpX_neededFor post (nI n, nI kk, nI pp, up, lost, vis, dpt, hgt, ons, st, op, ky, va, sq, de, ba, rb, ph, re, rs, li, ll, ce, po, go, ord, low, edg, pth, pnd, mem, nds) (nI r) (nI i) := by
  unfold wpX_neededFor
  refine qx_ws hn hr ?_
  generalize qa_sF (qs_w st r 4) n = ex at C1 C0
  have hlt : ∀ b, qg_R (qe_E n st de r (ex ^^^ (-1))) i b → b < n := fun b hb => qe_Elt hr hn hde hi hb
  have key : ∀ m t, t + m = 24 → ∀ W Sc : Int32, bt W i = true → (∀ b, bt W b = true → qg_R (qe_E n st de r (ex ^^^ (-1))) i b) → (∀ b, bt Sc b = true → bt W b = true) → (∀ a, bt Sc a = true → st (r * 24 + a) = 3 ∧ ∀ b, qe_E n st de r (ex ^^^ (-1)) a b → bt W b = true) → t ≤ qe_pc Sc →
      wX_neededFor_18 post (nI r) ex (nI n) (nI kk) (nI pp) up lost vis dpt hgt ons st op ky va sq de ba rb ph re rs li ll ce po go ord low edg pth pnd mem nds (m + 1) W Sc (nI t) := by
    have hfin : ∀ W Sc : Int32, bt W i = true → (∀ b, bt W b = true → qg_R (qe_E n st de r (ex ^^^ (-1))) i b) → (∀ a, bt Sc a = true → st (r * 24 + a) = 3 ∧ ∀ b, qe_E n st de r (ex ^^^ (-1)) a b → bt W b = true) → (∀ b, bt W b = true → bt Sc b = true) → post W := by
      intro W Sc h1 h2 h4 h5
      refine C1 W (fun b => ⟨h2 b, fun z => z (fun y => bt W y = true) h1 (fun x y hx hE => (h4 x (h5 x hx)).2 y hE)⟩) (fun b hb => (h4 b (h5 b hb)).1)
    intro m
    induction m with
    | zero =>
      intro t ht W Sc h1 h2 h3 h4 h5
      have e : t = 24 := by omega
      subst e
      refine br_t (by decide) (hfin W Sc h1 h2 h4 (fun b hb => ?_))
      cases hs : bt Sc b
      · exfalso
        have h6 := hlt b (h2 b hb)
        have h7 := qa_cn_lt (c := bt Sc) (i := b) 24 (by omega) hs
        unfold qe_pc at h5
        omega
      · rfl
    | succ m ih =>
      intro t ht W Sc h1 h2 h3 h4 h5
      refine br_f (nI_ge (b := 24) (by omega) (by decide)) ?_
      by_cases hz : (W &&& (Sc ^^^ (-1))) = 0
      · exact br_t hz (hfin W Sc h1 h2 h4 (qe_and0.mp hz))
      · obtain ⟨j, hj, hjm⟩ := qe_least hz
        have hj' := hj
        rw [qa_diff, Bool.and_eq_true, Bool.not_eq_true'] at hj'
        have hRj := h2 j hj'.1
        have hjn := hlt j hRj
        refine br_f hz ?_
        refine qx_low (by omega) hj hjm ?_
        refine nm_r (e' := nI (r * 24 + j)) (qw_ix r j) ?_
        rw [nI_clamp (n := r * 24 + j) (by omega)]
        refine qw_in (r * 24 + j) rfl (by omega) (by omega) ?_
        by_cases hs : st (r * 24 + j) = 3
        · refine br_t hs (nm_e (qw_in (r * 24 + j) rfl (by omega) (by omega) (nm_e (nm_r (nI_1 t) ?_))))
          refine ih (t + 1) (by omega) _ _ ?_ (fun b hb => ?_) (fun b hb => ?_) (fun a ha => ?_) ?_
          · rw [b_or, h1]; rfl
          · rw [b_or, Bool.or_eq_true, b_and, Bool.and_eq_true] at hb
            rcases hb with hb | hb
            · exact h2 b hb
            · exact qg_st hRj ⟨⟨hjn, hs⟩, hb.1, hb.2⟩
          · rw [qa_orb Sc (by omega), Bool.or_eq_true, decide_eq_true_eq] at hb
            rw [b_or]
            rcases hb with hb | hb
            · rw [h3 b hb]; rfl
            · rw [hb, hj'.1]; rfl
          · rw [qa_orb Sc (by omega), Bool.or_eq_true, decide_eq_true_eq] at ha
            rcases ha with ha | ha
            · refine ⟨(h4 a ha).1, fun b hE => ?_⟩
              rw [b_or, (h4 a ha).2 b hE]; rfl
            · rw [ha]
              refine ⟨hs, fun b hE => ?_⟩
              rw [b_or, b_and, hE.2.1, hE.2.2]
              simp
          · have h6 := qe_pc_lt (s := Sc) (s' := Sc ||| ((1 : Int32) <<< (nI j &&& 31))) (i := j) (by omega) (fun b _ hb => by rw [b_or, hb]; rfl) hj'.2 (by rw [qa_orb Sc (by omega)]; simp)
            omega
        · exact br_f hs (C0 j hRj hs)
  have h0 : bt ((1 : Int32) <<< (nI i &&& 31)) i = true := by rw [qa_one (by omega)]; simp
  refine nm_e ⟨25, ?_⟩
  refine key 24 0 rfl _ 0 h0 (fun b hb => ?_) (fun b hb => ?_) (fun a ha => ?_) (Nat.zero_le _)
  · rw [qa_one (by omega)] at hb
    rw [of_decide_eq_true hb]
    exact qg_rf
  · rw [b_0] at hb; exact Bool.noConfusion hb
  · rw [b_0] at ha; exact Bool.noConfusion ha
end
section
variable {n kk pp : Nat} {up lost vis dpt hgt ons : Int32} {st op ky va sq de ba rb ph re rs li ll ce po go ord low edg pth pnd mem nds : Nat → Int32} {S : Int32} {dn ly : Nat → Int32}
theorem qv_demand {k : Nat} (hk : k + 5 ≤ 2563) (H : qi_I k n kk pp S up dn st op ky sq de ba ph re rs li ly ll po go) (v1 v2 : Int32) : wpX_demand (fun r u' => wpY_demand (fun r' v' => r' = r ∧ i_Rel (k + 5) u' v') (S, nI kk, nI pp, lost, dn, st, op, ky, va, sq, de, ba, rb, ph, re, rs, ce, ly, ll, po, go) v1 v2) (nI n, nI kk, nI pp, up, lost, vis, dpt, hgt, ons, st, op, ky, va, sq, de, ba, rb, ph, re, rs, li, ll, ce, po, go, ord, low, edg, pth, pnd, mem, nds) v1 v2 := by
  have H5 := qi_I_m (k' := k + 5) (by omega) H
  have H0 := H5
  obtain ⟨⟨hn3, hn, hkk, hp, hS⟩, hup, hop, hky, hsq, hde, hba, hre, hph, hrs, hli, hpo, hgo⟩ := H0
  unfold wpX_demand
  rcases qs_rng n hn v1 v2 with hb | ⟨r, i, hr, hi, e1, e2⟩
  · refine qx_rng0 hb ?_
    refine br_t rfl ?_
    unfold wpY_demand
    refine qy_bad1 hS hb ?_
    exact br_f (by decide) ⟨rfl, qz_in H5⟩
  · subst e1
    subst e2
    have hx : r * 24 + i < 72 := by omega
    refine qx_rng1 hr hi hn ?_
    refine br_f (by decide) ?_
    rcases hup r hr with ⟨hu, hd⟩ | ⟨hu, hd⟩
    · refine qx_al1 hr hu ?_
      refine br_f (by decide) ?_
      rw [qw_ix, nI_clamp (n := r * 24 + i) (by omega)]
      refine qw_in (r * 24 + i) rfl hx (by omega) ?_
      by_cases h4 : st (r * 24 + i) = 4
      · refine br_t h4 ?_
        unfold wpY_demand
        refine qy_bad0 hS hr hi hn ?_
        refine br_t rfl ?_
        rw [nI_clamp (n := r) (by omega), qw_ix, nI_clamp (n := r * 24 + i) (by omega)]
        exact qw_in r rfl hr (by omega) (br_t hd (qw_in (r * 24 + i) rfl hx (by omega) (br_t h4 ⟨rfl, qz_in H5⟩)))
      · have Y0 : ∀ (post : Int32 → SY → Prop) (W : Int32), (∀ b, bt W b = true ↔ qg_R (qe_E n st de r (qa_sF (qs_w st r 4) n ^^^ (-1))) i b) →
            ((W &&& (qa_sF (qs_w st r 3) n ^^^ (-1))) = 0 → ∃ n90 : Nat, wY_demand_90 post (nI r) W (ll r) n90 0 S (nI kk) (nI pp) lost dn st op ky va sq de ba rb ph re rs ce ly ll po go) → (¬ (W &&& (qa_sF (qs_w st r 3) n ^^^ (-1))) = 0 → post (-4) (S, nI kk, nI pp, lost, dn, st, op, ky, va, sq, de, ba, rb, ph, re, rs, ce, ly, ll, po, go)) → wpY_demand post (S, nI kk, nI pp, lost, dn, st, op, ky, va, sq, de, ba, rb, ph, re, rs, ce, ly, ll, po, go) (nI r) (nI i) := by
          intro post W hW h1 h2
          unfold wpY_demand
          refine qy_bad0 hS hr hi hn ?_
          refine br_t rfl ?_
          rw [nI_clamp (n := r) (by omega), qw_ix, nI_clamp (n := r * 24 + i) (by omega)]
          refine qw_in r rfl hr (by omega) (br_t hd (qw_in (r * 24 + i) rfl hx (by omega) (br_f h4 ?_)))
          refine qy_ws hn hS hr ?_
          refine qy_reach hn hS hde hr hi (fun q hq => ?_)
          have e : q = W := qe_bext (fun j => (hq j).trans (hW j).symm)
          rw [e]
          refine qy_ws hn hS hr ?_
          exact br_c (fun z => qw_in r rfl hr (by omega) (nm_e (h1 z))) (fun z => h2 z)
        refine br_f h4 ?_
        refine qx_need hr hn hi hde (fun W hW hW3 => ?_) (fun j hRj hsj => ?_)
        · have hWi : bt W i = true := (hW i).mpr qg_rf
          have hWn : ∀ b, bt W b = true → b < n := fun b hb => qe_Elt hr hn hde hi ((hW b).mp hb)
          have hsc : qi_Bs n W := fun j hj => by
            cases hb : bt W j
            · rfl
            · have := hWn j hb
              omega
          refine br_f (qa_nz hWi) ?_
          unfold wpX_runSteps
          refine qx_find hr hn hsc (fun vis' dpt' hgt' ons' ord' low' edg' pth' pnd' mem' nds' hM => ?_)
          refine qx_ws hn hr ?_
          have Z : qe_S n r W W (qa_sF (qs_w st r 4) n) W st de := by
            refine ⟨hsc, fun a b ha hsa hab hb => ?_, fun a b ha _ hab _ => hW3 b (qe_Rsc ha hab), fun j => ⟨fun z => ⟨z, hW3 j z⟩, fun z => z.1⟩, fun j => qs_wb hn st r 4 j, fun i hi hs => Iff.rfl⟩
            refine (hW b).mpr (qg_st ((hW a).mp ha) ⟨⟨hWn a ha, hsa⟩, hab, ?_⟩)
            rw [qa_not, Bool.and_eq_true, Bool.not_eq_true']
            refine ⟨decide_eq_true (by omega), ?_⟩
            cases hq : bt (qa_sF (qs_w st r 4) n) b
            · rfl
            · have h5 := ((qs_wb hn st r 4 b).mp hq).2
              rw [hb.2] at h5
              exact absurd h5 (by decide)
          obtain ⟨q, st', ce', rs', li', ly', ll', H', xo, yo⟩ := qe_r90 (k := k + 5) (n := n) (kk := kk) (pp := pp) (up := up) (lost := lost) (vis := vis') (dpt := dpt') (hgt := hgt') (ons := ons') (op := op) (ky := ky) (va := va) (sq := sq) (de := de) (ba := ba) (rb := rb) (ph := ph) (re := re) (po := po) (go := go) (ord := ord') (low := low') (edg := edg') (pth := pth') (pnd := pnd') (mem := mem') (nds := nds') (S := S) (dn := dn) hr hM 24 0 rfl (qa_sF (qs_w st r 4) n) W 0 st ce rs li ly ll H5 Z (by rw [Int32.sub_self])
          refine ⟨25, ?_⟩
          refine xo _ ?_
          refine Y0 _ W hW (fun _ => ⟨25, ?_⟩) (fun z => ?_)
          · refine yo _ ?_
            exact ⟨rfl, qz_in H'⟩
          · exact absurd (qe_and0.mpr (fun b hb => (qs_wb hn st r 3 b).mpr ⟨hWn b hb, hW3 b hb⟩)) z
        · refine br_t rfl ?_
          have hjn : j < n := qe_Elt hr hn hde hi hRj
          obtain ⟨c, hc⟩ := qe_bool (fun b => qg_R (qe_E n st de r (qa_sF (qs_w st r 4) n ^^^ (-1))) i b)
          have hW : ∀ b, bt (qa_sF c n) b = true ↔ qg_R (qe_E n st de r (qa_sF (qs_w st r 4) n ^^^ (-1))) i b := fun b => by
            rw [qa_sFb c n (by omega), Bool.and_eq_true, decide_eq_true_eq, hc b]
            exact ⟨fun z => z.2, fun z => ⟨qe_Elt hr hn hde hi z, z⟩⟩
          refine Y0 _ (qa_sF c n) hW (fun z => ?_) (fun _ => ⟨rfl, qz_in H5⟩)
          have h5 := qe_and0.mp z j ((hW j).mpr hRj)
          exact absurd ((qs_wb hn st r 3 j).mp h5).2 hsj
    · refine qx_al0 hr hu ?_
      refine br_t rfl ?_
      unfold wpY_demand
      refine qy_bad0 hS hr hi hn ?_
      refine br_t rfl ?_
      rw [nI_clamp (n := r) (by omega)]
      exact qw_in r rfl hr (by omega) (br_f (by rw [hd]; decide) ⟨rfl, qz_in H5⟩)
end
end
section
/-! the owed theorems -/
theorem i_vc0 (k0 : Int32) (k1 : Int32) (k2 : Int32) : wpX_init (fun u => wpY_init (fun v => i_Rel 3 u v) k0 k1 k2) k0 k1 k2 := qv_init k0 k1 k2
theorem i_vc_submit {k : Nat} {u : SX} {v : SY} (I : i_Rel k u v) (hk : k + 5 ≤ 2563) (v1 : Int32) (v2 : Int32) (v3 : Int32) (v4 : Int32) : wpX_submit (fun r u' => wpY_submit (fun r' v' => r' = r ∧ i_Rel (k + 5) u' v') v v1 v2 v3 v4) u v1 v2 v3 v4 :=
  qz_el (P := fun u v => wpX_submit (fun r u' => wpY_submit (fun r' v' => r' = r ∧ i_Rel (k + 5) u' v') v v1 v2 v3 v4) u v1 v2 v3 v4) (fun n kk pp S up lost vis dpt hgt ons st op ky va sq de ba rb ph re rs li ll ce po go ord low edg pth pnd mem nds dn ly H => qv_submit hk H v1 v2 v3 v4) I
theorem i_vc_recover {k : Nat} {u : SX} {v : SY} (I : i_Rel k u v) (hk : k + 5 ≤ 2563) (v1 : Int32) (v2 : Int32) : wpX_recover (fun r u' => wpY_recover (fun r' v' => r' = r ∧ i_Rel (k + 5) u' v') v v1 v2) u v1 v2 :=
  qz_el (P := fun u v => wpX_recover (fun r u' => wpY_recover (fun r' v' => r' = r ∧ i_Rel (k + 5) u' v') v v1 v2) u v1 v2) (fun n kk pp S up lost vis dpt hgt ons st op ky va sq de ba rb ph re rs li ll ce po go ord low edg pth pnd mem nds dn ly H => qv_recover hk H v1 v2) I
theorem i_vc_timeout {k : Nat} {u : SX} {v : SY} (I : i_Rel k u v) (hk : k + 5 ≤ 2563) (v1 : Int32) (v2 : Int32) : wpX_timeout (fun r u' => wpY_timeout (fun r' v' => r' = r ∧ i_Rel (k + 5) u' v') v v1 v2) u v1 v2 :=
  qz_el (P := fun u v => wpX_timeout (fun r u' => wpY_timeout (fun r' v' => r' = r ∧ i_Rel (k + 5) u' v') v v1 v2) u v1 v2) (fun n kk pp S up lost vis dpt hgt ons st op ky va sq de ba rb ph re rs li ll ce po go ord low edg pth pnd mem nds dn ly H => qv_timeout hk H v1 v2) I
theorem i_vc_deliver {k : Nat} {u : SX} {v : SY} (I : i_Rel k u v) (hk : k + 5 ≤ 2563) (v1 : Int32) : wpX_deliver (fun r u' => wpY_deliver (fun r' v' => r' = r ∧ i_Rel (k + 5) u' v') v v1) u v1 :=
  qz_el (P := fun u v => wpX_deliver (fun r u' => wpY_deliver (fun r' v' => r' = r ∧ i_Rel (k + 5) u' v') v v1) u v1) (fun n kk pp S up lost vis dpt hgt ons st op ky va sq de ba rb ph re rs li ll ce po go ord low edg pth pnd mem nds dn ly H => qv_deliver hk H v1) I
theorem i_vc_drop {k : Nat} {u : SX} {v : SY} (I : i_Rel k u v) (hk : k + 5 ≤ 2563) (v1 : Int32) : wpX_drop (fun r u' => wpY_drop (fun r' v' => r' = r ∧ i_Rel (k + 5) u' v') v v1) u v1 :=
  qz_el (P := fun u v => wpX_drop (fun r u' => wpY_drop (fun r' v' => r' = r ∧ i_Rel (k + 5) u' v') v v1) u v1) (fun n kk pp S up lost vis dpt hgt ons st op ky va sq de ba rb ph re rs li ll ce po go ord low edg pth pnd mem nds dn ly H => qv_drop hk H v1) I
theorem i_vc_duplicate {k : Nat} {u : SX} {v : SY} (I : i_Rel k u v) (hk : k + 5 ≤ 2563) (v1 : Int32) : wpX_duplicate (fun r u' => wpY_duplicate (fun r' v' => r' = r ∧ i_Rel (k + 5) u' v') v v1) u v1 :=
  qz_el (P := fun u v => wpX_duplicate (fun r u' => wpY_duplicate (fun r' v' => r' = r ∧ i_Rel (k + 5) u' v') v v1) u v1) (fun n kk pp S up lost vis dpt hgt ons st op ky va sq de ba rb ph re rs li ll ce po go ord low edg pth pnd mem nds dn ly H => qv_duplicate hk H v1) I
theorem i_vc_crash {k : Nat} {u : SX} {v : SY} (I : i_Rel k u v) (hk : k + 5 ≤ 2563) (v1 : Int32) : wpX_crash (fun r u' => wpY_crash (fun r' v' => r' = r ∧ i_Rel (k + 5) u' v') v v1) u v1 :=
  qz_el (P := fun u v => wpX_crash (fun r u' => wpY_crash (fun r' v' => r' = r ∧ i_Rel (k + 5) u' v') v v1) u v1) (fun n kk pp S up lost vis dpt hgt ons st op ky va sq de ba rb ph re rs li ll ce po go ord low edg pth pnd mem nds dn ly H => qv_crash hk H v1) I
theorem i_vc_restart {k : Nat} {u : SX} {v : SY} (I : i_Rel k u v) (hk : k + 5 ≤ 2563) (v1 : Int32) : wpX_restart (fun r u' => wpY_restart (fun r' v' => r' = r ∧ i_Rel (k + 5) u' v') v v1) u v1 :=
  qz_el (P := fun u v => wpX_restart (fun r u' => wpY_restart (fun r' v' => r' = r ∧ i_Rel (k + 5) u' v') v v1) u v1) (fun n kk pp S up lost vis dpt hgt ons st op ky va sq de ba rb ph re rs li ll ce po go ord low edg pth pnd mem nds dn ly H => qv_restart hk H v1) I
theorem i_vc_execute {k : Nat} {u : SX} {v : SY} (I : i_Rel k u v) (hk : k + 5 ≤ 2563) (v1 : Int32) (v2 : Int32) : wpX_execute (fun r u' => wpY_execute (fun r' v' => r' = r ∧ i_Rel (k + 5) u' v') v v1 v2) u v1 v2 :=
  qz_el (P := fun u v => wpX_execute (fun r u' => wpY_execute (fun r' v' => r' = r ∧ i_Rel (k + 5) u' v') v v1 v2) u v1 v2) (fun n kk pp S up lost vis dpt hgt ons st op ky va sq de ba rb ph re rs li ll ce po go ord low edg pth pnd mem nds dn ly H => qv_execute hk H v1 v2) I
theorem i_vc_demand {k : Nat} {u : SX} {v : SY} (I : i_Rel k u v) (hk : k + 5 ≤ 2563) (v1 : Int32) (v2 : Int32) : wpX_demand (fun r u' => wpY_demand (fun r' v' => r' = r ∧ i_Rel (k + 5) u' v') v v1 v2) u v1 v2 :=
  qz_el (P := fun u v => wpX_demand (fun r u' => wpY_demand (fun r' v' => r' = r ∧ i_Rel (k + 5) u' v') v v1 v2) u v1 v2) (fun n kk pp S up lost vis dpt hgt ons st op ky va sq de ba rb ph re rs li ll ce po go ord low edg pth pnd mem nds dn ly H => qv_demand hk H v1 v2) I
theorem i_vc_isUp {k : Nat} {u : SX} {v : SY} (I : i_Rel k u v) (hk : k + 5 ≤ 2563) (v1 : Int32) : wpX_isUp (fun r => wpY_isUp (fun r' => r' = r ∧ i_Rel (k + 5) u v) v v1) u v1 :=
  qz_el (P := fun u v => wpX_isUp (fun r => wpY_isUp (fun r' => r' = r ∧ i_Rel (k + 5) u v) v v1) u v1) (fun n kk pp S up lost vis dpt hgt ons st op ky va sq de ba rb ph re rs li ll ce po go ord low edg pth pnd mem nds dn ly H => qv_isUp hk H v1) I
theorem i_vc_status {k : Nat} {u : SX} {v : SY} (I : i_Rel k u v) (hk : k + 5 ≤ 2563) (v1 : Int32) (v2 : Int32) : wpX_status (fun r => wpY_status (fun r' => r' = r ∧ i_Rel (k + 5) u v) v v1 v2) u v1 v2 :=
  qz_el (P := fun u v => wpX_status (fun r => wpY_status (fun r' => r' = r ∧ i_Rel (k + 5) u v) v v1 v2) u v1 v2) (fun n kk pp S up lost vis dpt hgt ons st op ky va sq de ba rb ph re rs li ll ce po go ord low edg pth pnd mem nds dn ly H => qv_status hk H v1 v2) I
theorem i_vc_op {k : Nat} {u : SX} {v : SY} (I : i_Rel k u v) (hk : k + 5 ≤ 2563) (v1 : Int32) (v2 : Int32) : wpX_op (fun r => wpY_op (fun r' => r' = r ∧ i_Rel (k + 5) u v) v v1 v2) u v1 v2 :=
  qz_el (P := fun u v => wpX_op (fun r => wpY_op (fun r' => r' = r ∧ i_Rel (k + 5) u v) v v1 v2) u v1 v2) (fun n kk pp S up lost vis dpt hgt ons st op ky va sq de ba rb ph re rs li ll ce po go ord low edg pth pnd mem nds dn ly H => qv_op hk H v1 v2) I
theorem i_vc_key {k : Nat} {u : SX} {v : SY} (I : i_Rel k u v) (hk : k + 5 ≤ 2563) (v1 : Int32) (v2 : Int32) : wpX_key (fun r => wpY_key (fun r' => r' = r ∧ i_Rel (k + 5) u v) v v1 v2) u v1 v2 :=
  qz_el (P := fun u v => wpX_key (fun r => wpY_key (fun r' => r' = r ∧ i_Rel (k + 5) u v) v v1 v2) u v1 v2) (fun n kk pp S up lost vis dpt hgt ons st op ky va sq de ba rb ph re rs li ll ce po go ord low edg pth pnd mem nds dn ly H => qv_key hk H v1 v2) I
theorem i_vc_value {k : Nat} {u : SX} {v : SY} (I : i_Rel k u v) (hk : k + 5 ≤ 2563) (v1 : Int32) (v2 : Int32) : wpX_value (fun r => wpY_value (fun r' => r' = r ∧ i_Rel (k + 5) u v) v v1 v2) u v1 v2 :=
  qz_el (P := fun u v => wpX_value (fun r => wpY_value (fun r' => r' = r ∧ i_Rel (k + 5) u v) v v1 v2) u v1 v2) (fun n kk pp S up lost vis dpt hgt ons st op ky va sq de ba rb ph re rs li ll ce po go ord low edg pth pnd mem nds dn ly H => qv_value hk H v1 v2) I
theorem i_vc_seq {k : Nat} {u : SX} {v : SY} (I : i_Rel k u v) (hk : k + 5 ≤ 2563) (v1 : Int32) (v2 : Int32) : wpX_seq (fun r => wpY_seq (fun r' => r' = r ∧ i_Rel (k + 5) u v) v v1 v2) u v1 v2 :=
  qz_el (P := fun u v => wpX_seq (fun r => wpY_seq (fun r' => r' = r ∧ i_Rel (k + 5) u v) v v1 v2) u v1 v2) (fun n kk pp S up lost vis dpt hgt ons st op ky va sq de ba rb ph re rs li ll ce po go ord low edg pth pnd mem nds dn ly H => qv_seq hk H v1 v2) I
theorem i_vc_deps {k : Nat} {u : SX} {v : SY} (I : i_Rel k u v) (hk : k + 5 ≤ 2563) (v1 : Int32) (v2 : Int32) : wpX_deps (fun r => wpY_deps (fun r' => r' = r ∧ i_Rel (k + 5) u v) v v1 v2) u v1 v2 :=
  qz_el (P := fun u v => wpX_deps (fun r => wpY_deps (fun r' => r' = r ∧ i_Rel (k + 5) u v) v v1 v2) u v1 v2) (fun n kk pp S up lost vis dpt hgt ons st op ky va sq de ba rb ph re rs li ll ce po go ord low edg pth pnd mem nds dn ly H => qv_deps hk H v1 v2) I
theorem i_vc_ballot {k : Nat} {u : SX} {v : SY} (I : i_Rel k u v) (hk : k + 5 ≤ 2563) (v1 : Int32) (v2 : Int32) : wpX_ballot (fun r => wpY_ballot (fun r' => r' = r ∧ i_Rel (k + 5) u v) v v1 v2) u v1 v2 :=
  qz_el (P := fun u v => wpX_ballot (fun r => wpY_ballot (fun r' => r' = r ∧ i_Rel (k + 5) u v) v v1 v2) u v1 v2) (fun n kk pp S up lost vis dpt hgt ons st op ky va sq de ba rb ph re rs li ll ce po go ord low edg pth pnd mem nds dn ly H => qv_ballot hk H v1 v2) I
theorem i_vc_recordBallot {k : Nat} {u : SX} {v : SY} (I : i_Rel k u v) (hk : k + 5 ≤ 2563) (v1 : Int32) (v2 : Int32) : wpX_recordBallot (fun r => wpY_recordBallot (fun r' => r' = r ∧ i_Rel (k + 5) u v) v v1 v2) u v1 v2 :=
  qz_el (P := fun u v => wpX_recordBallot (fun r => wpY_recordBallot (fun r' => r' = r ∧ i_Rel (k + 5) u v) v v1 v2) u v1 v2) (fun n kk pp S up lost vis dpt hgt ons st op ky va sq de ba rb ph re rs li ll ce po go ord low edg pth pnd mem nds dn ly H => qv_recordBallot hk H v1 v2) I
theorem i_vc_phase {k : Nat} {u : SX} {v : SY} (I : i_Rel k u v) (hk : k + 5 ≤ 2563) (v1 : Int32) (v2 : Int32) : wpX_phase (fun r => wpY_phase (fun r' => r' = r ∧ i_Rel (k + 5) u v) v v1 v2) u v1 v2 :=
  qz_el (P := fun u v => wpX_phase (fun r => wpY_phase (fun r' => r' = r ∧ i_Rel (k + 5) u v) v v1 v2) u v1 v2) (fun n kk pp S up lost vis dpt hgt ons st op ky va sq de ba rb ph re rs li ll ce po go ord low edg pth pnd mem nds dn ly H => qv_phase hk H v1 v2) I
theorem i_vc_replies {k : Nat} {u : SX} {v : SY} (I : i_Rel k u v) (hk : k + 5 ≤ 2563) (v1 : Int32) (v2 : Int32) : wpX_replies (fun r => wpY_replies (fun r' => r' = r ∧ i_Rel (k + 5) u v) v v1 v2) u v1 v2 :=
  qz_el (P := fun u v => wpX_replies (fun r => wpY_replies (fun r' => r' = r ∧ i_Rel (k + 5) u v) v v1 v2) u v1 v2) (fun n kk pp S up lost vis dpt hgt ons st op ky va sq de ba rb ph re rs li ll ce po go ord low edg pth pnd mem nds dn ly H => qv_replies hk H v1 v2) I
theorem i_vc_position {k : Nat} {u : SX} {v : SY} (I : i_Rel k u v) (hk : k + 5 ≤ 2563) (v1 : Int32) (v2 : Int32) : wpX_position (fun r => wpY_position (fun r' => r' = r ∧ i_Rel (k + 5) u v) v v1 v2) u v1 v2 :=
  qz_el (P := fun u v => wpX_position (fun r => wpY_position (fun r' => r' = r ∧ i_Rel (k + 5) u v) v v1 v2) u v1 v2) (fun n kk pp S up lost vis dpt hgt ons st op ky va sq de ba rb ph re rs li ll ce po go ord low edg pth pnd mem nds dn ly H => qv_position hk H v1 v2) I
theorem i_vc_result {k : Nat} {u : SX} {v : SY} (I : i_Rel k u v) (hk : k + 5 ≤ 2563) (v1 : Int32) (v2 : Int32) : wpX_result (fun r => wpY_result (fun r' => r' = r ∧ i_Rel (k + 5) u v) v v1 v2) u v1 v2 :=
  qz_el (P := fun u v => wpX_result (fun r => wpY_result (fun r' => r' = r ∧ i_Rel (k + 5) u v) v v1 v2) u v1 v2) (fun n kk pp S up lost vis dpt hgt ons st op ky va sq de ba rb ph re rs li ll ce po go ord low edg pth pnd mem nds dn ly H => qv_result hk H v1 v2) I
theorem i_vc_read {k : Nat} {u : SX} {v : SY} (I : i_Rel k u v) (hk : k + 5 ≤ 2563) (v1 : Int32) (v2 : Int32) : wpX_read (fun r => wpY_read (fun r' => r' = r ∧ i_Rel (k + 5) u v) v v1 v2) u v1 v2 :=
  qz_el (P := fun u v => wpX_read (fun r => wpY_read (fun r' => r' = r ∧ i_Rel (k + 5) u v) v v1 v2) u v1 v2) (fun n kk pp S up lost vis dpt hgt ons st op ky va sq de ba rb ph re rs li ll ce po go ord low edg pth pnd mem nds dn ly H => qv_read hk H v1 v2) I
theorem i_vc_executedCount {k : Nat} {u : SX} {v : SY} (I : i_Rel k u v) (hk : k + 5 ≤ 2563) (v1 : Int32) : wpX_executedCount (fun r => wpY_executedCount (fun r' => r' = r ∧ i_Rel (k + 5) u v) v v1) u v1 :=
  qz_el (P := fun u v => wpX_executedCount (fun r => wpY_executedCount (fun r' => r' = r ∧ i_Rel (k + 5) u v) v v1) u v1) (fun n kk pp S up lost vis dpt hgt ons st op ky va sq de ba rb ph re rs li ll ce po go ord low edg pth pnd mem nds dn ly H => qv_executedCount hk H v1) I
theorem i_vc_executedAt {k : Nat} {u : SX} {v : SY} (I : i_Rel k u v) (hk : k + 5 ≤ 2563) (v1 : Int32) (v2 : Int32) : wpX_executedAt (fun r => wpY_executedAt (fun r' => r' = r ∧ i_Rel (k + 5) u v) v v1 v2) u v1 v2 :=
  qz_el (P := fun u v => wpX_executedAt (fun r => wpY_executedAt (fun r' => r' = r ∧ i_Rel (k + 5) u v) v v1 v2) u v1 v2) (fun n kk pp S up lost vis dpt hgt ons st op ky va sq de ba rb ph re rs li ll ce po go ord low edg pth pnd mem nds dn ly H => qv_executedAt hk H v1 v2) I
theorem i_vc_messageCount {k : Nat} {u : SX} {v : SY} (I : i_Rel k u v) (hk : k + 5 ≤ 2563) : wpX_messageCount (fun r => wpY_messageCount (fun r' => r' = r ∧ i_Rel (k + 5) u v) v) u :=
  qz_el (P := fun u v => wpX_messageCount (fun r => wpY_messageCount (fun r' => r' = r ∧ i_Rel (k + 5) u v) v) u) (fun n kk pp S up lost vis dpt hgt ons st op ky va sq de ba rb ph re rs li ll ce po go ord low edg pth pnd mem nds dn ly H => qv_messageCount hk H) I
theorem i_vc_lost {k : Nat} {u : SX} {v : SY} (I : i_Rel k u v) (hk : k + 5 ≤ 2563) : wpX_lost (fun r => wpY_lost (fun r' => r' = r ∧ i_Rel (k + 5) u v) v) u :=
  qz_el (P := fun u v => wpX_lost (fun r => wpY_lost (fun r' => r' = r ∧ i_Rel (k + 5) u v) v) u) (fun n kk pp S up lost vis dpt hgt ons st op ky va sq de ba rb ph re rs li ll ce po go ord low edg pth pnd mem nds dn ly H => qv_lost hk H) I
theorem i_vc_message {k : Nat} {u : SX} {v : SY} (I : i_Rel k u v) (hk : k + 5 ≤ 2563) (v1 : Int32) (v2 : Int32) : wpX_message (fun r => wpY_message (fun r' => r' = r ∧ i_Rel (k + 5) u v) v v1 v2) u v1 v2 :=
  qz_el (P := fun u v => wpX_message (fun r => wpY_message (fun r' => r' = r ∧ i_Rel (k + 5) u v) v v1 v2) u v1 v2) (fun n kk pp S up lost vis dpt hgt ons st op ky va sq de ba rb ph re rs li ll ce po go ord low edg pth pnd mem nds dn ly H => qv_message hk H v1 v2) I
end
