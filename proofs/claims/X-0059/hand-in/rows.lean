section
/-! rows taken from kit/rows/PURE-ROWS (a starting text) -/
theorem pk_us {f : Nat → Int32} {k : Nat} {x : Int32} : upd f k x k = x := if_pos rfl
theorem pk_un {f : Nat → Int32} {k j : Nat} {x : Int32} (h : j ≠ k) : upd f k x j = f j := if_neg h
theorem pk_uLs {f : Nat → Int64} {k : Nat} {x : Int64} : vp_updL f k x k = x := if_pos rfl
theorem pk_uLn {f : Nat → Int64} {k j : Nat} {x : Int64} (h : j ≠ k) : vp_updL f k x j = f j := if_neg h
theorem pk_sub {a b : Nat} (h : b ≤ a) : nI a - nI b = nI (a - b) := by
  obtain ⟨c, rfl⟩ : ∃ c, a = c + b := ⟨a - b, by omega⟩
  rw [← nI_add, Int32.add_sub_cancel, Nat.add_sub_cancel]
theorem pk_m1 (n : Nat) : nI (n + 1) + (-1) = nI n := by
  rw [← nI_1, Int32.add_assoc, show (1 : Int32) + (-1) = 0 from rfl, Int32.add_zero]
theorem pk_mul (a b : Nat) : nI a * nI b = nI (a * b) := (Int32.ofNat_mul a b).symm
theorem pk_sub_toInt {a b : Nat} (ha : a < 2 ^ 30) (hb : b < 2 ^ 30) : (nI a - nI b).toInt = (a : Int) - b := by
  rw [Int32.toInt_sub, nI_toInt (by omega), nI_toInt (by omega)]
  exact Int.bmod_eq_of_le (by omega) (by omega)
theorem pk_sneg {a b : Nat} (hb : b < 2 ^ 30) (h : a < b) : nI a - nI b < 0 := by
  rw [Int32.lt_iff_toInt_lt, pk_sub_toInt (by omega) hb, show (0 : Int32).toInt = 0 from by decide]
  omega
theorem pk_ix (x : Int32) {n : Nat} (hn : n < 2 ^ 31) : x < 0 ∨ nI n ≤ x ∨ ∃ j : Nat, j < n ∧ x = nI j := by
  by_cases h : x < 0
  · exact Or.inl h
  · obtain ⟨j, hj, rfl⟩ := nI_of h
    by_cases h2 : j < n
    · exact Or.inr (Or.inr ⟨j, h2, rfl⟩)
    · exact Or.inr (Or.inl (nI_le (by omega) hj))
theorem pk_le {x y : Int32} {A B : Prop} (a b : Nat) (f : a ≤ b → A) (g : b < a → B) (hx : x = nI a := by rfl) (hy : y = nI b := by rfl) (ha : a < 2 ^ 31 := by omega) (hb : b < 2 ^ 31 := by omega) : (x ≤ y → A) ∧ (¬ x ≤ y → B) := by
  subst hx hy
  rw [nI_leI ha hb]
  exact ⟨f, fun z => g (by omega)⟩
theorem pk_lt {x y : Int32} {A B : Prop} (a b : Nat) (f : a < b → A) (g : b ≤ a → B) (hx : x = nI a := by rfl) (hy : y = nI b := by rfl) (ha : a < 2 ^ 31 := by omega) (hb : b < 2 ^ 31 := by omega) : (x < y → A) ∧ (¬ x < y → B) := by
  subst hx hy
  rw [nI_ltI ha hb]
  exact ⟨f, fun z => g (by omega)⟩
theorem pk_eq {x y : Int32} {A B : Prop} (a b : Nat) (f : a = b → A) (g : a ≠ b → B) (hx : x = nI a := by rfl) (hy : y = nI b := by rfl) (ha : a < 2 ^ 31 := by omega) (hb : b < 2 ^ 31 := by omega) : (x = y → A) ∧ (¬ x = y → B) := by
  subst hx hy
  rw [nI_eq ha hb]
  exact ⟨f, g⟩
theorem pk_in {x : Int32} (n N : Nat) (h : n < N) (hx : x = nI n := by rfl) (hN : N < 2 ^ 31 := by omega) : vp_in x N := by
  subst hx
  exact vp_in_nI h hN
theorem pk_cl {x : Int32} (n : Nat) (hx : x = nI n := by rfl) (h : n < 2 ^ 31 := by omega) : x.toNatClampNeg = n := by
  subst hx
  exact nI_clamp h
theorem pk_tn {n : Nat} (h : n < 2 ^ 32) : (nI n).toBitVec.toNat = n := Nat.mod_eq_of_lt h
theorem pk_and (x : Int32) {m : Int32} (k : Nat) (hm : m.toBitVec.toNat = 2 ^ k - 1) : x &&& m = nI (x.toBitVec.toNat % 2 ^ k) := by
  apply Int32.toBitVec_inj.mp
  apply BitVec.eq_of_toNat_eq
  rw [Int32.toBitVec_and, BitVec.toNat_and, hm, Nat.and_two_pow_sub_one_eq_mod]
  show _ = (BitVec.ofNat 32 _).toNat
  rw [BitVec.toNat_ofNat]
  exact (Nat.mod_eq_of_lt (Nat.lt_of_le_of_lt (Nat.mod_le _ _) x.toBitVec.isLt)).symm
theorem pk_andN {n : Nat} (h : n < 2 ^ 32) {m : Int32} (k : Nat) (hm : m.toBitVec.toNat = 2 ^ k - 1) : nI n &&& m = nI (n % 2 ^ k) := by
  rw [pk_and _ k hm, pk_tn h]
theorem pk_andE (x : Int32) {m : Int32} (k : Nat) (hm : m.toBitVec.toNat = 2 ^ k - 1) : ∃ j : Nat, j < 2 ^ k ∧ x &&& m = nI j := ⟨_, Nat.mod_lt _ (Nat.two_pow_pos k), pk_and x k hm⟩
theorem pk_lT {n : Nat} (h : n < 2 ^ 63) : (lN n).toInt = (n : Int) := lg_ofNat_toInt h
theorem pk_lLT {a b : Nat} (ha : a < 2 ^ 63) (hb : b < 2 ^ 63) : lN a < lN b ↔ a < b := by
  rw [Int64.lt_iff_toInt_lt, pk_lT ha, pk_lT hb]; omega
theorem pk_lLE {a b : Nat} (ha : a < 2 ^ 63) (hb : b < 2 ^ 63) : lN a ≤ lN b ↔ a ≤ b := by
  rw [Int64.le_iff_toInt_le, pk_lT ha, pk_lT hb]; omega
theorem pk_lEQ {a b : Nat} (ha : a < 2 ^ 63) (hb : b < 2 ^ 63) : lN a = lN b ↔ a = b := by
  rw [← Int64.toInt_inj, pk_lT ha, pk_lT hb]; omega
theorem pk_least (P : Nat → Prop) (h : ∃ k, P k) : ∃ k, P k ∧ ∀ j, j < k → ¬ P j := by
  obtain ⟨k, hk⟩ := h
  induction k using Nat.strongRecOn with
  | ind k ih =>
    by_cases e : ∃ j, j < k ∧ P j
    · obtain ⟨j, hj, pj⟩ := e
      exact ih j hj pj
    · exact ⟨k, hk, fun j hj pj => e ⟨j, hj, pj⟩⟩
end
section
/-! pure functions: the image of a page, the last frame of a page, the last marked end, the number of marks -/
def mw_img (x : Int32) (lp lv : Nat → Int32) (p : Int32) : Nat → Int32
  | 0 => x
  | n + 1 => if lp n = p then lv n else mw_img x lp lv p n
def mw_lf (lp : Nat → Int32) (p : Int32) : Nat → Int32
  | 0 => -1
  | n + 1 => if lp n = p then nI n else mw_lf lp p n
def mw_lme (m : Nat → Int32) : Nat → Nat
  | 0 => 0
  | n + 1 => if m n = 0 then mw_lme m n else n + 1
def mw_cnt (m : Nat → Int32) : Nat → Nat
  | 0 => 0
  | n + 1 => if m n = 0 then mw_cnt m n else mw_cnt m n + 1
/-- the id that the frame at j must name as the one before it -/
def mw_pv (hd : Int64) (d : Nat → Int64) : Nat → Int64
  | 0 => hd
  | j + 1 => d j
theorem mw_pv_congr {hd : Int64} {d d' : Nat → Int64} {j : Nat} (h : ∀ i, i < j → d i = d' i) : mw_pv hd d j = mw_pv hd d' j := by
  cases j with
  | zero => rfl
  | succ j => exact h j (by omega)
theorem mw_img_congr {x : Int32} {lp lv lp' lv' : Nat → Int32} {p : Int32} : ∀ n, (∀ j, j < n → lp j = lp' j ∧ lv j = lv' j) → mw_img x lp lv p n = mw_img x lp' lv' p n := by
  intro n
  induction n with
  | zero => intro _; rfl
  | succ n ih =>
    intro h
    have h1 := h n (by omega)
    have h2 := ih (fun j hj => h j (by omega))
    simp only [mw_img, h1.1, h1.2, h2]
theorem mw_img_miss {x : Int32} {lp lv : Nat → Int32} {p : Int32} : ∀ n, (∀ j, j < n → lp j ≠ p) → mw_img x lp lv p n = x := by
  intro n
  induction n with
  | zero => intro _; rfl
  | succ n ih =>
    intro h
    have h1 := h n (by omega)
    have h2 := ih (fun j hj => h j (by omega))
    simp only [mw_img, if_neg h1, h2]
theorem mw_img_hit {x y : Int32} {lp lv : Nat → Int32} {p : Int32} : ∀ n, (∃ j, j < n ∧ lp j = p) → mw_img x lp lv p n = mw_img y lp lv p n := by
  intro n
  induction n with
  | zero => intro ⟨j, hj, _⟩; omega
  | succ n ih =>
    intro ⟨j, hj, e⟩
    by_cases c : lp n = p
    · simp only [mw_img, if_pos c]
    · have : j ≠ n := fun z => c (z ▸ e)
      simp only [mw_img, if_neg c]
      exact ih ⟨j, by omega, e⟩
theorem mw_em (lp : Nat → Int32) (p : Int32) (n : Nat) : (∃ j, j < n ∧ lp j = p) ∨ ∀ j, j < n → lp j ≠ p := by
  by_cases c : ∃ j, j < n ∧ lp j = p
  · exact Or.inl c
  · exact Or.inr (fun j hj e => c ⟨j, hj, e⟩)
/-- two images are alike if the page has a frame, or if the two values below are alike -/
theorem mw_img_eq {x y : Int32} {lp lv : Nat → Int32} {p : Int32} (n : Nat) (h : (∀ j, j < n → lp j ≠ p) → x = y) : mw_img x lp lv p n = mw_img y lp lv p n := by
  rcases mw_em lp p n with c | c
  · exact mw_img_hit n c
  · rw [h c]
theorem mw_img_lf (lp lv : Nat → Int32) (p : Int32) : ∀ n, (mw_lf lp p n = -1 ∧ ∀ x, mw_img x lp lv p n = x) ∨ ∃ b, b < n ∧ mw_lf lp p n = nI b ∧ ∀ x, mw_img x lp lv p n = lv b := by
  intro n
  induction n with
  | zero => exact Or.inl ⟨rfl, fun _ => rfl⟩
  | succ n ih =>
    by_cases c : lp n = p
    · exact Or.inr ⟨n, by omega, by simp only [mw_lf, if_pos c], fun x => by simp only [mw_img, if_pos c]⟩
    · rcases ih with ⟨a, b⟩ | ⟨b, hb, e, g⟩
      · exact Or.inl ⟨by simp only [mw_lf, if_neg c, a], fun x => by simp only [mw_img, if_neg c, b]⟩
      · exact Or.inr ⟨b, by omega, by simp only [mw_lf, if_neg c, e], fun x => by simp only [mw_img, if_neg c, g]⟩
/-- what is known of a search's best -/
def mw_best (lp : Nat → Int32) (p : Int32) (m : Nat) (x : Int32) : Prop := x = -1 ∨ ∃ b, b < m ∧ x = nI b ∧ lp b = p
theorem mw_best_lf {lp : Nat → Int32} {p : Int32} {x : Int32} : ∀ {m : Nat}, m < 2 ^ 31 → mw_best lp p m x → (∀ f, f < m → lp f = p → (f : Int) ≤ x.toInt) → x = mw_lf lp p m := by
  intro m
  induction m with
  | zero =>
    intro _ h _
    rcases h with h | ⟨b, hb, _⟩
    · exact h
    · omega
  | succ m ih =>
    intro hm h hf
    by_cases c : lp m = p
    · have h1 := hf m (by omega) c
      simp only [mw_lf, if_pos c]
      rcases h with h | ⟨b, hb, e, _⟩
      · rw [h, show ((-1 : Int32)).toInt = -1 from by decide] at h1
        omega
      · rw [e, nI_toInt (by omega)] at h1
        have : b = m := by omega
        rw [e, this]
    · simp only [mw_lf, if_neg c]
      apply ih (by omega)
      · rcases h with h | ⟨b, hb, e, g⟩
        · exact Or.inl h
        · have : b ≠ m := fun z => c (z ▸ g)
          exact Or.inr ⟨b, by omega, e, g⟩
      · exact fun f hlt => hf f (by omega)
/-! the last marked end -/
theorem mw_lme_le (m : Nat → Int32) : ∀ n, mw_lme m n ≤ n := by
  intro n
  induction n with
  | zero => exact Nat.le_refl _
  | succ n ih =>
    by_cases c : m n = 0
    · simp only [mw_lme, if_pos c]; omega
    · simp only [mw_lme, if_neg c]; omega
theorem mw_lme_congr {m m' : Nat → Int32} : ∀ n, (∀ j, j < n → m j = m' j) → mw_lme m n = mw_lme m' n := by
  intro n
  induction n with
  | zero => intro _; rfl
  | succ n ih =>
    intro h
    simp only [mw_lme, h n (by omega), ih (fun j hj => h j (by omega))]
theorem mw_cnt_congr {m m' : Nat → Int32} : ∀ n, (∀ j, j < n → m j = m' j) → mw_cnt m n = mw_cnt m' n := by
  intro n
  induction n with
  | zero => intro _; rfl
  | succ n ih =>
    intro h
    simp only [mw_cnt, h n (by omega), ih (fun j hj => h j (by omega))]
theorem mw_lme_zero {m : Nat → Int32} : ∀ n j, mw_lme m n ≤ j → j < n → m j = 0 := by
  intro n
  induction n with
  | zero => intro j _ h; omega
  | succ n ih =>
    intro j h1 h2
    by_cases c : m n = 0
    · simp only [mw_lme, if_pos c] at h1
      by_cases e : j = n
      · rw [e]; exact c
      · exact ih j h1 (by omega)
    · simp only [mw_lme, if_neg c] at h1; omega
theorem mw_lme_mark {m : Nat → Int32} : ∀ n, mw_lme m n = 0 ∨ ∃ j, j < n ∧ mw_lme m n = j + 1 ∧ m j ≠ 0 := by
  intro n
  induction n with
  | zero => exact Or.inl rfl
  | succ n ih =>
    by_cases c : m n = 0
    · simp only [mw_lme, if_pos c]
      rcases ih with h | ⟨j, a, b, d⟩
      · exact Or.inl h
      · exact Or.inr ⟨j, by omega, b, d⟩
    · simp only [mw_lme, if_neg c]
      exact Or.inr ⟨n, by omega, rfl, c⟩
theorem mw_lme_mono {m : Nat → Int32} {a : Nat} : ∀ b, a ≤ b → mw_lme m a ≤ mw_lme m b := by
  intro b
  induction b with
  | zero => intro h; have : a = 0 := by omega
            rw [this]; exact Nat.le_refl _
  | succ b ih =>
    intro h
    by_cases e : a = b + 1
    · rw [e]; exact Nat.le_refl _
    · have h1 := ih (by omega)
      by_cases c : m b = 0
      · simp only [mw_lme, if_pos c]; exact h1
      · simp only [mw_lme, if_neg c]
        have := mw_lme_le m b
        omega
/-- nothing marked between a and b -/
theorem mw_lme_flat {m : Nat → Int32} {a : Nat} : ∀ b, a ≤ b → (∀ j, a ≤ j → j < b → m j = 0) → mw_lme m b = mw_lme m a ∧ mw_cnt m b = mw_cnt m a := by
  intro b
  induction b with
  | zero => intro h _; have : a = 0 := by omega
            rw [this]; exact ⟨rfl, rfl⟩
  | succ b ih =>
    intro h hz
    by_cases e : a = b + 1
    · rw [e]; exact ⟨rfl, rfl⟩
    · have h1 := ih (by omega) (fun j x y => hz j x (by omega))
      have c := hz b (by omega) (by omega)
      simp only [mw_lme, mw_cnt, if_pos c]
      exact h1
theorem mw_lme_cut {m : Nat → Int32} {a n : Nat} (h1 : mw_lme m n ≤ a) (h2 : a ≤ n) : mw_lme m a = mw_lme m n ∧ mw_cnt m a = mw_cnt m n := by
  have h := mw_lme_flat (m := m) (a := a) n h2 (fun j x y => mw_lme_zero n j (by omega) y)
  exact ⟨h.1.symm, h.2.symm⟩
theorem mw_cnt_le (m : Nat → Int32) : ∀ n, mw_cnt m n ≤ n := by
  intro n
  induction n with
  | zero => exact Nat.le_refl _
  | succ n ih =>
    by_cases c : m n = 0
    · simp only [mw_cnt, if_pos c]; omega
    · simp only [mw_cnt, if_neg c]; omega
theorem mw_cnt_mono {m : Nat → Int32} {a : Nat} : ∀ b, a ≤ b → mw_cnt m a ≤ mw_cnt m b := by
  intro b
  induction b with
  | zero => intro h; have : a = 0 := by omega
            rw [this]; exact Nat.le_refl _
  | succ b ih =>
    intro h
    by_cases e : a = b + 1
    · rw [e]; exact Nat.le_refl _
    · have h1 := ih (by omega)
      by_cases c : m b = 0
      · simp only [mw_cnt, if_pos c]; exact h1
      · simp only [mw_cnt, if_neg c]; omega
theorem mw_cnt_s {m : Nat → Int32} {i : Nat} (h : m i ≠ 0) : mw_cnt m (i + 1) = mw_cnt m i + 1 := by simp only [mw_cnt, if_neg h]
theorem mw_cnt_z {m : Nat → Int32} {i : Nat} (h : m i = 0) : mw_cnt m (i + 1) = mw_cnt m i := by simp only [mw_cnt, if_pos h]
theorem mw_lme_s {m : Nat → Int32} {i : Nat} (h : m i ≠ 0) : mw_lme m (i + 1) = i + 1 := by simp only [mw_lme, if_neg h]
theorem mw_lme_z {m : Nat → Int32} {i : Nat} (h : m i = 0) : mw_lme m (i + 1) = mw_lme m i := by simp only [mw_lme, if_pos h]
theorem mw_cnt_inv {m : Nat → Int32} {k : Nat} : ∀ n, 1 ≤ k → k ≤ mw_cnt m n → ∃ i, i < n ∧ m i ≠ 0 ∧ mw_cnt m (i + 1) = k := by
  intro n
  induction n with
  | zero => intro h1 h2; have : mw_cnt m 0 = 0 := rfl
            omega
  | succ n ih =>
    intro h1 h2
    by_cases c : m n = 0
    · rw [mw_cnt_z c] at h2
      obtain ⟨i, a, b, d⟩ := ih h1 h2
      exact ⟨i, by omega, b, d⟩
    · by_cases e : k = mw_cnt m (n + 1)
      · exact ⟨n, by omega, c, e.symm⟩
      · rw [mw_cnt_s c] at h2 e
        obtain ⟨i, a, b, d⟩ := ih h1 (by omega)
        exact ⟨i, by omega, b, d⟩
/-- endAt: the end of the k-th mark -/
def mw_EA (m : Nat → Int32) (n : Nat) (ea : Nat → Int32) : Prop := ea 0 = 0 ∧ ∀ i, i < n → m i ≠ 0 → ea (mw_cnt m (i + 1)) = nI (i + 1)
theorem mw_EA_last {m ea : Nat → Int32} {n : Nat} (h : mw_EA m n ea) : ea (mw_cnt m n) = nI (mw_lme m n) := by
  rcases mw_lme_mark (m := m) n with e | ⟨j, a, b, d⟩
  · have h1 := mw_lme_cut (m := m) (a := 0) (n := n) (by omega) (by omega)
    rw [e, ← h1.2]
    exact h.1
  · have h1 := mw_lme_cut (m := m) (a := j + 1) (n := n) (by omega) (by omega)
    rw [b, ← h1.2]
    exact h.2 j a d
theorem mw_EA_cut {m ea : Nat → Int32} {n a : Nat} (h : mw_EA m n ea) (ha : a ≤ n) : mw_EA m a ea := ⟨h.1, fun i hi => h.2 i (by omega)⟩
theorem mw_EA_congr {m m' ea : Nat → Int32} {n : Nat} (h : mw_EA m n ea) (e : ∀ j, j < n → m j = m' j) : mw_EA m' n ea := by
  refine ⟨h.1, fun i hi hm => ?_⟩
  rw [← mw_cnt_congr (m := m) (i + 1) (fun j hj => e j (by omega))]
  exact h.2 i hi (by rw [e i hi]; exact hm)
theorem mw_EA_z {m ea : Nat → Int32} {n : Nat} (h : mw_EA m n ea) (hz : m n = 0) : mw_EA m (n + 1) ea := by
  refine ⟨h.1, fun i hi hm => ?_⟩
  have : i ≠ n := fun z => hm (z ▸ hz)
  exact h.2 i (by omega) hm
theorem mw_EA_s {m ea : Nat → Int32} {n : Nat} (h : mw_EA m n ea) (hz : m n ≠ 0) : mw_EA m (n + 1) (upd ea (mw_cnt m n + 1) (nI (n + 1))) := by
  refine ⟨?_, fun i hi hm => ?_⟩
  · rw [pk_un (by omega)]; exact h.1
  · by_cases e : i = n
    · rw [e, mw_cnt_s hz]; exact pk_us
    · have h1 := mw_cnt_mono (m := m) (a := i + 1) n (by omega)
      rw [pk_un (by omega)]
      exact h.2 i (by omega) hm
end
section
/-! the hash table: linear probing over 64 slots -/
def mw_hs (p : Int32) : Nat := (p * 29).toBitVec.toNat % 64
theorem mw_hash (p : Int32) : (p * 29) &&& 63 = nI (mw_hs p) := pk_and (p * 29) (m := 63) 6 (by decide)
theorem mw_hs_lt (p : Int32) : mw_hs p < 64 := Nat.mod_lt _ (by decide)
theorem mw_slot (a : Nat) : (nI (a % 64) + 1) &&& 63 = nI ((a + 1) % 64) := by
  have h : a % 64 < 64 := Nat.mod_lt _ (by decide)
  rw [nI_1, pk_andN (m := 63) (by omega) 6 (by decide)]
  exact congrArg nI (by omega)
theorem mw_ne {f : Nat} (h : f < 64) : nI (f + 1) ≠ 0 := nI_ne0 (by omega) (by omega)
theorem mw_inj {f g : Nat} (hf : f < 64) (hg : g < 64) (h : nI (f + 1) = nI (g + 1)) : f = g := by
  have := (nI_eq (by omega) (by omega)).mp h
  omega
def mw_IX (n : Nat) (lp ix : Nat → Int32) : Prop :=
  (∀ s, s < 64 → ix s = 0 ∨ ∃ f, f < n ∧ ix s = nI (f + 1)) ∧
  (∀ f, f < n → ∃ d, d < 64 ∧ ix ((mw_hs (lp f) + d) % 64) = nI (f + 1) ∧ ∀ e, e < d → ∃ g, g < f ∧ ix ((mw_hs (lp f) + e) % 64) = nI (g + 1)) ∧
  (∀ s t, s < 64 → t < 64 → ix s = ix t → ix s ≠ 0 → s = t)
theorem mw_IX_0 {lp ix : Nat → Int32} (h : ∀ s, s < 64 → ix s = 0) : mw_IX 0 lp ix :=
  ⟨fun s hs => Or.inl (h s hs), fun f hf => absurd hf (by omega), fun s _ hs _ _ hne => absurd (h s hs) hne⟩
theorem mw_IX_congr {n : Nat} {lp lp' ix : Nat → Int32} (H : mw_IX n lp ix) (e : ∀ j, j < n → lp' j = lp j) : mw_IX n lp' ix := by
  refine ⟨H.1, fun f hf => ?_, H.2.2⟩
  rw [e f hf]
  exact H.2.1 f hf
theorem mw_IX_clean {n m : Nat} {lp ix ix' : Nat → Int32} (H : mw_IX n lp ix) (hm : m ≤ n) (hn : n ≤ 32) (h : ∀ s, s < 64 → ix' s = if ix s ≤ nI m then ix s else 0) : mw_IX m lp ix' := by
  have key : ∀ s f, s < 64 → f < m → ix s = nI (f + 1) → ix' s = nI (f + 1) := by
    intro s f hs hf e
    rw [h s hs, e, if_pos (nI_le (by omega) (by omega))]
  refine ⟨fun s hs => ?_, fun f hf => ?_, fun s t hs ht e hne => ?_⟩
  · rcases H.1 s hs with z | ⟨f, hf, e⟩
    · left
      rw [h s hs, z]
      split <;> rfl
    · by_cases c : f < m
      · exact Or.inr ⟨f, c, key s f hs c e⟩
      · left
        rw [h s hs, e, if_neg (nI_ge (by omega) (by omega))]
  · obtain ⟨d, hd, e, g⟩ := H.2.1 f (by omega)
    refine ⟨d, hd, key _ f (Nat.mod_lt _ (by decide)) hf e, fun e' he => ?_⟩
    obtain ⟨q, hq, eq⟩ := g e' he
    exact ⟨q, hq, key _ q (Nat.mod_lt _ (by decide)) (by omega) eq⟩
  · by_cases c1 : ix s ≤ nI m
    · by_cases c2 : ix t ≤ nI m
      · rw [h s hs, if_pos c1] at e hne
        rw [h t ht, if_pos c2] at e
        exact H.2.2 s t hs ht e hne
      · rw [h t ht, if_neg c2] at e
        exact absurd e hne
    · rw [h s hs, if_neg c1] at hne
      exact absurd rfl hne
/-- pigeons: no one-to-one map of n + 1 numbers below n -/
theorem mw_pigeon : ∀ (n : Nat) (f : Nat → Nat), (∀ i, i < n + 1 → f i < n) → ∃ i j, i < j ∧ j < n + 1 ∧ f i = f j := by
  intro n
  induction n with
  | zero => intro f h; exact absurd (h 0 (by omega)) (by omega)
  | succ n ih =>
    intro f h
    by_cases c : ∃ i, i < n + 1 ∧ f i = f (n + 1)
    · obtain ⟨i, hi, e⟩ := c
      exact ⟨i, n + 1, hi, by omega, e⟩
    · have hne : ∀ i, i < n + 1 → f i ≠ f (n + 1) := fun i hi e => c ⟨i, hi, e⟩
      have hl := h (n + 1) (by omega)
      obtain ⟨i, j, hij, hj, e⟩ := ih (fun i => if f i < f (n + 1) then f i else f i - 1) (fun i hi => by
        have h1 := h i (by omega)
        have h2 := hne i hi
        split <;> omega)
      refine ⟨i, j, hij, by omega, ?_⟩
      have h1 := hne i (by omega)
      have h2 := hne j (by omega)
      split at e <;> split at e <;> omega
theorem mw_IX_free {n : Nat} {lp ix : Nat → Int32} (H : mw_IX n lp ix) (hn : n ≤ 32) (a : Nat) : ∃ d, d < 64 ∧ ix ((a + d) % 64) = 0 ∧ ∀ e, e < d → ix ((a + e) % 64) ≠ 0 := by
  have h : ∃ d, d < 64 ∧ ix ((a + d) % 64) = 0 := by
    apply Classical.byContradiction
    intro hno
    have hne : ∀ d, d < 64 → ix ((a + d) % 64) ≠ 0 := fun d hd e => hno ⟨d, hd, e⟩
    have hall : ∀ d, d < 64 → ∃ f, f < n ∧ ix ((a + d) % 64) = nI (f + 1) := by
      intro d hd
      rcases H.1 ((a + d) % 64) (Nat.mod_lt _ (by decide)) with z | z
      · exact absurd z (hne d hd)
      · exact z
    obtain ⟨i, j, hij, hj, e⟩ := mw_pigeon 63 (fun d => (ix ((a + d) % 64)).toNatClampNeg - 1) (fun d hd => by
      obtain ⟨f, hf, e⟩ := hall d (by omega)
      rw [e, nI_clamp (by omega)]
      omega)
    obtain ⟨f, hf, ef⟩ := hall i (by omega)
    obtain ⟨g, hg, eg⟩ := hall j (by omega)
    rw [ef, eg, nI_clamp (by omega), nI_clamp (by omega)] at e
    have efg : f = g := by omega
    have := H.2.2 ((a + i) % 64) ((a + j) % 64) (Nat.mod_lt _ (by decide)) (Nat.mod_lt _ (by decide)) (by rw [ef, eg, efg]) (hne i (by omega))
    omega
  obtain ⟨d, ⟨hd, hz⟩, hl⟩ := pk_least (fun d => d < 64 ∧ ix ((a + d) % 64) = 0) h
  exact ⟨d, hd, hz, fun e he z => hl e he ⟨by omega, z⟩⟩
theorem mw_IX_put {n d : Nat} {p : Int32} {lp lp' ix : Nat → Int32} (H : mw_IX n lp ix) (hn : n < 32) (hd : d < 64) (hz : ix ((mw_hs p + d) % 64) = 0) (hne : ∀ e, e < d → ix ((mw_hs p + e) % 64) ≠ 0) (hl : ∀ j, j < n → lp' j = lp j) (hp : lp' n = p) :
    mw_IX (n + 1) lp' (upd ix ((mw_hs p + d) % 64) (nI (n + 1))) := by
  have keep : ∀ s f, f < n → ix s = nI (f + 1) → upd ix ((mw_hs p + d) % 64) (nI (n + 1)) s = nI (f + 1) := by
    intro s f hf e
    rw [pk_un (fun z => mw_ne (f := f) (by omega) (by rw [← e, z, hz])), e]
  refine ⟨fun s hs => ?_, fun f hf => ?_, fun s t hs ht e hse => ?_⟩
  · by_cases c : s = (mw_hs p + d) % 64
    · right
      exact ⟨n, by omega, by rw [c]; exact pk_us⟩
    · rw [pk_un c]
      rcases H.1 s hs with z | ⟨f, hf, e⟩
      · exact Or.inl z
      · exact Or.inr ⟨f, by omega, e⟩
  · by_cases c : f = n
    · rw [c, hp]
      refine ⟨d, hd, pk_us, fun e he => ?_⟩
      rcases H.1 ((mw_hs p + e) % 64) (Nat.mod_lt _ (by decide)) with z | ⟨g, hg, eg⟩
      · exact absurd z (hne e he)
      · exact ⟨g, hg, keep _ g hg eg⟩
    · rw [hl f (by omega)]
      obtain ⟨d', hd', e', g'⟩ := H.2.1 f (by omega)
      refine ⟨d', hd', keep _ f (by omega) e', fun e he => ?_⟩
      obtain ⟨g, hg, eg⟩ := g' e he
      exact ⟨g, hg, keep _ g (by omega) eg⟩
  · have old : ∀ q, q < 64 → ix q = nI (n + 1) → False := by
      intro q hq eq
      rcases H.1 q hq with z | ⟨f, hf, ef⟩
      · exact mw_ne (f := n) (by omega) (by rw [← eq, z])
      · have := mw_inj (f := f) (g := n) (by omega) (by omega) (by rw [← ef, eq])
        omega
    by_cases c1 : s = (mw_hs p + d) % 64
    · by_cases c2 : t = (mw_hs p + d) % 64
      · rw [c1, c2]
      · rw [pk_un c2, c1, pk_us] at e
        exact (old t ht e.symm).elim
    · by_cases c2 : t = (mw_hs p + d) % 64
      · rw [pk_un c1, c2, pk_us] at e
        exact (old s hs e).elim
      · rw [pk_un c1, pk_un c2] at e
        rw [pk_un c1] at hse
        exact H.2.2 s t hs ht e hse
/-- a search that has gone d slots far and met an empty one, or all, has seen every frame of the page -/
theorem mw_IX_seen {n m d f : Nat} {p : Int32} {lp ix : Nat → Int32} (H : mw_IX n lp ix) (hn : n ≤ 32) (hm : m ≤ n) (hx : d = 64 ∨ ix ((mw_hs p + d) % 64) = 0) (hf : f < m) (hp : lp f = p) : ∃ e, e < d ∧ ix ((mw_hs p + e) % 64) = nI (f + 1) := by
  obtain ⟨d', hd', e', g'⟩ := H.2.1 f (by omega)
  rw [hp] at e' g'
  refine ⟨d', ?_, e'⟩
  rcases hx with hx | hx
  · omega
  · apply Classical.byContradiction
    intro hlt
    by_cases c : d = d'
    · rw [c, e'] at hx
      exact mw_ne (f := f) (by omega) hx
    · obtain ⟨g, hg, eg⟩ := g' d (by omega)
      rw [eg] at hx
      exact mw_ne (f := g) (by omega) hx
end
section
/-! the component's reading methods -/
section
variable {pc ca rc mk fr cm sy cp bc rs wr : Int32}
variable {hh la : Int64}
variable {fv dv lp lv lm dp dw dm ix ea ac rm : Nat → Int32}
variable {li lq di dq : Nat → Int64}

theorem mw_isReader_n {n : Nat} {x : Int32} {post : Int32 → Prop} (h : x < 0 ∨ nI n ≤ x) (hp : post 0) : wpX_isReader post (pc, ca, nI n, hh, la, mk, fr, cm, sy, cp, bc, rs, wr, fv, dv, lp, lv, lm, li, lq, dp, dw, dm, di, dq, ix, ea, ac, rm) x := by
  unfold wpX_isReader
  by_cases c : x < 0
  · exact br_t c hp
  · rcases h with h | h
    · exact absurd h c
    · exact br_f c (br_t h hp)
theorem mw_isReader_y {n j : Nat} {post : Int32 → Prop} (hj : j < n) (hn : n < 2 ^ 31) (hp : post 1) : wpX_isReader post (pc, ca, nI n, hh, la, mk, fr, cm, sy, cp, bc, rs, wr, fv, dv, lp, lv, lm, li, lq, dp, dw, dm, di, dq, ix, ea, ac, rm) (nI j) := by
  unfold wpX_isReader
  exact br_f (nI_pos (by omega)) (br_f (nI_ge hj hn) hp)
theorem mw_isPage_n {n : Nat} {x : Int32} {post : Int32 → Prop} (h : x < 0 ∨ nI n ≤ x) (hp : post 0) : wpX_isPage post (nI n, ca, rc, hh, la, mk, fr, cm, sy, cp, bc, rs, wr, fv, dv, lp, lv, lm, li, lq, dp, dw, dm, di, dq, ix, ea, ac, rm) x := by
  unfold wpX_isPage
  by_cases c : x < 0
  · exact br_t c hp
  · rcases h with h | h
    · exact absurd h c
    · exact br_f c (br_t h hp)
theorem mw_isPage_y {n j : Nat} {post : Int32 → Prop} (hj : j < n) (hn : n < 2 ^ 31) (hp : post 1) : wpX_isPage post (nI n, ca, rc, hh, la, mk, fr, cm, sy, cp, bc, rs, wr, fv, dv, lp, lv, lm, li, lq, dp, dw, dm, di, dq, ix, ea, ac, rm) (nI j) := by
  unfold wpX_isPage
  exact br_f (nI_pos (by omega)) (br_f (nI_ge hj hn) hp)
theorem mw_find_loop {N m : Nat} {p : Int32} (hN : N ≤ 32) (hm : m ≤ N) (H : mw_IX N lp ix) {post : Int32 → Prop} (hp : post (mw_lf lp p m)) :
    ∀ (n d : Nat) (x3 : Int32), d ≤ 64 → 64 - d < n → mw_best lp p m x3 →
      (∀ e, e < d → ∀ f, f < m → ix ((mw_hs p + e) % 64) = nI (f + 1) → lp f = p → (f : Int) ≤ x3.toInt) →
      wX_findFrame_12 post p (nI m) pc ca rc hh la mk fr cm sy cp bc rs wr fv dv lp lv lm li lq dp dw dm di dq ix ea ac rm n x3 (nI ((mw_hs p + d) % 64)) (nI d) := by
  intro n
  induction n with
  | zero => intro d x3 _ h; omega
  | succ n ih =>
    intro d x3 hd hn hb hv
    have done : (d = 64 ∨ ix ((mw_hs p + d) % 64) = 0) → post x3 := by
      intro hx
      rw [mw_best_lf (by omega) hb (fun f hf e => ?_)]
      · exact hp
      · obtain ⟨e', he', ee⟩ := mw_IX_seen H hN hm hx hf e
        exact hv e' he' f hf ee e
    rw [wX_findFrame_12]
    refine pk_le (y := nI d) 64 d (fun h => done (Or.inl (by omega))) (fun h => ?_)
    have hs : (mw_hs p + d) % 64 < 64 := Nat.mod_lt _ (by decide)
    have hin : vp_in (nI ((mw_hs p + d) % 64)) 64 := vp_in_nI hs (by decide)
    have hc : (nI ((mw_hs p + d) % 64)).toNatClampNeg = (mw_hs p + d) % 64 := nI_clamp (by omega)
    rw [hc]
    refine ⟨hin, ?_⟩
    by_cases z : ix ((mw_hs p + d) % 64) = 0
    · exact br_t z (done (Or.inr z))
    · refine br_f z ⟨hin, ?_⟩
      rcases H.1 _ hs with z' | ⟨f, hf, ef⟩
      · exact absurd z' z
      · have step : ∀ y : Int32, mw_best lp p m y → x3.toInt ≤ y.toInt → (f < m → lp f = p → (f : Int) ≤ y.toInt) →
            wX_findFrame_66 post (wX_findFrame_12 post p (nI m) pc ca rc hh la mk fr cm sy cp bc rs wr fv dv lp lv lm li lq dp dw dm di dq ix ea ac rm n) p (nI m) y (nI ((mw_hs p + d) % 64)) (nI d) pc ca rc hh la mk fr cm sy cp bc rs wr fv dv lp lv lm li lq dp dw dm di dq ix ea ac rm := by
          intro y hy hxy hfy
          unfold wX_findFrame_66
          refine nm_r (mw_slot (mw_hs p + d)) (nm_r (nI_1 d) ?_)
          refine ih (d + 1) y (by omega) (by omega) hy ?_
          intro e he g hg eg pg
          by_cases c : e = d
          · have : f = g := by
              rw [c, ef] at eg
              exact mw_inj (by omega) (by omega) eg
            rw [← this] at hg pg ⊢
            exact hfy hg pg
          · have := hv e (by omega) g hg eg pg
            omega
        refine nm_r (e' := nI f) (by rw [ef]; exact nI_pred f) ?_
        refine pk_le m f (fun h1 => step x3 hb (by omega) (fun h2 => by omega)) (fun h1 => ?_)
        by_cases c : nI f ≤ x3
        · refine br_t c (step x3 hb (by omega) (fun _ _ => ?_))
          rw [Int32.le_iff_toInt_le, nI_toInt (by omega)] at c
          exact c
        · refine br_f c ⟨vp_in_nI (by omega) (by decide), ?_⟩
          rw [nI_clamp (show f < 2 ^ 31 by omega)]
          by_cases e : lp f = p
          · refine br_t e (step (nI f) (Or.inr ⟨f, h1, rfl, e⟩) ?_ (fun _ _ => ?_))
            · rw [Int32.le_iff_toInt_le] at c
              omega
            · rw [nI_toInt (by omega)]
              omega
          · exact br_f e (step x3 hb (by omega) (fun _ h2 => absurd h2 e))
theorem mw_findFrame {N m : Nat} {p : Int32} (hN : N ≤ 32) (hm : m ≤ N) (H : mw_IX N lp ix) {post : Int32 → Prop} (hp : post (mw_lf lp p m)) : wpX_findFrame post (pc, ca, rc, hh, la, mk, fr, cm, sy, cp, bc, rs, wr, fv, dv, lp, lv, lm, li, lq, dp, dw, dm, di, dq, ix, ea, ac, rm) p (nI m) := by
  unfold wpX_findFrame wpX_hash
  show ∃ n12 : Nat, wX_findFrame_12 post p (nI m) pc ca rc hh la mk fr cm sy cp bc rs wr fv dv lp lv lm li lq dp dw dm di dq ix ea ac rm n12 (-1) ((p * 29) &&& 63) 0
  refine ⟨65, ?_⟩
  rw [mw_hash p]
  have h := mw_find_loop (pc := pc) (ca := ca) (rc := rc) (hh := hh) (la := la) (mk := mk) (fr := fr) (cm := cm) (sy := sy) (cp := cp) (bc := bc) (rs := rs) (wr := wr) (fv := fv) (dv := dv) (lv := lv) (lm := lm) (li := li) (lq := lq) (dp := dp) (dw := dw) (dm := dm) (di := di) (dq := dq) (ea := ea) (ac := ac) (rm := rm) hN hm H hp 65 0 (-1) (by omega) (by omega) (Or.inl rfl) (fun e he => absurd he (by omega))
  rw [Nat.add_zero, Nat.mod_eq_of_lt (mw_hs_lt p)] at h
  exact h
theorem mw_imageAt {N m p : Nat} (hN : N ≤ 32) (hm : m ≤ N) (hp : p < 16) (H : mw_IX N lp ix) {post : Int32 → Prop} (h : post (mw_img (fv p) lp lv (nI p) m)) : wpX_imageAt post (pc, ca, rc, hh, la, mk, fr, cm, sy, cp, bc, rs, wr, fv, dv, lp, lv, lm, li, lq, dp, dw, dm, di, dq, ix, ea, ac, rm) (nI m) (nI p) := by
  unfold wpX_imageAt
  refine mw_findFrame hN hm H ?_
  rcases mw_img_lf lp lv (nI p) m with ⟨e, g⟩ | ⟨b, hb, e, g⟩
  · rw [e]
    refine br_f (by decide) ⟨vp_in_nI hp (by decide), ?_⟩
    rw [nI_clamp (by omega), ← g (fv p)]
    exact h
  · rw [e]
    refine br_t (nI_pos' (by omega)) ⟨vp_in_nI (by omega) (by decide), ?_⟩
    rw [nI_clamp (by omega), ← g (fv p)]
    exact h
/-! the marks -/
theorem mw_marks_loop {F m : Nat} (hF : F ≤ 32) (hm : m ≤ F) (H : mw_EA lm F ea) {post : Int32 → Prop} (hp : post (nI (mw_cnt lm m))) :
    ∀ (n k : Nat), k < n → k ≤ mw_cnt lm F → mw_cnt lm m ≤ k → wX_marksWithin_5 post (nI m) pc ca rc hh la mk fr cm sy cp bc rs wr fv dv lp lv lm li lq dp dw dm di dq ix ea ac rm n (nI k) := by
  intro n
  induction n with
  | zero => intro k h; omega
  | succ n ih =>
    intro k hn hk hc
    have hF' := mw_cnt_le lm F
    rw [wX_marksWithin_5]
    refine pk_le (y := 0) k 0 (fun h => ?_) (fun h => ?_)
    · have : k = mw_cnt lm m := by omega
      rw [this]; exact hp
    · refine ⟨vp_in_nI (by omega) (by decide), ?_⟩
      rw [nI_clamp (show k < 2 ^ 31 by omega)]
      obtain ⟨i, hi, mi, ci⟩ := mw_cnt_inv (m := lm) (k := k) F (by omega) hk
      have e := H.2 i hi mi
      rw [ci] at e
      rw [e]
      refine pk_le (i + 1) m (fun h1 => ?_) (fun h1 => ?_)
      · have h2 := mw_cnt_mono (m := lm) (a := i + 1) m h1
        have : k = mw_cnt lm m := by omega
        rw [this]; exact hp
      · have h2 := mw_cnt_mono (m := lm) (a := m) i (by omega)
        rw [mw_cnt_s mi] at ci
        obtain ⟨k', rfl⟩ : ∃ k', k = k' + 1 := ⟨k - 1, by omega⟩
        exact nm_r (pk_m1 k') (ih k' (by omega) (by omega) (by omega))
theorem mw_marksWithin {F m : Nat} (hF : F ≤ 32) (hm : m ≤ F) (H : mw_EA lm F ea) {post : Int32 → Prop} (hp : post (nI (mw_cnt lm m))) : wpX_marksWithin post (pc, ca, rc, hh, la, nI (mw_cnt lm F), fr, cm, sy, cp, bc, rs, wr, fv, dv, lp, lv, lm, li, lq, dp, dw, dm, di, dq, ix, ea, ac, rm) (nI m) := by
  unfold wpX_marksWithin
  have h := mw_cnt_le lm F
  exact ⟨34, mw_marks_loop hF hm H hp 34 (mw_cnt lm F) (by omega) (by omega) (mw_cnt_mono F hm)⟩
/-! may the log start anew? -/
def mw_calm (rc : Nat) (ac rm : Nat → Int32) : Prop := ∀ r, r < rc → ac r = 0 ∨ rm r ≤ 0
theorem mw_canRestart_loop {R : Nat} (hR : R ≤ 8) {post : Int32 → Prop} (hy : mw_calm R ac rm → post 1) (hn : ¬ mw_calm R ac rm → post 0) :
    ∀ (n i : Nat), i ≤ R → R - i < n → mw_calm i ac rm → wX_canRestart_22 post pc ca (nI R) hh la mk fr cm sy cp bc rs wr fv dv lp lv lm li lq dp dw dm di dq ix ea ac rm n (nI i) := by
  intro n
  induction n with
  | zero => intro i _ h; omega
  | succ n ih =>
    intro i hi hn' hc
    rw [wX_canRestart_22]
    refine pk_le R i (fun h => hy ?_) (fun h => ?_)
    · have : R = i := by omega
      rw [this]; exact hc
    · refine ⟨vp_in_nI (by omega) (by decide), ?_⟩
      rw [nI_clamp (show i < 2 ^ 31 by omega)]
      have go : (ac i = 0 ∨ rm i ≤ 0) → wX_canRestart_22 post pc ca (nI R) hh la mk fr cm sy cp bc rs wr fv dv lp lv lm li lq dp dw dm di dq ix ea ac rm n (nI (i + 1)) := by
        intro h1
        refine ih (i + 1) (by omega) (by omega) (fun r hr => ?_)
        by_cases e : r = i
        · rw [e]; exact h1
        · exact hc r (by omega)
      by_cases z : ac i = 0
      · exact br_t z (nm_r (nI_1 i) (go (Or.inl z)))
      · refine br_f z ⟨vp_in_nI (by omega) (by decide), ?_⟩
        by_cases z2 : rm i ≤ 0
        · exact br_t z2 (nm_r (nI_1 i) (go (Or.inr z2)))
        · refine br_f z2 (hn (fun hall => ?_))
          rcases hall i h with w | w
          · exact z w
          · exact z2 w
theorem mw_canRestart {R C P : Nat} (hR : R ≤ 8) (hC : C ≤ 32) (hP : P ≤ 32) {post : Int32 → Prop} (hy : C ≠ 0 → P = C → mw_calm R ac rm → post 1) (hn : ¬ (C ≠ 0 ∧ P = C ∧ mw_calm R ac rm) → post 0) : wpX_canRestart post (pc, ca, nI R, hh, la, mk, fr, nI C, sy, nI P, bc, rs, wr, fv, dv, lp, lv, lm, li, lq, dp, dw, dm, di, dq, ix, ea, ac, rm) := by
  unfold wpX_canRestart
  refine pk_eq (y := 0) C 0 (fun h => hn (fun z => z.1 h)) (fun h => ?_)
  refine pk_eq P C (fun h1 => ?_) (fun h1 => hn (fun z => h1 z.2.1))
  exact ⟨9, mw_canRestart_loop hR (hy h h1) (fun z => hn (fun q => z q.2.2)) 9 0 (by omega) (by omega) (fun r hr => absurd hr (by omega))⟩
/-! how far the checkpointer may go -/
def mw_lim (ac rm : Nat → Int32) : Nat → Int32 → Int32
  | 0, x => x
  | i + 1, x => if ac i = 0 then mw_lim ac rm i x else if mw_lim ac rm i x ≤ rm i then mw_lim ac rm i x else rm i
theorem mw_copyLimit_loop {R : Nat} {x : Int32} (hR : R ≤ 8) {post : Int32 → Prop} (hp : post (mw_lim ac rm R x)) :
    ∀ (n i : Nat), i ≤ R → R - i < n → wX_copyLimit_7 post pc ca (nI R) hh la mk fr cm sy cp bc rs wr fv dv lp lv lm li lq dp dw dm di dq ix ea ac rm n (mw_lim ac rm i x) (nI i) := by
  intro n
  induction n with
  | zero => intro i _ h; omega
  | succ n ih =>
    intro i hi hn
    rw [wX_copyLimit_7]
    refine pk_le R i (fun h => ?_) (fun h => ?_)
    · have : R = i := by omega
      rw [← this]; exact hp
    · have h1 := ih (i + 1) (by omega) (by omega)
      refine ⟨vp_in_nI (by omega) (by decide), ?_⟩
      rw [nI_clamp (show i < 2 ^ 31 by omega)]
      by_cases z : ac i = 0
      · rw [mw_lim, if_pos z] at h1
        exact br_t z (nm_r (nI_1 i) h1)
      · refine br_f z ⟨vp_in_nI (by omega) (by decide), ?_⟩
        by_cases z2 : mw_lim ac rm i x ≤ rm i
        · rw [mw_lim, if_neg z, if_pos z2] at h1
          exact br_t z2 (nm_r (nI_1 i) h1)
        · rw [mw_lim, if_neg z, if_neg z2] at h1
          exact br_f z2 ⟨vp_in_nI (by omega) (by decide), nm_e (nm_r (nI_1 i) h1)⟩
theorem mw_copyLimit {R : Nat} (hR : R ≤ 8) {post : Int32 → Prop} (hp : post (mw_lim ac rm R cm)) : wpX_copyLimit post (pc, ca, nI R, hh, la, mk, fr, cm, sy, cp, bc, rs, wr, fv, dv, lp, lv, lm, li, lq, dp, dw, dm, di, dq, ix, ea, ac, rm) := by
  unfold wpX_copyLimit
  exact ⟨9, mw_copyLimit_loop hR hp 9 0 (by omega) (by omega)⟩
end
end
section
/-! the component's writing methods: index and append -/
section
variable {pc ca rc mk fr cm sy cp bc rs wr : Int32}
variable {hh la : Int64}
variable {fv dv lp lv lm dp dw dm ix ea ac rm : Nat → Int32}
variable {li lq di dq : Nat → Int64}

/-- the index with all entries above x dropped -/
def mw_CL (x : Int32) (ix ix' : Nat → Int32) : Prop := ∀ s, s < 64 → ix' s = if ix s ≤ x then ix s else 0
theorem mw_clean_loop {x : Int32} {post : SX → Prop} (hp : ∀ ix', mw_CL x ix ix' → post (pc, ca, rc, hh, la, mk, fr, cm, sy, cp, bc, rs, wr, fv, dv, lp, lv, lm, li, lq, dp, dw, dm, di, dq, ix', ea, ac, rm)) :
    ∀ (n i : Nat) (a : Nat → Int32), i ≤ 64 → 64 - i < n → (∀ s, s < i → a s = if ix s ≤ x then ix s else 0) → (∀ s, i ≤ s → a s = ix s) → wX_cleanIndex_2 post x pc ca rc hh la mk fr cm sy cp bc rs wr n (nI i) fv dv lp lv lm li lq dp dw dm di dq a ea ac rm := by
  intro n
  induction n with
  | zero => intro i _ _ h; omega
  | succ n ih =>
    intro i a hi hn h1 h2
    rw [wX_cleanIndex_2]
    refine pk_le (x := 64) 64 i (fun h => hp a (fun s hs => h1 s (by omega))) (fun h => ?_)
    refine ⟨vp_in_nI (by omega) (by decide), ?_⟩
    rw [nI_clamp (show i < 2 ^ 31 by omega)]
    have e := h2 i (Nat.le_refl i)
    by_cases c : a i ≤ x
    · refine br_t c (nm_r (nI_1 i) (ih (i + 1) a (by omega) (by omega) (fun s hs => ?_) (fun s hs => h2 s (by omega))))
      by_cases z : s = i
      · rw [z, e, if_pos (by rw [← e]; exact c)]
      · exact h1 s (by omega)
    · refine br_f c ⟨vp_in_nI (by omega) (by decide), nm_e (nm_r (nI_1 i) (ih (i + 1) _ (by omega) (by omega) (fun s hs => ?_) (fun s hs => ?_)))⟩
      · by_cases z : s = i
        · rw [z, pk_us, if_neg (by rw [← e]; exact c)]
        · rw [pk_un z]; exact h1 s (by omega)
      · rw [pk_un (by omega)]; exact h2 s (by omega)
theorem mw_cleanIndex {x : Int32} {post : SX → Prop} (hp : ∀ ix', mw_CL x ix ix' → post (pc, ca, rc, hh, la, mk, fr, cm, sy, cp, bc, rs, wr, fv, dv, lp, lv, lm, li, lq, dp, dw, dm, di, dq, ix', ea, ac, rm)) : wpX_cleanIndex post (pc, ca, rc, hh, la, mk, fr, cm, sy, cp, bc, rs, wr, fv, dv, lp, lv, lm, li, lq, dp, dw, dm, di, dq, ix, ea, ac, rm) x := by
  unfold wpX_cleanIndex
  exact ⟨65, mw_clean_loop hp 65 0 ix (by omega) (by omega) (fun s hs => absurd hs (by omega)) (fun _ _ => rfl)⟩
theorem mw_restart_loop {P : Nat} (hP : P ≤ 16) {post : SX → Prop} (hp : ∀ dv' ix', (∀ p, p < P → dv' p = fv p) → mw_CL 0 ix ix' → post (nI P, ca, rc, la + 1, la + 1, 0, 0, 0, 0, 0, bc + mk, rs + 1, wr, fv, dv', lp, lv, lm, li, lq, dp, dw, dm, di, dq, ix', ea, ac, rm)) :
    ∀ (n i : Nat) (a : Nat → Int32), i ≤ P → P - i < n → (∀ p, p < i → a p = fv p) → wX_restartLog_2 post (nI P) ca rc hh la mk fr cm sy cp bc rs wr n (nI i) fv a lp lv lm li lq dp dw dm di dq ix ea ac rm := by
  intro n
  induction n with
  | zero => intro i _ _ h; omega
  | succ n ih =>
    intro i a hi hn h1
    rw [wX_restartLog_2]
    refine pk_le P i (fun h => ?_) (fun h => ?_)
    · refine nm_e (nm_e (nm_e ?_))
      refine mw_cleanIndex (fun ix' hx => ?_)
      exact hp a ix' (fun p hp' => h1 p (by omega)) hx
    · rw [nI_clamp (show i < 2 ^ 31 by omega)]
      refine ⟨vp_in_nI (by omega) (by decide), vp_in_nI (by omega) (by decide), nm_e (nm_r (nI_1 i) (ih (i + 1) _ (by omega) (by omega) (fun p hp' => ?_)))⟩
      by_cases z : p = i
      · rw [z, pk_us]
      · rw [pk_un z]; exact h1 p (by omega)
theorem mw_restartLog {P : Nat} (hP : P ≤ 16) {post : SX → Prop} (hp : ∀ dv' ix', (∀ p, p < P → dv' p = fv p) → mw_CL 0 ix ix' → post (nI P, ca, rc, la + 1, la + 1, 0, 0, 0, 0, 0, bc + mk, rs + 1, wr, fv, dv', lp, lv, lm, li, lq, dp, dw, dm, di, dq, ix', ea, ac, rm)) : wpX_restartLog post (nI P, ca, rc, hh, la, mk, fr, cm, sy, cp, bc, rs, wr, fv, dv, lp, lv, lm, li, lq, dp, dw, dm, di, dq, ix, ea, ac, rm) := by
  unfold wpX_restartLog
  exact ⟨17, mw_restart_loop hP hp 17 0 dv (by omega) (by omega) (fun p hp' => absurd hp' (by omega))⟩
theorem mw_index_loop {f D : Nat} {q : Int32} (hD : D < 64) (hz : ix ((mw_hs q + D) % 64) = 0) (hne : ∀ e, e < D → ix ((mw_hs q + e) % 64) ≠ 0) {post : SX → Prop} (hp : post (pc, ca, rc, hh, la, mk, fr, cm, sy, cp, bc, rs, wr, fv, dv, lp, lv, lm, li, lq, dp, dw, dm, di, dq, upd ix ((mw_hs q + D) % 64) (nI (f + 1)), ea, ac, rm)) :
    ∀ (n d : Nat), d ≤ D → D - d < n → wX_indexFrame_13 post (nI f) pc ca rc hh la mk fr cm sy cp bc rs wr fv dv lp lv lm li lq dp dw dm di dq ix ea ac rm n (nI ((mw_hs q + d) % 64)) (nI d) := by
  intro n
  induction n with
  | zero => intro d _ h; omega
  | succ n ih =>
    intro d hd hn
    rw [wX_indexFrame_13]
    refine pk_le (x := 64) 64 d (fun h => by omega) (fun h => ?_)
    have hs : (mw_hs q + d) % 64 < 64 := Nat.mod_lt _ (by decide)
    refine ⟨vp_in_nI hs (by decide), ?_⟩
    rw [nI_clamp (show (mw_hs q + d) % 64 < 2 ^ 31 by omega)]
    by_cases c : d = D
    · subst c
      refine br_t hz ?_
      unfold wX_indexFrame_41
      rw [nI_clamp (show (mw_hs q + d) % 64 < 2 ^ 31 by omega)]
      exact ⟨vp_in_nI hs (by decide), nm_r (by rw [nI_1]) hp⟩
    · exact br_f (hne d (by omega)) (nm_r (mw_slot (mw_hs q + d)) (nm_r (nI_1 d) (ih (d + 1) (by omega) (by omega))))
theorem mw_indexFrame {f N : Nat} (hf : f < 32) (hN : N ≤ 32) {lp0 : Nat → Int32} (H : mw_IX N lp0 ix) {post : SX → Prop} (hp : ∀ d, d < 64 → ix ((mw_hs (lp f) + d) % 64) = 0 → (∀ e, e < d → ix ((mw_hs (lp f) + e) % 64) ≠ 0) → post (pc, ca, rc, hh, la, mk, fr, cm, sy, cp, bc, rs, wr, fv, dv, lp, lv, lm, li, lq, dp, dw, dm, di, dq, upd ix ((mw_hs (lp f) + d) % 64) (nI (f + 1)), ea, ac, rm)) : wpX_indexFrame post (pc, ca, rc, hh, la, mk, fr, cm, sy, cp, bc, rs, wr, fv, dv, lp, lv, lm, li, lq, dp, dw, dm, di, dq, ix, ea, ac, rm) (nI f) := by
  unfold wpX_indexFrame wpX_hash
  refine ⟨vp_in_nI hf (by decide), ?_⟩
  show ∃ n13 : Nat, wX_indexFrame_13 post (nI f) pc ca rc hh la mk fr cm sy cp bc rs wr fv dv lp lv lm li lq dp dw dm di dq ix ea ac rm n13 ((lp (nI f).toNatClampNeg * 29) &&& 63) 0
  rw [nI_clamp (show f < 2 ^ 31 by omega), mw_hash]
  obtain ⟨d, hd, hz, hne⟩ := mw_IX_free H hN (mw_hs (lp f))
  refine ⟨64, ?_⟩
  have h := mw_index_loop (pc := pc) (ca := ca) (rc := rc) (hh := hh) (la := la) (mk := mk) (fr := fr) (cm := cm) (sy := sy) (cp := cp) (bc := bc) (rs := rs) (wr := wr) (fv := fv) (dv := dv) (lp := lp) (lv := lv) (lm := lm) (li := li) (lq := lq) (dp := dp) (dw := dw) (dm := dm) (di := di) (dq := dq) (ea := ea) (ac := ac) (rm := rm) hd hz hne (hp d hd hz hne) 64 0 (by omega) (by omega)
  rw [Nat.add_zero, Nat.mod_eq_of_lt (mw_hs_lt (lp f))] at h
  exact h
theorem mw_append {f N : Nat} {p v b : Int32} (hf : f < 32) (hN : N ≤ 32) {lp0 : Nat → Int32} (H : mw_IX N lp0 ix) {post : SX → Prop}
    (hp : ∀ d, d < 64 → ix ((mw_hs p + d) % 64) = 0 → (∀ e, e < d → ix ((mw_hs p + e) % 64) ≠ 0) →
      post (pc, ca, rc, hh, la + 1, mk, nI (f + 1), cm, sy, cp, bc, rs, wr, fv, dv, upd lp f p, upd lv f v, upd lm f (vp_nar .boolean b), vp_updL li f (la + 1), vp_updL lq f (mw_pv hh li f), dp, dw, dm, di, dq, upd ix ((mw_hs p + d) % 64) (nI (f + 1)), ea, ac, rm)) :
    wpX_append post (pc, ca, rc, hh, la, mk, nI f, cm, sy, cp, bc, rs, wr, fv, dv, lp, lv, lm, li, lq, dp, dw, dm, di, dq, ix, ea, ac, rm) p v b := by
  unfold wpX_append
  have hin : vp_in (nI f) 32 := vp_in_nI hf (by decide)
  have hc : (nI f).toNatClampNeg = f := nI_clamp (by omega)
  have tail : wX_append_73 post (mw_pv hh li f) (nI f) pc ca rc hh (la + 1) mk (nI f) cm sy cp bc rs wr fv dv (upd lp f p) (upd lv f v) (upd lm f (vp_nar .boolean b)) li lq dp dw dm di dq ix ea ac rm := by
    unfold wX_append_73
    rw [hc]
    refine ⟨hin, nm_e ⟨hin, nm_e ?_⟩⟩
    refine mw_indexFrame hf hN H (fun d hd hz hne => ?_)
    rw [pk_us] at hz hne ⊢
    exact nm_r (nI_1 f) (hp d hd hz hne)
  refine nm_e ⟨hin, ?_⟩
  rw [hc]
  refine nm_e ⟨hin, nm_e ⟨hin, nm_e ?_⟩⟩
  refine pk_eq (y := 0) f 0 (fun h => ?_) (fun h => ?_)
  · subst h; exact tail
  · obtain ⟨g, rfl⟩ : ∃ g, f = g + 1 := ⟨f - 1, by omega⟩
    rw [nI_pred g, nI_clamp (show g < 2 ^ 31 by omega)]
    exact ⟨vp_in_nI (by omega) (by decide), tail⟩
theorem mw_checkAppend_idle {x : Int32} {post : Int32 → Prop} (hw : wr = 0) (hp : post (-3)) : wpX_checkAppend post (pc, ca, rc, hh, la, mk, fr, cm, sy, cp, bc, rs, wr, fv, dv, lp, lv, lm, li, lq, dp, dw, dm, di, dq, ix, ea, ac, rm) x := by
  unfold wpX_checkAppend
  exact br_t hw hp
theorem mw_checkAppend_bad {n : Nat} {x : Int32} {post : Int32 → Prop} (hw : ¬ wr = 0) (h : x < 0 ∨ nI n ≤ x) (hp : post (-1)) : wpX_checkAppend post (nI n, ca, rc, hh, la, mk, fr, cm, sy, cp, bc, rs, wr, fv, dv, lp, lv, lm, li, lq, dp, dw, dm, di, dq, ix, ea, ac, rm) x := by
  unfold wpX_checkAppend
  exact br_f hw (mw_isPage_n h (br_t rfl hp))
theorem mw_checkAppend_full {n j c : Nat} {post : Int32 → Prop} (hw : ¬ wr = 0) (hj : j < n) (hn : n < 2 ^ 31) (hp : post (-4)) : wpX_checkAppend post (nI n, nI c, rc, hh, la, mk, nI c, cm, sy, cp, bc, rs, wr, fv, dv, lp, lv, lm, li, lq, dp, dw, dm, di, dq, ix, ea, ac, rm) (nI j) := by
  unfold wpX_checkAppend
  exact br_f hw (mw_isPage_y hj hn (br_f (by decide) (br_t rfl hp)))
theorem mw_checkAppend_ok {n j c f : Nat} {post : Int32 → Prop} (hw : ¬ wr = 0) (hj : j < n) (hn : n < 2 ^ 31) (hf : f < c) (hc : c < 2 ^ 31) (hp : post 0) : wpX_checkAppend post (nI n, nI c, rc, hh, la, mk, nI f, cm, sy, cp, bc, rs, wr, fv, dv, lp, lv, lm, li, lq, dp, dw, dm, di, dq, ix, ea, ac, rm) (nI j) := by
  unfold wpX_checkAppend
  refine br_f hw (mw_isPage_y hj hn (br_f (by decide) (br_f ?_ hp)))
  rw [nI_eq (by omega) hc]
  omega
end
end
section
/-! the component's disk: sync, crash, recovery, copying -/
def mw_mx {α : Type} (c : Nat → Int32) (lo hi : Nat) (a b : Nat → α) : Nat → α := fun j => if lo ≤ j ∧ j < hi ∧ c j ≠ 0 then a j else b j
def mw_one : Nat → Int32 := fun _ => 1
def mw_sh (m : Int32) : Nat → Int32 := fun i => ((m.toUInt32 >>> ((nI i).toUInt32 &&& Int32.toUInt32 31)).toInt32) &&& 1
theorem mw_mx_in {α : Type} {c : Nat → Int32} {lo hi j : Nat} {a b : Nat → α} (h : lo ≤ j ∧ j < hi ∧ c j ≠ 0) : mw_mx c lo hi a b j = a j := if_pos h
theorem mw_mx_out {α : Type} {c : Nat → Int32} {lo hi j : Nat} {a b : Nat → α} (h : ¬ (lo ≤ j ∧ j < hi ∧ c j ≠ 0)) : mw_mx c lo hi a b j = b j := if_neg h
theorem mw_one_in {α : Type} {lo hi j : Nat} {a b : Nat → α} (h1 : lo ≤ j) (h2 : j < hi) : mw_mx mw_one lo hi a b j = a j := if_pos ⟨h1, h2, (by decide : (1 : Int32) ≠ 0)⟩
theorem mw_one_out {α : Type} {lo hi j : Nat} {a b : Nat → α} (h : ¬ (lo ≤ j ∧ j < hi)) : mw_mx mw_one lo hi a b j = b j := if_neg (fun z => h ⟨z.1, z.2.1⟩)
theorem mw_mx_nil {α : Type} {c : Nat → Int32} {lo : Nat} {a b : Nat → α} : mw_mx c lo lo a b = b := by
  funext j
  exact mw_mx_out (by omega)
theorem mw_mx_0 {α : Type} {c : Nat → Int32} {lo i : Nat} {a b : Nat → α} (h : c i = 0) : mw_mx c lo i a b = mw_mx c lo (i + 1) a b := by
  funext j
  by_cases e : j = i
  · subst e
    rw [mw_mx_out (by omega), mw_mx_out (fun z => z.2.2 h)]
  · by_cases q : lo ≤ j ∧ j < i ∧ c j ≠ 0
    · rw [mw_mx_in q, mw_mx_in ⟨q.1, by omega, q.2.2⟩]
    · rw [mw_mx_out q, mw_mx_out (fun z => q ⟨z.1, by omega, z.2.2⟩)]
theorem mw_mx_1 {α : Type} {c : Nat → Int32} {lo i : Nat} {a b : Nat → α} (hl : lo ≤ i) (h : c i ≠ 0) : (fun j => if j = i then a i else mw_mx c lo i a b j) = mw_mx c lo (i + 1) a b := by
  funext j
  by_cases e : j = i
  · subst e
    rw [if_pos rfl, mw_mx_in ⟨hl, by omega, h⟩]
  · rw [if_neg e]
    by_cases q : lo ≤ j ∧ j < i ∧ c j ≠ 0
    · rw [mw_mx_in q, mw_mx_in ⟨q.1, by omega, q.2.2⟩]
    · rw [mw_mx_out q, mw_mx_out (fun z => q ⟨z.1, by omega, z.2.2⟩)]
theorem mw_mx_u {c : Nat → Int32} {lo i : Nat} {a b : Nat → Int32} (hl : lo ≤ i) (h : c i ≠ 0) : upd (mw_mx c lo i a b) i (a i) = mw_mx c lo (i + 1) a b := mw_mx_1 hl h
theorem mw_mx_L {c : Nat → Int32} {lo i : Nat} {a b : Nat → Int64} (hl : lo ≤ i) (h : c i ≠ 0) : vp_updL (mw_mx c lo i a b) i (a i) = mw_mx c lo (i + 1) a b := mw_mx_1 hl h
theorem mw_bool {x : Int32} (h : x = 0 ∨ x = 1) : vp_nar .boolean x = x := by
  rcases h with h | h <;> rw [h] <;> rfl
section
variable {pc ca rc mk fr cm sy cp bc rs wr : Int32}
variable {hh la : Int64}
variable {fv dv lp lv lm dp dw dm ix ea ac rm : Nat → Int32}
variable {li lq di dq : Nat → Int64}

theorem mw_slotToDisk {i : Nat} (hi : i < 32) (hb : lm i = 0 ∨ lm i = 1) {post : SX → Prop} (hp : post (pc, ca, rc, hh, la, mk, fr, cm, sy, cp, bc, rs, wr, fv, dv, lp, lv, lm, li, lq, upd dp i (lp i), upd dw i (lv i), upd dm i (lm i), vp_updL di i (li i), vp_updL dq i (lq i), ix, ea, ac, rm)) : wpX_slotToDisk post (pc, ca, rc, hh, la, mk, fr, cm, sy, cp, bc, rs, wr, fv, dv, lp, lv, lm, li, lq, dp, dw, dm, di, dq, ix, ea, ac, rm) (nI i) := by
  unfold wpX_slotToDisk
  have hin : vp_in (nI i) 32 := vp_in_nI hi (by decide)
  rw [nI_clamp (show i < 2 ^ 31 by omega)]
  exact ⟨hin, hin, nm_e ⟨hin, hin, nm_e ⟨hin, hin, nm_r (by rw [mw_bool hb]) ⟨hin, hin, nm_e ⟨hin, hin, nm_e hp⟩⟩⟩⟩⟩
theorem mw_slotFromDisk {i : Nat} (hi : i < 32) (hb : dm i = 0 ∨ dm i = 1) {post : SX → Prop} (hp : post (pc, ca, rc, hh, la, mk, fr, cm, sy, cp, bc, rs, wr, fv, dv, upd lp i (dp i), upd lv i (dw i), upd lm i (dm i), vp_updL li i (di i), vp_updL lq i (dq i), dp, dw, dm, di, dq, ix, ea, ac, rm)) : wpX_slotFromDisk post (pc, ca, rc, hh, la, mk, fr, cm, sy, cp, bc, rs, wr, fv, dv, lp, lv, lm, li, lq, dp, dw, dm, di, dq, ix, ea, ac, rm) (nI i) := by
  unfold wpX_slotFromDisk
  have hin : vp_in (nI i) 32 := vp_in_nI hi (by decide)
  rw [nI_clamp (show i < 2 ^ 31 by omega)]
  exact ⟨hin, hin, nm_e ⟨hin, hin, nm_e ⟨hin, hin, nm_r (by rw [mw_bool hb]) ⟨hin, hin, nm_e ⟨hin, hin, nm_e hp⟩⟩⟩⟩⟩
theorem mw_sync_loop {S F : Nat} (hF : F ≤ 32) (hb : ∀ j, lm j = 0 ∨ lm j = 1) {post : SX → Prop} (hp : post (pc, ca, rc, hh, la, mk, nI F, cm, nI F, cp, bc, rs, wr, fv, dv, lp, lv, lm, li, lq, mw_mx mw_one S F lp dp, mw_mx mw_one S F lv dw, mw_mx mw_one S F lm dm, mw_mx mw_one S F li di, mw_mx mw_one S F lq dq, ix, ea, ac, rm)) :
    ∀ (n i : Nat), S ≤ i → i ≤ F → F - i < n → wX_syncLog_5 post n (nI i) pc ca rc hh la mk (nI F) cm sy cp bc rs wr fv dv lp lv lm li lq (mw_mx mw_one S i lp dp) (mw_mx mw_one S i lv dw) (mw_mx mw_one S i lm dm) (mw_mx mw_one S i li di) (mw_mx mw_one S i lq dq) ix ea ac rm := by
  intro n
  induction n with
  | zero => intro i _ _ h; omega
  | succ n ih =>
    intro i hS hi hn
    have h1 : mw_one i ≠ 0 := (by decide : (1 : Int32) ≠ 0)
    rw [wX_syncLog_5]
    refine pk_le F i (fun h => ?_) (fun h => ?_)
    · have : i = F := by omega
      subst this
      exact hp
    · refine mw_slotToDisk (by omega) (hb i) ?_
      have h2 := ih (i + 1) (by omega) (by omega) (by omega)
      rw [← mw_mx_u hS h1, ← mw_mx_u hS h1, ← mw_mx_u hS h1, ← mw_mx_L hS h1, ← mw_mx_L hS h1] at h2
      exact nm_r (nI_1 i) h2
theorem mw_syncLog {S F : Nat} (hF : F ≤ 32) (hS : S ≤ F) (hb : ∀ j, lm j = 0 ∨ lm j = 1) {post : SX → Prop} (hp : post (pc, ca, rc, hh, la, mk, nI F, cm, nI F, cp, bc, rs, wr, fv, dv, lp, lv, lm, li, lq, mw_mx mw_one S F lp dp, mw_mx mw_one S F lv dw, mw_mx mw_one S F lm dm, mw_mx mw_one S F li di, mw_mx mw_one S F lq dq, ix, ea, ac, rm)) : wpX_syncLog post (pc, ca, rc, hh, la, mk, nI F, cm, nI S, cp, bc, rs, wr, fv, dv, lp, lv, lm, li, lq, dp, dw, dm, di, dq, ix, ea, ac, rm) := by
  unfold wpX_syncLog
  have h := mw_sync_loop (S := S) (sy := nI S) hF hb hp 33 S (by omega) hS (by omega)
  rw [mw_mx_nil, mw_mx_nil, mw_mx_nil, mw_mx_nil, mw_mx_nil] at h
  exact ⟨33, h⟩
theorem mw_crashLog_loop {S F : Nat} {x : Int32} (hF : F ≤ 32) (hb : ∀ j, lm j = 0 ∨ lm j = 1) {post : SX → Prop} (hp : post (pc, ca, rc, hh, la, mk, nI F, cm, sy, cp, bc, rs, wr, fv, dv, lp, lv, lm, li, lq, mw_mx (mw_sh x) S F lp dp, mw_mx (mw_sh x) S F lv dw, mw_mx (mw_sh x) S F lm dm, mw_mx (mw_sh x) S F li di, mw_mx (mw_sh x) S F lq dq, ix, ea, ac, rm)) :
    ∀ (n i : Nat), S ≤ i → i ≤ F → F - i < n → wX_crashLog_5 post x n (nI i) pc ca rc hh la mk (nI F) cm sy cp bc rs wr fv dv lp lv lm li lq (mw_mx (mw_sh x) S i lp dp) (mw_mx (mw_sh x) S i lv dw) (mw_mx (mw_sh x) S i lm dm) (mw_mx (mw_sh x) S i li di) (mw_mx (mw_sh x) S i lq dq) ix ea ac rm := by
  intro n
  induction n with
  | zero => intro i _ _ h; omega
  | succ n ih =>
    intro i hS hi hn
    rw [wX_crashLog_5]
    refine pk_le F i (fun h => ?_) (fun h => ?_)
    · have : i = F := by omega
      subst this
      exact hp
    · have h2 := ih (i + 1) (by omega) (by omega) (by omega)
      by_cases c : mw_sh x i = 0
      · rw [← mw_mx_0 c, ← mw_mx_0 c, ← mw_mx_0 c, ← mw_mx_0 c, ← mw_mx_0 c] at h2
        exact br_t c (nm_r (nI_1 i) h2)
      · refine br_f c ?_
        refine mw_slotToDisk (by omega) (hb i) ?_
        rw [← mw_mx_u hS c, ← mw_mx_u hS c, ← mw_mx_u hS c, ← mw_mx_L hS c, ← mw_mx_L hS c] at h2
        exact nm_r (nI_1 i) h2
theorem mw_crashLog {S F : Nat} {x : Int32} (hF : F ≤ 32) (hS : S ≤ F) (hb : ∀ j, lm j = 0 ∨ lm j = 1) {post : SX → Prop} (hp : post (pc, ca, rc, hh, la, mk, nI F, cm, nI S, cp, bc, rs, wr, fv, dv, lp, lv, lm, li, lq, mw_mx (mw_sh x) S F lp dp, mw_mx (mw_sh x) S F lv dw, mw_mx (mw_sh x) S F lm dm, mw_mx (mw_sh x) S F li di, mw_mx (mw_sh x) S F lq dq, ix, ea, ac, rm)) : wpX_crashLog post (pc, ca, rc, hh, la, mk, nI F, cm, nI S, cp, bc, rs, wr, fv, dv, lp, lv, lm, li, lq, dp, dw, dm, di, dq, ix, ea, ac, rm) x := by
  unfold wpX_crashLog
  have h := mw_crashLog_loop (S := S) (sy := nI S) hF hb hp 33 S (by omega) hS (by omega)
  rw [mw_mx_nil, mw_mx_nil, mw_mx_nil, mw_mx_nil, mw_mx_nil] at h
  exact ⟨33, h⟩
/-- after a crash each page of the two files holds what one of them held -/
def mw_CF (P : Nat) (fv dv g d : Nat → Int32) : Prop := ∀ p, p < P → (g p = fv p ∨ g p = dv p) ∧ (d p = fv p ∨ d p = dv p)
theorem mw_crashFile_loop {P : Nat} {x : Int32} (hP : P ≤ 16) {post : SX → Prop} (hp : ∀ g d, mw_CF P fv dv g d → post (nI P, ca, rc, hh, la, mk, fr, cm, sy, cp, bc, rs, wr, g, d, lp, lv, lm, li, lq, dp, dw, dm, di, dq, ix, ea, ac, rm)) :
    ∀ (n i : Nat) (g d : Nat → Int32), i ≤ P → P - i < n → mw_CF i fv dv g d → (∀ p, i ≤ p → g p = fv p ∧ d p = dv p) → wX_crashFile_2 post x (nI P) ca rc hh la mk fr cm sy cp bc rs wr n (nI i) g d lp lv lm li lq dp dw dm di dq ix ea ac rm := by
  intro n
  induction n with
  | zero => intro i _ _ _ h; omega
  | succ n ih =>
    intro i g d hi hn h1 h2
    rw [wX_crashFile_2]
    refine pk_le P i (fun h => ?_) (fun h => ?_)
    · exact hp g d (fun p hq => h1 p (by omega))
    · have hin : vp_in (nI i) 16 := vp_in_nI (by omega) (by decide)
      have hc : (nI i).toNatClampNeg = i := nI_clamp (by omega)
      have e := h2 i (Nat.le_refl i)
      have go : ∀ d', (d' i = fv i ∨ d' i = dv i) → (∀ p, p ≠ i → d' p = d p) → wX_crashFile_30 post (wX_crashFile_2 post x (nI P) ca rc hh la mk fr cm sy cp bc rs wr n) x (nI i) (nI P) ca rc hh la mk fr cm sy cp bc rs wr g d' lp lv lm li lq dp dw dm di dq ix ea ac rm := by
        intro d' hd1 hd2
        unfold wX_crashFile_30
        rw [hc]
        refine ⟨hin, hin, nm_e (nm_r (nI_1 i) (ih (i + 1) _ d' (by omega) (by omega) (fun p hq => ?_) (fun p hq => ?_)))⟩
        · by_cases z : p = i
          · subst z
            rw [pk_us]
            exact ⟨hd1, hd1⟩
          · rw [pk_un z, hd2 p z]
            exact h1 p (by omega)
        · rw [pk_un (by omega), hd2 p (by omega)]
          exact h2 p (by omega)
      rw [hc]
      refine br_c (fun _ => go d (Or.inr e.2) (fun _ _ => rfl)) (fun _ => ⟨hin, hin, nm_e (go _ ?_ (fun p hq => pk_un hq))⟩)
      rw [pk_us]
      exact Or.inl e.1
theorem mw_crashFile {P : Nat} {x : Int32} (hP : P ≤ 16) {post : SX → Prop} (hp : ∀ g d, mw_CF P fv dv g d → post (nI P, ca, rc, hh, la, mk, fr, cm, sy, cp, bc, rs, wr, g, d, lp, lv, lm, li, lq, dp, dw, dm, di, dq, ix, ea, ac, rm)) : wpX_crashFile post (nI P, ca, rc, hh, la, mk, fr, cm, sy, cp, bc, rs, wr, fv, dv, lp, lv, lm, li, lq, dp, dw, dm, di, dq, ix, ea, ac, rm) x := by
  unfold wpX_crashFile
  exact ⟨17, mw_crashFile_loop hP hp 17 0 fv dv (by omega) (by omega) (fun p hq => absurd hq (by omega)) (fun _ _ => ⟨rfl, rfl⟩)⟩
/-! the scan of the chain -/
theorem mw_scan_loop {C s : Nat} (hC : C ≤ 32) (hs : s ≤ C) (hlink : ∀ j, j < s → dq j = mw_pv hh di j)
    (hst : ∀ i, s ≤ i → i < C → (∀ j, s ≤ j → j ≤ i → dq j = mw_pv hh di j) → dm i = 0)
    {post : Int32 → SX → Prop} (hp : ∀ e, mw_EA dm s e → post (nI (mw_lme dm s)) (pc, nI C, rc, hh, la, nI (mw_cnt dm s), fr, cm, sy, cp, bc, rs, wr, fv, dv, lp, lv, lm, li, lq, dp, dw, dm, di, dq, ix, e, ac, rm)) :
    ∀ (n i : Nat) (e : Nat → Int32), i ≤ C → C - i < n → (∀ j, j < i → dq j = mw_pv hh di j) → mw_EA dm i e →
      wX_scanDisk_12 post pc (nI C) rc hh la fr cm sy cp bc rs wr n (mw_pv hh di i) (nI i) (nI (mw_cnt dm i)) fv dv lp lv lm li lq dp dw dm di dq ix e ac rm := by
  intro n
  induction n with
  | zero => intro i _ _ h; omega
  | succ n ih =>
    intro i e hi hn hl he
    have hcn := mw_cnt_le dm i
    have done : (i = C ∨ dq i ≠ mw_pv hh di i) → vp_in (nI (mw_cnt dm i)) 33 ∧ post (e (nI (mw_cnt dm i)).toNatClampNeg) (pc, nI C, rc, hh, la, nI (mw_cnt dm i), fr, cm, sy, cp, bc, rs, wr, fv, dv, lp, lv, lm, li, lq, dp, dw, dm, di, dq, ix, e, ac, rm) := by
      intro hx
      have hsi : s ≤ i := by
        rcases hx with hx | hx
        · omega
        · apply Classical.byContradiction
          intro hlt
          exact hx (hlink i (by omega))
      have hf := mw_lme_flat (m := dm) (a := s) i hsi (fun j h1 h2 => hst j h1 (by omega) (fun j' _ h3 => hl j' (by omega)))
      refine ⟨vp_in_nI (by omega) (by decide), ?_⟩
      rw [nI_clamp (show mw_cnt dm i < 2 ^ 31 by omega), mw_EA_last he, hf.1, hf.2]
      exact hp e (mw_EA_cut he hsi)
    rw [wX_scanDisk_12]
    refine pk_le C i (fun h => done (Or.inl (by omega))) (fun h => ?_)
    have hin : vp_in (nI i) 32 := vp_in_nI (by omega) (by decide)
    rw [nI_clamp (show i < 2 ^ 31 by omega)]
    refine ⟨hin, ?_⟩
    by_cases c : dq i = mw_pv hh di i
    · refine br_t c ⟨hin, ?_⟩
      have hl' : ∀ j, j < i + 1 → dq j = mw_pv hh di j := by
        intro j hj
        by_cases z : j = i
        · rw [z]; exact c
        · exact hl j (by omega)
      by_cases z : dm i = 0
      · have h2 := ih (i + 1) e (by omega) (by omega) hl' (mw_EA_z he z)
        rw [mw_cnt_z z] at h2
        exact br_t z ⟨hin, nm_e (nm_r (nI_1 i) h2)⟩
      · have h2 := ih (i + 1) _ (by omega) (by omega) hl' (mw_EA_s he z)
        rw [mw_cnt_s z] at h2
        refine br_f z (nm_r (nI_1 (mw_cnt dm i)) ?_)
        rw [nI_clamp (show mw_cnt dm i + 1 < 2 ^ 31 by omega), nI_1 i]
        exact ⟨vp_in_nI (by omega) (by decide), nm_e ⟨hin, nm_e (nm_e h2)⟩⟩
    · exact br_f c (done (Or.inr c))
theorem mw_scanDisk {C s : Nat} (hC : C ≤ 32) (hs : s ≤ C) (hlink : ∀ j, j < s → dq j = mw_pv hh di j)
    (hst : ∀ i, s ≤ i → i < C → (∀ j, s ≤ j → j ≤ i → dq j = mw_pv hh di j) → dm i = 0) (h0 : ea 0 = 0)
    {post : Int32 → SX → Prop} (hp : ∀ e, mw_EA dm s e → post (nI (mw_lme dm s)) (pc, nI C, rc, hh, la, nI (mw_cnt dm s), fr, cm, sy, cp, bc, rs, wr, fv, dv, lp, lv, lm, li, lq, dp, dw, dm, di, dq, ix, e, ac, rm)) : wpX_scanDisk post (pc, nI C, rc, hh, la, mk, fr, cm, sy, cp, bc, rs, wr, fv, dv, lp, lv, lm, li, lq, dp, dw, dm, di, dq, ix, ea, ac, rm) := by
  unfold wpX_scanDisk
  exact ⟨33, mw_scan_loop hC hs hlink hst hp 33 0 ea (by omega) (by omega) (fun j hj => absurd hj (by omega)) ⟨h0, fun i hi => absurd hi (by omega)⟩⟩
theorem mw_recover_loop {C E : Nat} (hC : C ≤ 32) (hE : E ≤ C) (hb : ∀ j, dm j = 0 ∨ dm j = 1)
    {post : SX → Prop} (hp : ∀ x, mw_IX E (mw_mx mw_one 0 C dp lp) x → post (pc, nI C, rc, hh, la, mk, fr, cm, sy, cp, bc, rs, wr, fv, dv, mw_mx mw_one 0 C dp lp, mw_mx mw_one 0 C dw lv, mw_mx mw_one 0 C dm lm, mw_mx mw_one 0 C di li, mw_mx mw_one 0 C dq lq, dp, dw, dm, di, dq, x, ea, ac, rm)) :
    ∀ (n i : Nat) (x : Nat → Int32), i ≤ C → C - i < n → (i ≤ E → mw_IX i (mw_mx mw_one 0 C dp lp) x) → (E ≤ i → mw_IX E (mw_mx mw_one 0 C dp lp) x) →
      wX_recover_32 post (nI E) n (nI i) pc (nI C) rc hh la mk fr cm sy cp bc rs wr fv dv (mw_mx mw_one 0 i dp lp) (mw_mx mw_one 0 i dw lv) (mw_mx mw_one 0 i dm lm) (mw_mx mw_one 0 i di li) (mw_mx mw_one 0 i dq lq) dp dw dm di dq x ea ac rm := by
  intro n
  induction n with
  | zero => intro i _ _ h; omega
  | succ n ih =>
    intro i x hi hn h1 h2
    have hone : mw_one i ≠ 0 := (by decide : (1 : Int32) ≠ 0)
    rw [wX_recover_32]
    refine pk_le C i (fun h => ?_) (fun h => ?_)
    · have : i = C := by omega
      subst this
      exact hp x (h2 hE)
    · refine mw_slotFromDisk (by omega) (hb i) ?_
      rw [mw_mx_u (Nat.zero_le i) hone, mw_mx_u (Nat.zero_le i) hone, mw_mx_u (Nat.zero_le i) hone, mw_mx_L (Nat.zero_le i) hone, mw_mx_L (Nat.zero_le i) hone]
      refine pk_le E i (fun h3 => ?_) (fun h3 => ?_)
      · exact nm_r (nI_1 i) (ih (i + 1) x (by omega) (by omega) (fun z => absurd z (by omega)) (fun _ => h2 h3))
      · refine mw_indexFrame (N := i) (by omega) (by omega) (h1 (by omega)) (fun d hd hz hne => ?_)
        have e1 : mw_mx mw_one 0 (i + 1) dp lp i = mw_mx mw_one 0 C dp lp i := by
          rw [mw_one_in (by omega) (by omega), mw_one_in (by omega) (by omega)]
        rw [e1] at hz hne ⊢
        have h4 := mw_IX_put (h1 (by omega)) (by omega) hd hz hne (fun _ _ => rfl) rfl
        refine nm_r (nI_1 i) (ih (i + 1) _ (by omega) (by omega) (fun _ => h4) (fun z => ?_))
        have : E = i + 1 := by omega
        rw [this]
        exact h4
theorem mw_recover {C s N : Nat} (hC : C ≤ 32) (hs : s ≤ C) (hlink : ∀ j, j < s → dq j = mw_pv hh di j)
    (hst : ∀ i, s ≤ i → i < C → (∀ j, s ≤ j → j ≤ i → dq j = mw_pv hh di j) → dm i = 0) (h0 : ea 0 = 0) (hb : ∀ j, dm j = 0 ∨ dm j = 1) (hN : N ≤ 32) (H : mw_IX N lp ix)
    {post : SX → Prop} (hp : ∀ e x, mw_EA dm s e → mw_IX (mw_lme dm s) (mw_mx mw_one 0 C dp lp) x →
      post (pc, nI C, rc, hh, la, nI (mw_cnt dm s), nI (mw_lme dm s), nI (mw_lme dm s), nI (mw_lme dm s), 0, bc, rs, wr, fv, dv, mw_mx mw_one 0 C dp lp, mw_mx mw_one 0 C dw lv, mw_mx mw_one 0 C dm lm, mw_mx mw_one 0 C di li, mw_mx mw_one 0 C dq lq, dp, dw, dm, di, dq, x, e, ac, rm)) : wpX_recover post (pc, nI C, rc, hh, la, mk, fr, cm, sy, cp, bc, rs, wr, fv, dv, lp, lv, lm, li, lq, dp, dw, dm, di, dq, ix, ea, ac, rm) := by
  unfold wpX_recover
  refine mw_scanDisk hC hs hlink hst h0 (fun e he => ?_)
  refine mw_cleanIndex (fun x0 hx0 => ?_)
  have hle := mw_lme_le dm s
  have h1 : mw_IX 0 (mw_mx mw_one 0 C dp lp) x0 := mw_IX_congr (mw_IX_clean (m := 0) H (by omega) hN hx0) (fun j hj => absurd hj (by omega))
  have h := mw_recover_loop (pc := pc) (rc := rc) (hh := hh) (la := la) (mk := nI (mw_cnt dm s)) (fr := nI (mw_lme dm s)) (cm := nI (mw_lme dm s)) (sy := nI (mw_lme dm s)) (cp := 0) (bc := bc) (rs := rs) (wr := wr) (fv := fv) (dv := dv) (lp := lp) (lv := lv) (lm := lm) (li := li) (lq := lq) (dp := dp) (dw := dw) (di := di) (dq := dq) (ea := e) (ac := ac) (rm := rm) hC (show mw_lme dm s ≤ C by omega) hb (fun x hx => hp e x he hx) 33 0 x0 (by omega) (by omega) (fun _ => h1) (fun z => by
    have : mw_lme dm s = 0 := by omega
    rw [this]; exact h1)
  rw [mw_mx_nil, mw_mx_nil, mw_mx_nil, mw_mx_nil, mw_mx_nil] at h
  exact ⟨33, h⟩
def mw_off (i : Nat) (ac : Nat → Int32) : Nat → Int32 := fun r => if r < i then 0 else ac r
theorem mw_off_0 (ac : Nat → Int32) : mw_off 0 ac = ac := by
  funext r
  exact if_neg (by omega)
theorem mw_off_s (i : Nat) (ac : Nat → Int32) : upd (mw_off i ac) i (vp_nar .boolean 0) = mw_off (i + 1) ac := by
  funext r
  unfold upd mw_off
  by_cases e : r = i
  · rw [if_pos e, if_pos (by omega)]; rfl
  · rw [if_neg e]
    by_cases c : r < i
    · rw [if_pos c, if_pos (by omega)]
    · rw [if_neg c, if_neg (by omega)]
/-! copying to the file -/
def mw_J (P i : Nat) (lp lv fv g : Nat → Int32) : Prop := ∀ p, p < P → mw_img (g p) lp lv (nI p) i = g p ∧ ((∀ f, f < i → lp f ≠ nI p) → g p = fv p)
theorem mw_J_s {P i q : Nat} {lp lv fv g : Nat → Int32} (hP : P ≤ 16) (hq : q < P) (h : mw_J P i lp lv fv g) (e : lp i = nI q) : mw_J P (i + 1) lp lv fv (upd g q (lv i)) := by
  intro p hp
  by_cases c : p = q
  · subst c
    rw [pk_us]
    exact ⟨by rw [mw_img, if_pos e], fun z => absurd e (z i (by omega))⟩
  · rw [pk_un c]
    have hne : lp i ≠ nI p := by
      rw [e]
      intro z
      exact c ((nI_eq (by omega) (by omega)).mp z).symm
    exact ⟨by rw [mw_img, if_neg hne]; exact (h p hp).1, fun z => (h p hp).2 (fun f hf => z f (by omega))⟩
theorem mw_copy_loop {P E : Nat} {x : Int32} (hP : P ≤ 16) (hE : E ≤ 32) (hpg : ∀ j, j < E → ∃ p, p < P ∧ lp j = nI p) {post : Int32 → SX → Prop} (hp : ∀ g, mw_J P E lp lv fv g → post x (pc, ca, rc, hh, la, mk, fr, cm, sy, nI E, bc, rs, wr, g, dv, lp, lv, lm, li, lq, dp, dw, dm, di, dq, ix, ea, ac, rm)) :
    ∀ (n i : Nat) (g : Nat → Int32), i ≤ E → E - i < n → mw_J P i lp lv fv g → wX_checkpoint_52 post x (nI E) pc ca rc hh la mk fr cm sy cp bc rs wr n (nI i) g dv lp lv lm li lq dp dw dm di dq ix ea ac rm := by
  intro n
  induction n with
  | zero => intro i _ _ h; omega
  | succ n ih =>
    intro i g hi hn h1
    rw [wX_checkpoint_52]
    refine pk_le E i (fun h => ?_) (fun h => ?_)
    · have : i = E := by omega
      subst this
      exact hp g h1
    · have hin : vp_in (nI i) 32 := vp_in_nI (by omega) (by decide)
      obtain ⟨q, hq, e⟩ := hpg i h
      rw [nI_clamp (show i < 2 ^ 31 by omega), e, nI_clamp (show q < 2 ^ 31 by omega)]
      exact ⟨hin, hin, vp_in_nI (by omega) (by decide), nm_e (nm_r (nI_1 i) (ih (i + 1) _ (by omega) (by omega) (mw_J_s hP hq h1 e)))⟩
end
end
section
/-! the reference's methods -/
section
variable {yp yo yr yb yf yw ys yc yt : Int32}
variable {ba fp fw fm ya ym sn : Nat → Int32}

theorem mw_yLME_loop {N : Nat} (hN : N ≤ 32) {post : Int32 → Prop} (hp : post (nI (mw_lme fm N))) :
    ∀ (n i : Nat), i ≤ N → N - i < n → wY_lastMarkedEnd_4 post (nI N) yp yo yr yb yf yw ys yc yt ba fp fw fm ya ym sn n (nI (mw_lme fm i)) (nI i) := by
  intro n
  induction n with
  | zero => intro i _ h; omega
  | succ n ih =>
    intro i hi hn
    rw [wY_lastMarkedEnd_4]
    refine pk_le N i (fun h => ?_) (fun h => ?_)
    · have : i = N := by omega
      rw [this]; exact hp
    · have h1 := ih (i + 1) (by omega) (by omega)
      rw [nI_clamp (show i < 2 ^ 31 by omega)]
      refine ⟨vp_in_nI (by omega) (by decide), ?_⟩
      by_cases z : fm i = 0
      · rw [mw_lme_z z] at h1
        exact br_t z (nm_r (nI_1 i) h1)
      · rw [mw_lme_s z] at h1
        exact br_f z (nm_r (nI_1 i) (nm_r (nI_1 i) h1))
theorem mw_yLME {N : Nat} (hN : N ≤ 32) {post : Int32 → Prop} (hp : post (nI (mw_lme fm N))) : wpY_lastMarkedEnd post (yp, yo, yr, yb, yf, yw, ys, yc, yt, ba, fp, fw, fm, ya, ym, sn) (nI N) := by
  unfold wpY_lastMarkedEnd
  exact ⟨33, mw_yLME_loop hN hp 33 0 (by omega) (by omega)⟩
theorem mw_yCW_loop {N b : Nat} (hN : N ≤ 32) {post : Int32 → Prop} (hp : post (nI (b + mw_cnt fm N))) :
    ∀ (n i : Nat), i ≤ N → N - i < n → wY_commitsWithin_7 post (nI N) yp yo yr yb yf yw ys yc yt ba fp fw fm ya ym sn n (nI (b + mw_cnt fm i)) (nI i) := by
  intro n
  induction n with
  | zero => intro i _ h; omega
  | succ n ih =>
    intro i hi hn
    rw [wY_commitsWithin_7]
    refine pk_le N i (fun h => ?_) (fun h => ?_)
    · have : i = N := by omega
      rw [this]; exact hp
    · have h1 := ih (i + 1) (by omega) (by omega)
      rw [nI_clamp (show i < 2 ^ 31 by omega)]
      refine ⟨vp_in_nI (by omega) (by decide), ?_⟩
      by_cases z : fm i = 0
      · rw [mw_cnt_z z] at h1
        exact br_t z (nm_r (nI_1 i) h1)
      · rw [mw_cnt_s z] at h1
        exact br_f z (nm_r (nI_1 (b + mw_cnt fm i)) (nm_r (nI_1 i) h1))
theorem mw_yCW {N b : Nat} (hN : N ≤ 32) {post : Int32 → Prop} (hp : post (nI (b + mw_cnt fm N))) : wpY_commitsWithin post (yp, yo, yr, nI b, yf, yw, ys, yc, yt, ba, fp, fw, fm, ya, ym, sn) (nI N) := by
  unfold wpY_commitsWithin
  exact ⟨33, mw_yCW_loop (b := b) hN hp 33 0 (by omega) (by omega)⟩
theorem mw_yImage_loop {N : Nat} {v q : Int32} (hN : N ≤ 32) {post : Int32 → Prop} (hp : post (mw_img v fp fw q N)) :
    ∀ (n i : Nat), i ≤ N → N - i < n → wY_image_10 post (nI N) q yp yo yr yb yf yw ys yc yt ba fp fw fm ya ym sn n (mw_img v fp fw q i) (nI i) := by
  intro n
  induction n with
  | zero => intro i _ h; omega
  | succ n ih =>
    intro i hi hn
    rw [wY_image_10]
    refine pk_le N i (fun h => ?_) (fun h => ?_)
    · have : i = N := by omega
      rw [this]; exact hp
    · have h1 := ih (i + 1) (by omega) (by omega)
      rw [nI_clamp (show i < 2 ^ 31 by omega)]
      refine ⟨vp_in_nI (by omega) (by decide), ?_⟩
      by_cases z : fp i = q
      · rw [mw_img, if_pos z] at h1
        exact br_t z ⟨vp_in_nI (by omega) (by decide), nm_e (nm_r (nI_1 i) h1)⟩
      · rw [mw_img, if_neg z] at h1
        exact br_f z (nm_r (nI_1 i) h1)
theorem mw_yImage {N p : Nat} (hN : N ≤ 32) (hp16 : p < 16) {post : Int32 → Prop} (hp : post (mw_img (ba p) fp fw (nI p) N)) : wpY_image post (yp, yo, yr, yb, yf, yw, ys, yc, yt, ba, fp, fw, fm, ya, ym, sn) (nI N) (nI p) := by
  unfold wpY_image
  rw [nI_clamp (show p < 2 ^ 31 by omega)]
  exact ⟨vp_in_nI hp16 (by decide), nm_e ⟨33, mw_yImage_loop hN hp 33 0 (by omega) (by omega)⟩⟩
theorem mw_yEnd_loop {F b k I : Nat} (hF : F ≤ 32) (hI : I < F) (hm : fm I ≠ 0) (hk : mw_cnt fm (I + 1) = k) (hb : b + k < 2 ^ 31) {post : Int32 → Prop} (hp : post (nI (I + 1))) :
    ∀ (n i : Nat), i ≤ I → I - i < n → wY_end_14 post (nI (b + k)) yp yo yr yb (nI F) yw ys yc yt ba fp fw fm ya ym sn n (nI (b + mw_cnt fm i)) (nI i) := by
  intro n
  induction n with
  | zero => intro i _ h; omega
  | succ n ih =>
    intro i hi hn
    rw [wY_end_14]
    refine pk_le F i (fun h => by omega) (fun h => ?_)
    rw [nI_clamp (show i < 2 ^ 31 by omega)]
    refine ⟨vp_in_nI (by omega) (by decide), ?_⟩
    by_cases e : i = I
    · subst e
      refine br_f hm (nm_r (nI_1 (b + mw_cnt fm i)) (br_t ?_ ?_))
      · rw [← hk, mw_cnt_s hm, Nat.add_assoc]
      · rw [nI_1]; exact hp
    · have h1 := ih (i + 1) (by omega) (by omega)
      by_cases z : fm i = 0
      · rw [mw_cnt_z z] at h1
        exact br_t z (nm_r (nI_1 i) h1)
      · rw [mw_cnt_s z] at h1
        have h2 := mw_cnt_mono (m := fm) (a := i + 1) I (by omega)
        rw [mw_cnt_s z] at h2
        rw [mw_cnt_s hm] at hk
        refine br_f z (nm_r (nI_1 (b + mw_cnt fm i)) (br_f ?_ (nm_r (nI_1 i) h1)))
        rw [nI_eq (by omega) (by omega)]
        omega
theorem mw_yEnd {F b k I : Nat} (hF : F ≤ 32) (hI : I < F) (hm : fm I ≠ 0) (hk : mw_cnt fm (I + 1) = k) (hb : b + k < 2 ^ 31) {post : Int32 → Prop} (hp : post (nI (I + 1))) : wpY_end post (yp, yo, yr, nI b, nI F, yw, ys, yc, yt, ba, fp, fw, fm, ya, ym, sn) (nI (b + k)) := by
  unfold wpY_end
  have h1 := mw_cnt_s hm
  refine br_f ?_ ⟨33, mw_yEnd_loop (b := b) hF hI hm hk hb hp 33 0 (by omega) (by omega)⟩
  rw [nI_eq (by omega) (by omega)]
  omega
theorem mw_yEnd0 {b : Nat} {post : Int32 → Prop} (hp : post 0) : wpY_end post (yp, yo, yr, nI b, yf, yw, ys, yc, yt, ba, fp, fw, fm, ya, ym, sn) (nI b) := by
  unfold wpY_end
  exact br_t rfl hp
/-- the mark that a new reader gets -/
def mw_mk (c C : Nat) : Int32 := if c = C then 0 else nI C
/-- the snapshot with reader r's pages below i written -/
def mw_SN (r i C : Nat) (ba fp fw sn s : Nat → Int32) : Prop := (∀ p, p < i → s (r * 16 + p) = mw_img (ba p) fp fw (nI p) C) ∧ ∀ j, (j < r * 16 ∨ r * 16 + 16 ≤ j) → s j = sn j
theorem mw_yBR_loop {P c C r : Nat} (hP : P ≤ 16) (hC : C ≤ 32) (hc : c ≤ 32) (hr : r < 8) {post : Int32 → SY → Prop} (hp : ∀ s, mw_SN r P C ba fp fw sn s → post (mw_mk c C) (nI P, yo, yr, yb, yf, yw, ys, nI c, yt, ba, fp, fw, fm, ya, upd ym r (mw_mk c C), s)) :
    ∀ (n i : Nat) (s : Nat → Int32), i ≤ P → P - i < n → mw_SN r i C ba fp fw sn s → wY_beginRead_44 post (nI r) (nI C) (nI P) yo yr yb yf yw ys (nI c) yt n (nI i) ba fp fw fm ya ym s := by
  intro n
  induction n with
  | zero => intro i _ _ h; omega
  | succ n ih =>
    intro i s hi hn h1
    have hin : vp_in (nI r) 8 := vp_in_nI hr (by decide)
    rw [wY_beginRead_44]
    refine pk_le P i (fun h => ?_) (fun h => ?_)
    · have : i = P := by omega
      subst this
      have h2 := hp s h1
      rw [nI_clamp (show r < 2 ^ 31 by omega)]
      refine pk_eq c C (fun e => ?_) (fun e => ?_)
      · refine ⟨hin, nm_e ⟨hin, ?_⟩⟩
        rw [pk_us]
        rw [mw_mk, if_pos e] at h2
        exact h2
      · refine ⟨hin, nm_e ⟨hin, ?_⟩⟩
        rw [pk_us]
        rw [mw_mk, if_neg e] at h2
        exact h2
    · refine mw_yImage hC (by omega) ?_
      have e : nI r * 16 + nI i = nI (r * 16 + i) := by
        rw [show nI r * 16 = nI (r * 16) from pk_mul r 16, nI_add]
      rw [e, nI_clamp (show r * 16 + i < 2 ^ 31 by omega)]
      refine ⟨vp_in_nI (by omega) (by decide), nm_e (nm_r (nI_1 i) (ih (i + 1) _ (by omega) (by omega) ⟨fun p hq => ?_, fun j hj => ?_⟩))⟩
      · by_cases z : p = i
        · subst z
          rw [pk_us]
        · rw [pk_un (by omega)]
          exact h1.1 p (by omega)
      · rw [pk_un (by omega)]
        exact h1.2 j hj
theorem mw_yBW_base {P F b C : Nat} (hP : P ≤ 16) (hF : F ≤ 32) (hC : C ≤ 32) {post : Int32 → SY → Prop} (hp : ∀ g, (∀ p, p < P → g p = mw_img (ba p) fp fw (nI p) C) → post 1 (nI P, yo, yr, nI (b + mw_cnt fm F), 0, yw, 0, 0, yt + 1, g, fp, fw, fm, ya, ym, sn)) :
    ∀ (n i : Nat) (g : Nat → Int32), i ≤ P → P - i < n → (∀ p, p < i → g p = mw_img (ba p) fp fw (nI p) C) → (∀ p, i ≤ p → g p = ba p) → wY_beginWrite_76 post (nI C) (nI P) yo yr (nI b) (nI F) yw ys yc yt n (nI i) g fp fw fm ya ym sn := by
  intro n
  induction n with
  | zero => intro i _ _ h; omega
  | succ n ih =>
    intro i g hi hn h1 h2
    rw [wY_beginWrite_76]
    refine pk_le P i (fun h => ?_) (fun h => ?_)
    · have : i = P := by omega
      subst this
      exact mw_yCW hF (nm_e (hp g h1))
    · refine mw_yImage hC (by omega) ?_
      rw [nI_clamp (show i < 2 ^ 31 by omega)]
      refine ⟨vp_in_nI (by omega) (by decide), nm_e (nm_r (nI_1 i) (ih (i + 1) _ (by omega) (by omega) (fun p hq => ?_) (fun p hq => ?_)))⟩
      · by_cases z : p = i
        · subst z
          rw [pk_us, h2 p (Nat.le_refl p)]
        · rw [pk_un z]; exact h1 p (by omega)
      · rw [pk_un (by omega)]; exact h2 p (by omega)
theorem mw_yBW_loop {R : Nat} {x : Int32} (hR : R ≤ 8) {post : Int32 → SY → Prop} (hy : mw_calm R ya ym → ∃ n76 : Nat, wY_beginWrite_76 post x yp yo (nI R) yb yf yw ys yc yt n76 0 ba fp fw fm ya ym sn) (hn : ¬ mw_calm R ya ym → post 0 (yp, yo, nI R, yb, yf, yw, ys, yc, yt, ba, fp, fw, fm, ya, ym, sn)) :
    ∀ (n i : Nat), i ≤ R → R - i < n → mw_calm i ya ym → wY_beginWrite_40 post x yp yo (nI R) yb yf yw ys yc yt ba fp fw fm ya ym sn n (nI i) := by
  intro n
  induction n with
  | zero => intro i _ h; omega
  | succ n ih =>
    intro i hi hn' hc
    rw [wY_beginWrite_40]
    refine pk_le R i (fun h => hy ?_) (fun h => ?_)
    · have : R = i := by omega
      rw [this]; exact hc
    · refine ⟨vp_in_nI (by omega) (by decide), ?_⟩
      rw [nI_clamp (show i < 2 ^ 31 by omega)]
      have go : (ya i = 0 ∨ ym i ≤ 0) → wY_beginWrite_40 post x yp yo (nI R) yb yf yw ys yc yt ba fp fw fm ya ym sn n (nI (i + 1)) := by
        intro h1
        refine ih (i + 1) (by omega) (by omega) (fun r hr => ?_)
        by_cases e : r = i
        · rw [e]; exact h1
        · exact hc r (by omega)
      by_cases z : ya i = 0
      · exact br_t z (nm_r (nI_1 i) (go (Or.inl z)))
      · refine br_f z ⟨vp_in_nI (by omega) (by decide), ?_⟩
        by_cases z2 : ym i ≤ 0
        · exact br_t z2 (nm_r (nI_1 i) (go (Or.inr z2)))
        · refine br_f z2 (hn (fun hall => ?_))
          rcases hall i h with w | w
          · exact z w
          · exact z2 w
theorem mw_yCP_loop {R : Nat} {x x1 : Int32} (hR : R ≤ 8) {post : Int32 → SY → Prop} (hp : ∀ n, wY_checkpoint_18 post x1 yp yo (nI R) yb yf yw ys yc yt ba fp fw fm ya ym sn (n + 1) (mw_lim ya ym R x) (nI R)) :
    ∀ (n i : Nat), i ≤ R → R - i < n → wY_checkpoint_18 post x1 yp yo (nI R) yb yf yw ys yc yt ba fp fw fm ya ym sn n (mw_lim ya ym i x) (nI i) := by
  intro n
  induction n with
  | zero => intro i _ h; omega
  | succ n ih =>
    intro i hi hn
    by_cases c : i = R
    · subst c
      exact hp n
    · have h1 := ih (i + 1) (by omega) (by omega)
      rw [wY_checkpoint_18]
      refine pk_le R i (fun h => by omega) (fun h => ?_)
      refine ⟨vp_in_nI (by omega) (by decide), ?_⟩
      rw [nI_clamp (show i < 2 ^ 31 by omega)]
      by_cases z : ya i = 0
      · rw [mw_lim, if_pos z] at h1
        exact br_t z (nm_r (nI_1 i) h1)
      · refine br_f z ⟨vp_in_nI (by omega) (by decide), ?_⟩
        by_cases z2 : mw_lim ya ym i x ≤ ym i
        · rw [mw_lim, if_neg z, if_pos z2] at h1
          exact br_t z2 (nm_r (nI_1 i) h1)
        · rw [mw_lim, if_neg z, if_neg z2] at h1
          exact br_f z2 ⟨vp_in_nI (by omega) (by decide), nm_e (nm_r (nI_1 i) h1)⟩
/-- s is the least lost frame from i on, or F -/
def mw_LS (x : Int32) (S F i s : Nat) : Prop := i ≤ s ∧ s ≤ F ∧ (∀ j, i ≤ j → j < s → j < S ∨ mw_sh x j = 1) ∧ (s < F → ¬ (s < S ∨ mw_sh x s = 1))
theorem mw_yCrash_loop {S F b : Nat} {x x3 : Int32} (hF : F ≤ 32) (hS : S ≤ 32) {post : Int32 → SY → Prop}
    (hp : ∀ s, mw_LS x S F 0 s → post (x3 - nI (b + mw_cnt fm (mw_lme fm s))) (yp, yo, yr, nI b, nI (mw_lme fm s), yw, nI (mw_lme fm s), 0, yt, ba, fp, fw, fm, ya, ym, sn)) :
    ∀ (i n s : Nat), i < n → mw_LS x S F i s → wY_crash_54 post x x3 yp yo yr (nI b) (nI F) yw (nI S) yc yt ba fp fw fm ya ym sn n (nI s) (nI i - 1) := by
  intro i
  induction i with
  | zero =>
    intro n s hn h
    obtain ⟨n, rfl⟩ : ∃ m, n = m + 1 := ⟨n - 1, by omega⟩
    rw [wY_crash_54]
    refine br_t (by decide) ?_
    have h2 := h.2.1
    have h3 := mw_lme_le fm s
    exact mw_yLME (by omega) (mw_yCW (by omega) (hp s h))
  | succ i ih =>
    intro n s hn h
    obtain ⟨n, rfl⟩ : ∃ m, n = m + 1 := ⟨n - 1, by omega⟩
    obtain ⟨h1, h2, h3, h4⟩ := h
    rw [wY_crash_54, nI_pred]
    have dec : nI i + (-1) = nI i - 1 := (Int32.sub_eq_add_neg _ _).symm
    refine br_f (nI_pos (by omega)) ?_
    have keep : (i < S ∨ mw_sh x i = 1) → wY_crash_78 post (wY_crash_54 post x x3 yp yo yr (nI b) (nI F) yw (nI S) yc yt ba fp fw fm ya ym sn n) x x3 (nI s) (nI i) yp yo yr (nI b) (nI F) yw (nI S) yc yt ba fp fw fm ya ym sn := by
      intro hi
      unfold wY_crash_78 wY_crash_83
      refine br_f (by decide) (nm_r dec (ih n s (by omega) ⟨by omega, h2, fun j a c => ?_, h4⟩))
      by_cases z : j = i
      · rw [z]; exact hi
      · exact h3 j (by omega) c
    refine pk_lt i S (fun c => keep (Or.inl c)) (fun c => ?_)
    by_cases z : mw_sh x i = 1
    · exact br_t z (keep (Or.inr z))
    · refine br_f z ?_
      unfold wY_crash_83
      refine br_t rfl (nm_r dec (ih n i (by omega) ⟨by omega, by omega, fun j a c => by omega, fun _ q => ?_⟩))
      rcases q with q | q
      · omega
      · exact z q
theorem mw_yOff_loop {R F S b : Nat} {x x3 : Int32} (hR : R ≤ 8) (hF : F ≤ 32) (hS : S ≤ 32) {post : Int32 → SY → Prop}
    (hp : ∀ s, mw_LS x S F 0 s → post (x3 - nI (b + mw_cnt fm (mw_lme fm s))) (yp, yo, nI R, nI b, nI (mw_lme fm s), 0, nI (mw_lme fm s), 0, yt, ba, fp, fw, fm, mw_off R ya, ym, sn)) :
    ∀ (n i : Nat), i ≤ R → R - i < n → wY_crash_12 post x x3 yp yo (nI R) (nI b) (nI F) yw (nI S) yc yt n (nI i) ba fp fw fm (mw_off i ya) ym sn := by
  intro n
  induction n with
  | zero => intro i _ h; omega
  | succ n ih =>
    intro i hi hn
    rw [wY_crash_12]
    refine pk_le R i (fun h => ?_) (fun h => ?_)
    · have : i = R := by omega
      subst this
      exact nm_e ⟨F + 1, mw_yCrash_loop hF hS hp F (F + 1) F (by omega) ⟨Nat.le_refl _, Nat.le_refl _, fun j a c => by omega, fun z => by omega⟩⟩
    · rw [nI_clamp (show i < 2 ^ 31 by omega), mw_off_s]
      exact ⟨vp_in_nI (by omega) (by decide), nm_e (nm_r (nI_1 i) (ih (i + 1) (by omega) (by omega)))⟩
end
end
section
/-! the relation, and that each call keeps it -/
def mw_G1 (k pc ca rc la mk fr cm sy cp bc rs : Nat) : Prop :=
  (2 ≤ pc ∧ pc ≤ 16 ∧ 8 ≤ ca ∧ ca ≤ 32 ∧ 1 ≤ rc ∧ rc ≤ 8) ∧ (fr ≤ ca ∧ cm ≤ fr ∧ sy ≤ fr ∧ cp ≤ cm ∧ mk ≤ fr) ∧ (bc + mk ≤ k ∧ rs ≤ k ∧ la ≤ k)
def mw_G2 (pc fr cm mk : Nat) (wr : Int32) (lp lv lm ea fp fw fm : Nat → Int32) : Prop :=
  (∀ j, j < fr → fp j = lp j ∧ fw j = lv j ∧ fm j = lm j ∧ ∃ p, p < pc ∧ lp j = nI p) ∧ (∀ j, lm j = 0 ∨ lm j = 1) ∧ cm = mw_lme lm fr ∧ mk = mw_cnt lm fr ∧ mw_EA lm fr ea ∧ (wr = 0 → fr = cm)
def mw_G3 (ca la fr sy : Nat) (hh : Int64) (lp lv lm : Nat → Int32) (li lq : Nat → Int64) (dp dw dm : Nat → Int32) (di dq : Nat → Int64) : Prop :=
  (∀ j, dm j = 0 ∨ dm j = 1) ∧ hh.toInt ≤ (la : Int) ∧ (∀ j, j < fr → (li j).toInt ≤ (la : Int) ∧ lq j = mw_pv hh li j) ∧
  (∀ j, j < sy → dp j = lp j ∧ dw j = lv j ∧ dm j = lm j ∧ di j = li j ∧ dq j = lq j) ∧
  (∃ w : Int, w ≤ (la : Int) ∧ (∀ j, (di j).toInt ≤ w ∧ (dq j).toInt ≤ w) ∧ ∀ j, sy ≤ j → j < fr → w < (li j).toInt) ∧
  (∀ i, sy ≤ i → i < ca → (∀ j, sy ≤ j → j ≤ i → dq j = mw_pv hh di j) → dm i = 0)
def mw_G4 (pc cp sy : Nat) (fv dv lp lv lm ba : Nat → Int32) : Prop :=
  ∃ h, cp ≤ h ∧ h ≤ mw_lme lm sy ∧ ∀ p, p < pc → ((∀ f, f < h → lp f ≠ nI p) → fv p = ba p ∧ dv p = ba p) ∧ mw_img (fv p) lp lv (nI p) cp = fv p
def mw_G5 (pc rc cm : Nat) (fv lp lv ac rm sn : Nat → Int32) : Prop :=
  ∀ r, r < rc → ac r ≠ 0 → ∃ m, m ≤ cm ∧ rm r = nI m ∧ ∀ p, p < pc → sn (r * 16 + p) = mw_img (fv p) lp lv (nI p) m
section
variable {k pc ca rc la mk fr cm sy cp bc rs : Nat} {wr : Int32} {hh : Int64}
variable {fv dv lp lv lm dp dw dm ix ea ac rm ba fp fw fm sn : Nat → Int32} {li lq di dq : Nat → Int64}
/-! append -/
theorem mw_G2_put {p : Nat} {v : Int32} (h : mw_G2 pc fr cm mk wr lp lv lm ea fp fw fm) (hp : p < pc) (hw : wr ≠ 0) :
    mw_G2 pc (fr + 1) cm mk wr (upd lp fr (nI p)) (upd lv fr v) (upd lm fr 0) ea (upd fp fr (nI p)) (upd fw fr v) (upd fm fr 0) := by
  obtain ⟨h1, h2, h3, h4, h5, h6⟩ := h
  have hc : ∀ j, j < fr → lm j = upd lm fr 0 j := fun j hj => (pk_un (by omega)).symm
  have hz : upd lm fr 0 fr = 0 := pk_us
  refine ⟨fun j hj => ?_, fun j => ?_, ?_, ?_, ?_, fun z => absurd z hw⟩
  · by_cases e : j = fr
    · subst e
      rw [pk_us, pk_us, pk_us, pk_us, pk_us, pk_us]
      exact ⟨rfl, rfl, rfl, p, hp, rfl⟩
    · rw [pk_un e, pk_un e, pk_un e, pk_un e, pk_un e, pk_un e]
      exact h1 j (by omega)
  · by_cases e : j = fr
    · subst e
      rw [pk_us]
      exact Or.inl rfl
    · rw [pk_un e]; exact h2 j
  · rw [mw_lme_z hz, ← mw_lme_congr fr hc]; exact h3
  · rw [mw_cnt_z hz, ← mw_cnt_congr fr hc]; exact h4
  · exact mw_EA_z (mw_EA_congr h5 hc) hz
theorem mw_G2_commit {p : Nat} {v : Int32} (h : mw_G2 pc fr cm mk wr lp lv lm ea fp fw fm) (hp : p < pc) :
    mw_G2 pc (fr + 1) (fr + 1) (mk + 1) 0 (upd lp fr (nI p)) (upd lv fr v) (upd lm fr 1) (upd ea (mk + 1) (nI (fr + 1))) (upd fp fr (nI p)) (upd fw fr v) (upd fm fr 1) := by
  obtain ⟨h1, h2, h3, h4, h5, h6⟩ := h
  have hc : ∀ j, j < fr → lm j = upd lm fr 1 j := fun j hj => (pk_un (by omega)).symm
  have hz : upd lm fr 1 fr ≠ 0 := by rw [pk_us]; decide
  refine ⟨fun j hj => ?_, fun j => ?_, ?_, ?_, ?_, fun _ => rfl⟩
  · by_cases e : j = fr
    · subst e
      rw [pk_us, pk_us, pk_us, pk_us, pk_us, pk_us]
      exact ⟨rfl, rfl, rfl, p, hp, rfl⟩
    · rw [pk_un e, pk_un e, pk_un e, pk_un e, pk_un e, pk_un e]
      exact h1 j (by omega)
  · by_cases e : j = fr
    · subst e
      rw [pk_us]
      exact Or.inr rfl
    · rw [pk_un e]; exact h2 j
  · rw [mw_lme_s hz]
  · rw [mw_cnt_s hz, ← mw_cnt_congr fr hc, ← h4]
  · have h7 := mw_EA_s (mw_EA_congr h5 hc) hz
    rw [← mw_cnt_congr fr hc, ← h4] at h7
    exact h7
theorem mw_G3_append {p v b : Int32} {x : Int64} (h : mw_G3 ca la fr sy hh lp lv lm li lq dp dw dm di dq) (hs : sy ≤ fr) (hx : x.toInt = (la : Int) + 1) :
    mw_G3 ca (la + 1) (fr + 1) sy hh (upd lp fr p) (upd lv fr v) (upd lm fr b) (vp_updL li fr x) (vp_updL lq fr (mw_pv hh li fr)) dp dw dm di dq := by
  obtain ⟨h1, h2, h3, h4, ⟨w, w1, w2, w3⟩, h5⟩ := h
  refine ⟨h1, by omega, fun j hj => ?_, fun j hj => ?_, ⟨w, by omega, w2, fun j a b => ?_⟩, h5⟩
  · have e1 : mw_pv hh (vp_updL li fr x) j = mw_pv hh li j := mw_pv_congr (fun i hi => pk_uLn (by omega))
    rw [e1]
    by_cases e : j = fr
    · subst e
      rw [pk_uLs, pk_uLs]
      exact ⟨by omega, rfl⟩
    · rw [pk_uLn e, pk_uLn e]
      have := h3 j (by omega)
      exact ⟨by omega, this.2⟩
  · rw [pk_un (by omega), pk_un (by omega), pk_un (by omega), pk_uLn (by omega), pk_uLn (by omega)]
    exact h4 j hj
  · by_cases e : j = fr
    · subst e
      rw [pk_uLs]
      omega
    · rw [pk_uLn e]
      exact w3 j a (by omega)
theorem mw_G4_congr {lp' lv' lm' : Nat → Int32} (h : mw_G4 pc cp sy fv dv lp lv lm ba) (e : ∀ j, j < sy → lp j = lp' j ∧ lv j = lv' j ∧ lm j = lm' j) : mw_G4 pc cp sy fv dv lp' lv' lm' ba := by
  obtain ⟨q, h1, h2, h3⟩ := h
  have hl := mw_lme_le lm sy
  refine ⟨q, h1, ?_, fun p hp => ⟨fun z => (h3 p hp).1 (fun f hf => ?_), ?_⟩⟩
  · rw [← mw_lme_congr sy (fun j hj => (e j hj).2.2)]; exact h2
  · rw [(e f (by omega)).1]; exact z f hf
  · rw [← mw_img_congr cp (fun j hj => ⟨(e j (by omega)).1, (e j (by omega)).2.1⟩)]; exact (h3 p hp).2
theorem mw_G5_congr {c : Nat} {lp' lv' : Nat → Int32} (h : mw_G5 pc rc cm fv lp lv ac rm sn) (hc : cm ≤ c) (e : ∀ j, j < cm → lp j = lp' j ∧ lv j = lv' j) : mw_G5 pc rc c fv lp' lv' ac rm sn := by
  intro r hr ha
  obtain ⟨m, h1, h2, h3⟩ := h r hr ha
  refine ⟨m, by omega, h2, fun p hp => ?_⟩
  rw [← mw_img_congr m (fun j hj => e j (by omega))]
  exact h3 p hp
/-! undo -/
theorem mw_G2_undo {f : Nat} {w : Int32} (h : mw_G2 pc fr cm mk wr lp lv lm ea fp fw fm) (h1 : cm ≤ f) (h2 : f ≤ fr) (hw : w = 0 → f = cm) : mw_G2 pc f cm mk w lp lv lm ea fp fw fm := by
  obtain ⟨a1, a2, a3, a4, a5, a6⟩ := h
  have hc := mw_lme_cut (m := lm) (a := f) (n := fr) (by omega) h2
  exact ⟨fun j hj => a1 j (by omega), a2, by rw [hc.1]; exact a3, by rw [hc.2]; exact a4, mw_EA_cut a5 h2, hw⟩
theorem mw_G3_undo {f s : Nat} (h : mw_G3 ca la fr sy hh lp lv lm li lq dp dw dm di dq) (hz : ∀ j, cm ≤ j → j < fr → lm j = 0) (h1 : cm ≤ f) (h2 : f ≤ fr) (hf : sy ≤ fr) (hs : (s = sy ∧ sy ≤ f) ∨ (s = f ∧ f < sy)) : mw_G3 ca la f s hh lp lv lm li lq dp dw dm di dq := by
  obtain ⟨a1, a2, a3, a4, ⟨w, w1, w2, w3⟩, a5⟩ := h
  refine ⟨a1, a2, fun j hj => a3 j (by omega), fun j hj => a4 j (by omega), ⟨w, w1, w2, fun j x y => w3 j (by omega) (by omega)⟩, fun i hi hc hl => ?_⟩
  by_cases c : i < sy
  · rw [(a4 i c).2.2.1]
    exact hz i (by omega) (by omega)
  · exact a5 i (by omega) hc (fun j x y => hl j (by omega) y)
theorem mw_G4_undo {f s : Nat} (h : mw_G4 pc cp sy fv dv lp lv lm ba) (hcm : cm = mw_lme lm fr) (h1 : cm ≤ f) (h2 : f ≤ fr) (hf : sy ≤ fr) (hs : (s = sy ∧ sy ≤ f) ∨ (s = f ∧ f < sy)) : mw_G4 pc cp s fv dv lp lv lm ba := by
  rcases hs with ⟨rfl, _⟩ | ⟨rfl, _⟩
  · exact h
  · obtain ⟨q, a1, a2, a3⟩ := h
    have hc := mw_lme_cut (m := lm) (a := s) (n := fr) (by omega) h2
    have hm := mw_lme_mono (m := lm) (a := sy) fr hf
    exact ⟨q, a1, by omega, a3⟩
/-! sync -/
theorem mw_pv_le {d : Nat → Int64} {j : Nat} {x : Int} (h1 : hh.toInt ≤ x) (h2 : ∀ i, i < j → (d i).toInt ≤ x) : (mw_pv hh d j).toInt ≤ x := by
  cases j with
  | zero => exact h1
  | succ j => exact h2 j (by omega)
theorem mw_G3_sync (hl : ∀ j, lm j = 0 ∨ lm j = 1) (h : mw_G3 ca la fr sy hh lp lv lm li lq dp dw dm di dq) (hs : sy ≤ fr) :
    mw_G3 ca la fr fr hh lp lv lm li lq (mw_mx mw_one sy fr lp dp) (mw_mx mw_one sy fr lv dw) (mw_mx mw_one sy fr lm dm) (mw_mx mw_one sy fr li di) (mw_mx mw_one sy fr lq dq) := by
  obtain ⟨a1, a2, a3, a4, ⟨w, w1, w2, w3⟩, a5⟩ := h
  refine ⟨fun j => ?_, a2, a3, fun j hj => ?_, ⟨la, Int.le_refl _, fun j => ?_, fun j x y => by omega⟩, fun i hi hc hk => ?_⟩
  · by_cases c : sy ≤ j ∧ j < fr
    · rw [mw_one_in c.1 c.2]; exact hl j
    · rw [mw_one_out c]; exact a1 j
  · by_cases c : sy ≤ j
    · rw [mw_one_in c hj, mw_one_in c hj, mw_one_in c hj, mw_one_in c hj, mw_one_in c hj]
      exact ⟨rfl, rfl, rfl, rfl, rfl⟩
    · rw [mw_one_out (by omega), mw_one_out (by omega), mw_one_out (by omega), mw_one_out (by omega), mw_one_out (by omega)]
      exact a4 j (by omega)
  · by_cases c : sy ≤ j ∧ j < fr
    · rw [mw_one_in c.1 c.2, mw_one_in c.1 c.2, (a3 j c.2).2]
      exact ⟨(a3 j c.2).1, mw_pv_le a2 (fun i hi => (a3 i (by omega)).1)⟩
    · rw [mw_one_out c, mw_one_out c]
      have := w2 j
      exact ⟨by omega, by omega⟩
  · by_cases c : sy = fr
    · subst c
      rw [mw_mx_nil] at hk ⊢
      rw [mw_mx_nil] at hk
      exact a5 i hi hc hk
    · exfalso
      have h1 := hk fr (Nat.le_refl _) hi
      obtain ⟨f, rfl⟩ : ∃ f, fr = f + 1 := ⟨fr - 1, by omega⟩
      have h2 : mw_mx mw_one sy (f + 1) li di f = li f := mw_one_in (by omega) (by omega)
      have h3 : mw_pv hh (mw_mx mw_one sy (f + 1) li di) (f + 1) = li f := h2
      rw [h3, mw_one_out (by omega)] at h1
      have h4 := w3 f (by omega) (by omega)
      have h5 := (w2 (f + 1)).2
      rw [h1] at h5
      omega
theorem mw_G4_sync (h : mw_G4 pc cp sy fv dv lp lv lm ba) (hs : sy ≤ fr) : mw_G4 pc cp fr fv dv lp lv lm ba := by
  obtain ⟨q, a1, a2, a3⟩ := h
  have := mw_lme_mono (m := lm) (a := sy) fr hs
  exact ⟨q, a1, by omega, a3⟩
/-! copying -/
theorem mw_G4_copy {E : Nat} {g : Nat → Int32} (h : mw_G4 pc cp sy fv dv lp lv lm ba) (hE : E ≤ mw_lme lm sy) (hJ : mw_J pc E lp lv fv g) : mw_G4 pc E sy g dv lp lv lm ba := by
  obtain ⟨q, a1, a2, a3⟩ := h
  by_cases c : q ≤ E
  · refine ⟨E, Nat.le_refl _, hE, fun p hp => ⟨fun z => ?_, (hJ p hp).1⟩⟩
    have h1 := (a3 p hp).1 (fun f hf => z f (by omega))
    rw [(hJ p hp).2 z]
    exact h1
  · refine ⟨q, by omega, a2, fun p hp => ⟨fun z => ?_, (hJ p hp).1⟩⟩
    have h1 := (a3 p hp).1 z
    rw [(hJ p hp).2 (fun f hf => z f (by omega))]
    exact h1
theorem mw_G5_copy {E : Nat} {g : Nat → Int32} (h : mw_G5 pc rc cm fv lp lv ac rm sn) (hm : ∀ r, r < rc → ac r ≠ 0 → ∀ m, m ≤ cm → rm r = nI m → E ≤ m) (hJ : mw_J pc E lp lv fv g) : mw_G5 pc rc cm g lp lv ac rm sn := by
  intro r hr ha
  obtain ⟨m, h1, h2, h3⟩ := h r hr ha
  refine ⟨m, h1, h2, fun p hp => ?_⟩
  rw [h3 p hp]
  have hEm := hm r hr ha m h1 h2
  exact mw_img_eq m (fun z => ((hJ p hp).2 (fun f hf => z f (by omega))).symm)
theorem mw_lim_nat {c : Nat} (hc : c ≤ 32) : ∀ R, (∀ r, r < R → ac r ≠ 0 → ∃ m, m ≤ c ∧ rm r = nI m) → ∃ L, L ≤ c ∧ mw_lim ac rm R (nI c) = nI L ∧ ∀ r, r < R → ac r ≠ 0 → ∀ m, m ≤ c → rm r = nI m → L ≤ m := by
  intro R
  induction R with
  | zero => intro _; exact ⟨c, Nat.le_refl _, rfl, fun r hr => absurd hr (by omega)⟩
  | succ R ih =>
    intro h
    obtain ⟨L, l1, l2, l3⟩ := ih (fun r hr => h r (by omega))
    by_cases z : ac R = 0
    · refine ⟨L, l1, by rw [mw_lim, if_pos z]; exact l2, fun r hr ha => ?_⟩
      have : r ≠ R := fun q => ha (q ▸ z)
      exact l3 r (by omega) ha
    · obtain ⟨m, m1, m2⟩ := h R (by omega) z
      by_cases q : L ≤ m
      · refine ⟨L, l1, ?_, fun r hr ha m' x y => ?_⟩
        · rw [mw_lim, if_neg z, l2, m2, if_pos (nI_le q (by omega))]
        · by_cases e : r = R
          · rw [e, m2] at y
            have := (nI_eq (by omega) (by omega)).mp y
            omega
          · exact l3 r (by omega) ha m' x y
      · refine ⟨m, m1, ?_, fun r hr ha m' x y => ?_⟩
        · rw [mw_lim, if_neg z, l2, m2, if_neg (nI_ge (by omega) (by omega))]
        · by_cases e : r = R
          · rw [e, m2] at y
            have := (nI_eq (by omega) (by omega)).mp y
            omega
          · have := l3 r (by omega) ha m' x y
            omega
/-! what the images say -/
theorem mw_G4_img {n p : Nat} (h : mw_G4 pc cp sy fv dv lp lv lm ba) (hp : p < pc) (hn : mw_lme lm sy ≤ n) : mw_img (fv p) lp lv (nI p) n = mw_img (ba p) lp lv (nI p) n := by
  obtain ⟨q, a1, a2, a3⟩ := h
  exact mw_img_eq n (fun z => ((a3 p hp).1 (fun f hf => z f (by omega))).1)
theorem mw_G4_all {p : Nat} (h : mw_G4 pc cp sy fv dv lp lv lm ba) (hp : p < pc) (hn : mw_lme lm sy ≤ cp) : mw_img (ba p) lp lv (nI p) cp = fv p := by
  rw [← mw_G4_img h hp hn]
  obtain ⟨q, a1, a2, a3⟩ := h
  exact (a3 p hp).2
/-! restart -/
theorem mw_G3_restart {x : Int64} (h : mw_G3 ca la fr sy hh lp lv lm li lq dp dw dm di dq) (hx : x.toInt = (la : Int) + 1) : mw_G3 ca (la + 1) 0 0 x lp lv lm li lq dp dw dm di dq := by
  obtain ⟨a1, a2, a3, a4, ⟨w, w1, w2, w3⟩, a5⟩ := h
  refine ⟨a1, by omega, fun j hj => absurd hj (by omega), fun j hj => absurd hj (by omega), ⟨w, by omega, w2, fun j x y => absurd y (by omega)⟩, fun i hi hc hk => ?_⟩
  exfalso
  have h1 : dq 0 = x := hk 0 (Nat.le_refl _) (Nat.zero_le _)
  have h2 := (w2 0).2
  rw [h1] at h2
  omega
theorem mw_G4_restart {dv' g : Nat → Int32} (h : mw_G4 pc cp sy fv dv lp lv lm ba) (hn : mw_lme lm sy ≤ cp) (hd : ∀ p, p < pc → dv' p = fv p) (hg : ∀ p, p < pc → g p = mw_img (ba p) lp lv (nI p) cp) : mw_G4 pc 0 0 fv dv' lp lv lm g := by
  refine ⟨0, Nat.le_refl _, Nat.zero_le _, fun p hp => ⟨fun _ => ?_, rfl⟩⟩
  rw [hd p hp, hg p hp, mw_G4_all h hp hn]
  exact ⟨rfl, rfl⟩
theorem mw_G5_restart (h : mw_G5 pc rc cm fv lp lv ac rm sn) (hc : mw_calm rc ac rm) (h32 : cm ≤ 32) : mw_G5 pc rc 0 fv lp lv ac rm sn := by
  intro r hr ha
  obtain ⟨m, h1, h2, h3⟩ := h r hr ha
  have hz : m = 0 := by
    rcases hc r hr with z | z
    · exact absurd z ha
    · rw [h2] at z
      apply Classical.byContradiction
      intro hne
      exact nI_nle (n := m) (by omega) (by omega) z
  subst hz
  exact ⟨0, Nat.le_refl _, h2, h3⟩
end
end
section
/-! the crash: which slots the chain reaches -/
section
variable {k pc ca rc la mk fr cm sy cp bc rs : Nat} {wr : Int32} {hh : Int64}
variable {fv dv lp lv lm dp dw dm ix ea ac rm ba fp fw fm sn : Nat → Int32} {li lq di dq : Nat → Int64}
theorem mw_sh_01 (x : Int32) (i : Nat) : mw_sh x i = 0 ∨ mw_sh x i = 1 := by
  have h := pk_and ((x.toUInt32 >>> ((nI i).toUInt32 &&& Int32.toUInt32 31)).toInt32) (m := 1) 1 (by decide)
  generalize hq : ((x.toUInt32 >>> ((nI i).toUInt32 &&& Int32.toUInt32 31)).toInt32).toBitVec.toNat = q at h
  have e : mw_sh x i = nI (q % 2 ^ 1) := h
  have h2 : q % 2 ^ 1 = 0 ∨ q % 2 ^ 1 = 1 := by omega
  rcases h2 with h2 | h2
  · left; rw [e, h2]; rfl
  · right; rw [e, h2]; rfl
/-- what the mask leaves on disk, seen from the least lost frame s -/
theorem mw_cr_s {x : Int32} {s : Nat} (hs : sy ≤ fr) (h : mw_LS x sy fr 0 s) : sy ≤ s := by
  apply Classical.byContradiction
  intro c
  exact h.2.2.2 (by omega) (Or.inl (by omega))
theorem mw_cr_in {α : Type} {a b : Nat → α} {x : Int32} {s j : Nat} (h : mw_LS x sy fr 0 s) (hj : j < s) (he : j < sy → b j = a j) : mw_mx (mw_sh x) sy fr a b j = a j := by
  have h1 := h.2.1
  by_cases c : j < sy
  · rw [mw_mx_out (fun z => by omega)]; exact he c
  · rcases h.2.2.1 j (by omega) hj with z | z
    · omega
    · exact mw_mx_in ⟨by omega, by omega, by rw [z]; decide⟩
/-- slot s itself is not written -/
theorem mw_cr_at {α : Type} {a b : Nat → α} {x : Int32} {s : Nat} (h : mw_LS x sy fr 0 s) : mw_mx (mw_sh x) sy fr a b s = b s := by
  refine mw_mx_out (fun z => ?_)
  rcases mw_sh_01 x s with q | q
  · exact z.2.2 q
  · exact h.2.2.2 z.2.1 (Or.inr q)
theorem mw_cr_link {x : Int32} {s : Nat} (h3 : mw_G3 ca la fr sy hh lp lv lm li lq dp dw dm di dq) (h : mw_LS x sy fr 0 s) :
    ∀ j, j < s → mw_mx (mw_sh x) sy fr lq dq j = mw_pv hh (mw_mx (mw_sh x) sy fr li di) j := by
  obtain ⟨a1, a2, a3, a4, a6, a5⟩ := h3
  intro j hj
  have h1 := h.2.1
  rw [mw_cr_in h hj (fun q => (a4 j q).2.2.2.2), (a3 j (by omega)).2]
  exact mw_pv_congr (fun i hi => (mw_cr_in h (by omega) (fun q => (a4 i q).2.2.2.1)).symm)
/-- where the chain goes on at s or beyond, it goes over slots that the crash has not written, and s is the first unsynced frame -/
theorem mw_cr_old {x : Int32} {s i : Nat} (h3 : mw_G3 ca la fr sy hh lp lv lm li lq dp dw dm di dq) (hs : sy ≤ fr) (h : mw_LS x sy fr 0 s) (hi : s ≤ i)
    (hk : ∀ j, s ≤ j → j ≤ i → mw_mx (mw_sh x) sy fr lq dq j = mw_pv hh (mw_mx (mw_sh x) sy fr li di) j) :
    s = sy ∧ ∀ d, s + d ≤ i → ¬ (sy ≤ s + d ∧ s + d < fr ∧ mw_sh x (s + d) ≠ 0) := by
  obtain ⟨a1, a2, a3, a4, ⟨w, w1, w2, w3⟩, a5⟩ := h3
  have hsy := mw_cr_s hs h
  have hsf := h.2.1
  have e0 : s = sy := by
    apply Classical.byContradiction
    intro c
    obtain ⟨t, rfl⟩ : ∃ t, s = t + 1 := ⟨s - 1, by omega⟩
    have h1 := hk (t + 1) (Nat.le_refl _) hi
    have h2 : mw_pv hh (mw_mx (mw_sh x) sy fr li di) (t + 1) = li t := mw_cr_in h (by omega) (fun q => absurd q (by omega))
    rw [h2, mw_cr_at h] at h1
    have h4 := w3 t (by omega) (by omega)
    have h5 := (w2 (t + 1)).2
    rw [h1] at h5
    omega
  refine ⟨e0, fun d => ?_⟩
  induction d with
  | zero =>
    intro _ z
    rcases mw_sh_01 x s with q | q
    · exact z.2.2 q
    · exact h.2.2.2 z.2.1 (Or.inr q)
  | succ d ih =>
    intro hd z
    have h0 := ih (by omega)
    have z : sy ≤ s + d + 1 ∧ s + d + 1 < fr ∧ mw_sh x (s + d + 1) ≠ 0 := z
    have h1 := hk (s + d + 1) (by omega) hd
    have h2 : mw_pv hh (mw_mx (mw_sh x) sy fr li di) (s + d + 1) = di (s + d) := mw_mx_out h0
    have h4 : mw_pv hh li (s + d + 1) = li (s + d) := rfl
    rw [h2, mw_mx_in z, (a3 (s + d + 1) z.2.1).2, h4] at h1
    have h5 := w3 (s + d) (by omega) (by omega)
    have h6 := (w2 (s + d)).1
    rw [← h1] at h6
    omega
theorem mw_cr_stale {x : Int32} {s : Nat} (h3 : mw_G3 ca la fr sy hh lp lv lm li lq dp dw dm di dq) (hs : sy ≤ fr) (h : mw_LS x sy fr 0 s) :
    ∀ i, s ≤ i → i < ca → (∀ j, s ≤ j → j ≤ i → mw_mx (mw_sh x) sy fr lq dq j = mw_pv hh (mw_mx (mw_sh x) sy fr li di) j) → mw_mx (mw_sh x) sy fr lm dm i = 0 := by
  intro i hi hc hk
  obtain ⟨e0, ho⟩ := mw_cr_old h3 hs h hi hk
  have hout : ∀ j, s ≤ j → j ≤ i → ¬ (sy ≤ j ∧ j < fr ∧ mw_sh x j ≠ 0) := by
    intro j h1 h2
    have h4 := ho (j - s) (by omega)
    rw [show s + (j - s) = j by omega] at h4
    exact h4
  rw [mw_mx_out (hout i hi (Nat.le_refl _))]
  obtain ⟨a1, a2, a3, a4, a6, a5⟩ := h3
  refine a5 i (by omega) hc (fun j h1 h2 => ?_)
  have h4 := hk j (by omega) h2
  rw [mw_mx_out (hout j (by omega) h2)] at h4
  rw [h4]
  cases j with
  | zero => rfl
  | succ j =>
    show mw_mx (mw_sh x) sy fr li di j = di j
    by_cases c : j < s
    · exact mw_mx_out (fun z => by omega)
    · exact mw_mx_out (hout j (by omega) (by omega))
theorem mw_cr_01 {x : Int32} (h1 : ∀ j, lm j = 0 ∨ lm j = 1) (h2 : ∀ j, dm j = 0 ∨ dm j = 1) : ∀ j, mw_mx (mw_sh x) sy fr lm dm j = 0 ∨ mw_mx (mw_sh x) sy fr lm dm j = 1 := by
  intro j
  by_cases c : sy ≤ j ∧ j < fr ∧ mw_sh x j ≠ 0
  · rw [mw_mx_in c]; exact h1 j
  · rw [mw_mx_out c]; exact h2 j
/-- a log read back from disk -/
theorem mw_rb {α : Type} {a b : Nat → α} {j : Nat} (h : j < ca) : mw_mx mw_one 0 ca a b j = a j := mw_one_in (Nat.zero_le _) h
/-- the crash's end state -/
theorem mw_cr_G2 {x : Int32} {s E : Nat} {e : Nat → Int32} (h2 : mw_G2 pc fr cm mk wr lp lv lm ea fp fw fm) (h3 : mw_G3 ca la fr sy hh lp lv lm li lq dp dw dm di dq) (hf : fr ≤ ca) (h : mw_LS x sy fr 0 s)
    (hE : E = mw_lme (mw_mx (mw_sh x) sy fr lm dm) s) (he : mw_EA (mw_mx (mw_sh x) sy fr lm dm) s e) :
    mw_G2 pc E E (mw_cnt (mw_mx (mw_sh x) sy fr lm dm) s) 0 (mw_mx mw_one 0 ca (mw_mx (mw_sh x) sy fr lp dp) lp) (mw_mx mw_one 0 ca (mw_mx (mw_sh x) sy fr lv dw) lv) (mw_mx mw_one 0 ca (mw_mx (mw_sh x) sy fr lm dm) lm) e fp fw fm := by
  obtain ⟨b1, b2, b3, b4, b5, b6⟩ := h2
  obtain ⟨a1, a2, a3, a4, a6, a5⟩ := h3
  have hsf := h.2.1
  have hEs : E ≤ s := by rw [hE]; exact mw_lme_le _ s
  have hc : ∀ j, j < E → mw_mx (mw_sh x) sy fr lm dm j = mw_mx mw_one 0 ca (mw_mx (mw_sh x) sy fr lm dm) lm j := fun j hj => (mw_rb (by omega)).symm
  have hcut := mw_lme_cut (m := mw_mx (mw_sh x) sy fr lm dm) (a := E) (n := s) (by omega) hEs
  refine ⟨fun j hj => ?_, fun j => ?_, ?_, ?_, ?_, fun _ => rfl⟩
  · rw [mw_rb (by omega), mw_rb (by omega), mw_rb (by omega)]
    rw [mw_cr_in h (by omega) (fun q => (a4 j q).1), mw_cr_in h (by omega) (fun q => (a4 j q).2.1), mw_cr_in h (by omega) (fun q => (a4 j q).2.2.1)]
    exact b1 j (by omega)
  · by_cases c : 0 ≤ j ∧ j < ca
    · rw [mw_one_in c.1 c.2]; exact mw_cr_01 b2 a1 j
    · rw [mw_one_out c]; exact b2 j
  · rw [← mw_lme_congr E hc, hcut.1]; exact hE
  · rw [← mw_cnt_congr E hc, hcut.2]
  · exact mw_EA_congr (mw_EA_cut he hEs) hc
theorem mw_cr_G3 {x : Int32} {s E : Nat} (hl : ∀ j, lm j = 0 ∨ lm j = 1) (h3 : mw_G3 ca la fr sy hh lp lv lm li lq dp dw dm di dq) (hs : sy ≤ fr) (hf : fr ≤ ca) (h : mw_LS x sy fr 0 s)
    (hE : E = mw_lme (mw_mx (mw_sh x) sy fr lm dm) s) :
    mw_G3 ca la E E hh (mw_mx mw_one 0 ca (mw_mx (mw_sh x) sy fr lp dp) lp) (mw_mx mw_one 0 ca (mw_mx (mw_sh x) sy fr lv dw) lv) (mw_mx mw_one 0 ca (mw_mx (mw_sh x) sy fr lm dm) lm) (mw_mx mw_one 0 ca (mw_mx (mw_sh x) sy fr li di) li) (mw_mx mw_one 0 ca (mw_mx (mw_sh x) sy fr lq dq) lq)
      (mw_mx (mw_sh x) sy fr lp dp) (mw_mx (mw_sh x) sy fr lv dw) (mw_mx (mw_sh x) sy fr lm dm) (mw_mx (mw_sh x) sy fr li di) (mw_mx (mw_sh x) sy fr lq dq) := by
  have hlink := mw_cr_link h3 h
  have hst := mw_cr_stale h3 hs h
  obtain ⟨a1, a2, a3, a4, ⟨w, w1, w2, w3⟩, a5⟩ := h3
  have hsf := h.2.1
  have hEs : E ≤ s := by rw [hE]; exact mw_lme_le _ s
  refine ⟨mw_cr_01 hl a1, a2, fun j hj => ?_, fun j hj => ?_, ⟨la, Int.le_refl _, fun j => ?_, fun j q y => absurd y (by omega)⟩, fun i hi hc hk => ?_⟩
  · rw [mw_rb (by omega), mw_rb (by omega)]
    refine ⟨?_, ?_⟩
    · rw [mw_cr_in h (by omega) (fun q => (a4 j q).2.2.2.1)]; exact (a3 j (by omega)).1
    · rw [hlink j (by omega)]
      exact mw_pv_congr (fun i hi => (mw_rb (by omega)).symm)
  · rw [mw_rb (by omega), mw_rb (by omega), mw_rb (by omega), mw_rb (by omega), mw_rb (by omega)]
    exact ⟨rfl, rfl, rfl, rfl, rfl⟩
  · by_cases c : sy ≤ j ∧ j < fr ∧ mw_sh x j ≠ 0
    · rw [mw_mx_in c, mw_mx_in c, (a3 j c.2.1).2]
      exact ⟨(a3 j c.2.1).1, mw_pv_le a2 (fun i hi => (a3 i (by omega)).1)⟩
    · rw [mw_mx_out c, mw_mx_out c]
      have := w2 j
      exact ⟨by omega, by omega⟩
  · by_cases c : i < s
    · exact mw_lme_zero s i (by omega) c
    · exact hst i (by omega) hc (fun j q y => hk j (by omega) y)
theorem mw_cr_lm {x : Int32} {s : Nat} (h3 : mw_G3 ca la fr sy hh lp lv lm li lq dp dw dm di dq) (h : mw_LS x sy fr 0 s) : mw_lme (mw_mx (mw_sh x) sy fr lm dm) s = mw_lme lm s ∧ mw_cnt (mw_mx (mw_sh x) sy fr lm dm) s = mw_cnt lm s := by
  obtain ⟨a1, a2, a3, a4, a6, a5⟩ := h3
  have hc : ∀ j, j < s → mw_mx (mw_sh x) sy fr lm dm j = lm j := fun j hj => mw_cr_in h hj (fun q => (a4 j q).2.2.1)
  exact ⟨mw_lme_congr s hc, mw_cnt_congr s hc⟩
theorem mw_cr_G4 {x : Int32} {s E : Nat} {g d : Nat → Int32} (h4 : mw_G4 pc cp sy fv dv lp lv lm ba) (h3 : mw_G3 ca la fr sy hh lp lv lm li lq dp dw dm di dq) (hs : sy ≤ fr) (hf : fr ≤ ca) (h : mw_LS x sy fr 0 s)
    (hE : E = mw_lme (mw_mx (mw_sh x) sy fr lm dm) s) (hF : mw_CF pc fv dv g d) :
    mw_G4 pc 0 E g d (mw_mx mw_one 0 ca (mw_mx (mw_sh x) sy fr lp dp) lp) (mw_mx mw_one 0 ca (mw_mx (mw_sh x) sy fr lv dw) lv) (mw_mx mw_one 0 ca (mw_mx (mw_sh x) sy fr lm dm) lm) ba := by
  have e1 := (mw_cr_lm h3 h).1
  have hsy := mw_cr_s hs h
  obtain ⟨a1, a2, a3, a4, a6, a5⟩ := h3
  obtain ⟨q, c1, c2, c3⟩ := h4
  have hsf := h.2.1
  have hEs : E ≤ s := by rw [hE]; exact mw_lme_le _ s
  have hmono := mw_lme_mono (m := lm) (a := sy) s hsy
  have hc : ∀ j, j < E → mw_mx (mw_sh x) sy fr lm dm j = mw_mx mw_one 0 ca (mw_mx (mw_sh x) sy fr lm dm) lm j := fun j hj => (mw_rb (by omega)).symm
  have hcut := mw_lme_cut (m := mw_mx (mw_sh x) sy fr lm dm) (a := E) (n := s) (by omega) hEs
  refine ⟨q, Nat.zero_le _, ?_, fun p hp => ⟨fun z => ?_, rfl⟩⟩
  · rw [← mw_lme_congr E hc, hcut.1]; omega
  · have h5 := (c3 p hp).1 (fun f hff => by
      have h6 := z f hff
      rw [mw_rb (by omega), mw_cr_in h (by omega) (fun q => (a4 f q).1)] at h6
      exact h6)
    obtain ⟨g1, g2⟩ := hF p hp
    refine ⟨?_, ?_⟩
    · rcases g1 with g1 | g1
      · rw [g1]; exact h5.1
      · rw [g1]; exact h5.2
    · rcases g2 with g2 | g2
      · rw [g2]; exact h5.1
      · rw [g2]; exact h5.2
theorem mw_cr_G5 {E : Nat} {g lp' lv' : Nat → Int32} : mw_G5 pc rc E g lp' lv' (mw_off rc ac) rm sn := by
  intro r hr ha
  exact absurd (show mw_off rc ac r = 0 from if_pos hr) ha
end
end
section
/-- the relation at the head of a turn whose first cell is k -/
def i_Rel (k : Nat) (u : SX) (v : SY) : Prop :=
  ∃ (pc ca rc la mk fr cm sy cp bc rs : Nat) (hh : Int64) (wr : Int32) (fv dv lp lv lm : Nat → Int32) (li lq : Nat → Int64) (dp dw dm : Nat → Int32) (di dq : Nat → Int64) (ix ea ac rm ba fp fw fm sn : Nat → Int32),
    u = (nI pc, nI ca, nI rc, hh, lN la, nI mk, nI fr, nI cm, nI sy, nI cp, nI bc, nI rs, wr, fv, dv, lp, lv, lm, li, lq, dp, dw, dm, di, dq, ix, ea, ac, rm) ∧ v = (nI pc, nI ca, nI rc, nI bc, nI fr, wr, nI sy, nI cp, nI rs, ba, fp, fw, fm, ac, rm, sn) ∧ mw_G1 k pc ca rc la mk fr cm sy cp bc rs ∧ mw_G2 pc fr cm mk wr lp lv lm ea fp fw fm ∧ mw_G3 ca la fr sy hh lp lv lm li lq dp dw dm di dq ∧ mw_G4 pc cp sy fv dv lp lv lm ba ∧ mw_G5 pc rc cm fv lp lv ac rm sn ∧ mw_IX fr lp ix
theorem mw_el {k : Nat} {u : SX} {v : SY} {Q : SX → SY → Prop} (I : i_Rel k u v)
    (h : ∀ (pc ca rc la mk fr cm sy cp bc rs : Nat) (hh : Int64) (wr : Int32) (fv dv lp lv lm : Nat → Int32) (li lq : Nat → Int64) (dp dw dm : Nat → Int32) (di dq : Nat → Int64) (ix ea ac rm ba fp fw fm sn : Nat → Int32),
      mw_G1 k pc ca rc la mk fr cm sy cp bc rs → mw_G2 pc fr cm mk wr lp lv lm ea fp fw fm → mw_G3 ca la fr sy hh lp lv lm li lq dp dw dm di dq → mw_G4 pc cp sy fv dv lp lv lm ba → mw_G5 pc rc cm fv lp lv ac rm sn → mw_IX fr lp ix → Q (nI pc, nI ca, nI rc, hh, lN la, nI mk, nI fr, nI cm, nI sy, nI cp, nI bc, nI rs, wr, fv, dv, lp, lv, lm, li, lq, dp, dw, dm, di, dq, ix, ea, ac, rm) (nI pc, nI ca, nI rc, nI bc, nI fr, wr, nI sy, nI cp, nI rs, ba, fp, fw, fm, ac, rm, sn)) : Q u v :=
  I.elim fun pc I => I.elim fun ca I => I.elim fun rc I => I.elim fun la I => I.elim fun mk I => I.elim fun fr I => I.elim fun cm I => I.elim fun sy I => I.elim fun cp I => I.elim fun bc I => I.elim fun rs I => I.elim fun hh I => I.elim fun wr I =>
  I.elim fun fv I => I.elim fun dv I => I.elim fun lp I => I.elim fun lv I => I.elim fun lm I => I.elim fun li I => I.elim fun lq I => I.elim fun dp I => I.elim fun dw I => I.elim fun dm I => I.elim fun di I => I.elim fun dq I => I.elim fun ix I => I.elim fun ea I => I.elim fun ac I => I.elim fun rm I =>
  I.elim fun ba I => I.elim fun fp I => I.elim fun fw I => I.elim fun fm I => I.elim fun sn I =>
  I.1.symm ▸ I.2.1.symm ▸ h pc ca rc la mk fr cm sy cp bc rs hh wr fv dv lp lv lm li lq dp dw dm di dq ix ea ac rm ba fp fw fm sn I.2.2.1 I.2.2.2.1 I.2.2.2.2.1 I.2.2.2.2.2.1 I.2.2.2.2.2.2.1 I.2.2.2.2.2.2.2
section
variable {k pc ca rc la mk fr cm sy cp bc rs : Nat} {wr : Int32} {hh : Int64}
variable {fv dv lp lv lm dp dw dm ix ea ac rm ba fp fw fm sn : Nat → Int32} {li lq di dq : Nat → Int64}
theorem mw_in (h1 : mw_G1 k pc ca rc la mk fr cm sy cp bc rs) (h2 : mw_G2 pc fr cm mk wr lp lv lm ea fp fw fm) (h3 : mw_G3 ca la fr sy hh lp lv lm li lq dp dw dm di dq) (h4 : mw_G4 pc cp sy fv dv lp lv lm ba) (h5 : mw_G5 pc rc cm fv lp lv ac rm sn) (h6 : mw_IX fr lp ix) : i_Rel k (nI pc, nI ca, nI rc, hh, lN la, nI mk, nI fr, nI cm, nI sy, nI cp, nI bc, nI rs, wr, fv, dv, lp, lv, lm, li, lq, dp, dw, dm, di, dq, ix, ea, ac, rm) (nI pc, nI ca, nI rc, nI bc, nI fr, wr, nI sy, nI cp, nI rs, ba, fp, fw, fm, ac, rm, sn) :=
  ⟨pc, ca, rc, la, mk, fr, cm, sy, cp, bc, rs, hh, wr, fv, dv, lp, lv, lm, li, lq, dp, dw, dm, di, dq, ix, ea, ac, rm, ba, fp, fw, fm, sn, rfl, rfl, h1, h2, h3, h4, h5, h6⟩
theorem mw_G1_up (h : mw_G1 k pc ca rc la mk fr cm sy cp bc rs) : mw_G1 (k + 3) pc ca rc la mk fr cm sy cp bc rs := by
  obtain ⟨a, b, c⟩ := h
  exact ⟨a, b, by omega, by omega, by omega⟩
end
theorem i_up {k : Nat} {u : SX} {v : SY} (h : i_Rel k u v) : i_Rel (k + 3) u v := by
  refine mw_el (Q := fun u v => i_Rel (k + 3) u v) h ?_
  intro pc ca rc la mk fr cm sy cp bc rs hh wr fv dv lp lv lm li lq dp dw dm di dq ix ea ac rm ba fp fw fm sn h1 h2 h3 h4 h5 h6
  exact mw_in (mw_G1_up h1) h2 h3 h4 h5 h6
/-! the constructors -/
def mw_cl (x lo hi : Int32) : Int32 := if lo ≤ x then (if x ≤ hi then x else hi) else lo
theorem mw_cl_nat (x : Int32) (lo hi : Nat) (h : lo ≤ hi) (hh : hi < 2 ^ 31) : ∃ n, lo ≤ n ∧ n ≤ hi ∧ mw_cl x (nI lo) (nI hi) = nI n := by
  unfold mw_cl
  by_cases c : nI lo ≤ x
  · rw [if_pos c]
    by_cases d : x ≤ nI hi
    · rw [if_pos d]
      have h0 : ¬ x < 0 := by
        rw [Int32.le_iff_toInt_le, nI_toInt (by omega)] at c
        rw [Int32.lt_iff_toInt_lt, show (0 : Int32).toInt = 0 from by decide]
        omega
      obtain ⟨j, hj, rfl⟩ := nI_of h0
      rw [nI_leI (by omega) (by omega)] at c d
      exact ⟨j, c, d, rfl⟩
    · rw [if_neg d]
      exact ⟨hi, h, Nat.le_refl _, rfl⟩
  · rw [if_neg c]
    exact ⟨lo, Nat.le_refl _, h, rfl⟩
theorem mw_clamp {u : SX} {x lo hi : Int32} {post : Int32 → Prop} (hp : post (mw_cl x lo hi)) : wpX_clamp post u x lo hi := by
  obtain ⟨a1, a2, a3, a4, a5, a6, a7, a8, a9, b1, b2, b3, b4, b5, b6, b7, b8, b9, c1, c2, c3, c4, c5, c6, c7, c8, c9, d1, d2⟩ := u
  unfold wpX_clamp
  unfold mw_cl at hp
  by_cases c : lo ≤ x
  · rw [if_pos c] at hp
    refine br_t c ?_
    by_cases d : x ≤ hi
    · rw [if_pos d] at hp
      exact br_t d hp
    · rw [if_neg d] at hp
      exact br_f d hp
  · rw [if_neg c] at hp
    exact br_f c hp
section
variable {yp yo yr yb yf yw ys yc yt : Int32}
variable {ba fp fw fm ya ym sn : Nat → Int32}

theorem mw_yInit3 {post : SY → Prop} {x z : Int32} (hp : post (yp, z, mw_cl x 1 8, yb, yf, yw, ys, yc, yt, ba, fp, fw, fm, ya, ym, sn)) : wY_init_110 post x z yp yo yr yb yf yw ys yc yt ba fp fw fm ya ym sn := by
  unfold wY_init_110
  unfold mw_cl at hp
  by_cases c : 1 ≤ x
  · rw [if_pos c] at hp
    refine br_t c ?_
    by_cases d : x ≤ 8
    · rw [if_pos d] at hp
      exact br_t d hp
    · rw [if_neg d] at hp
      exact br_f d hp
  · rw [if_neg c] at hp
    exact br_f c hp
end
section
variable {yp yo yr yb yf yw ys yc yt : Int32}
variable {ba fp fw fm ya ym sn : Nat → Int32}

theorem mw_yInit2 {post : SY → Prop} {x x3 z : Int32} (hp : post (z, mw_cl x 8 32, mw_cl x3 1 8, yb, yf, yw, ys, yc, yt, ba, fp, fw, fm, ya, ym, sn)) : wY_init_83 post x x3 z yp yo yr yb yf yw ys yc yt ba fp fw fm ya ym sn := by
  unfold wY_init_83
  have h : ∀ q, q = mw_cl x 8 32 → wY_init_110 post x3 q z yo yr yb yf yw ys yc yt ba fp fw fm ya ym sn := by
    intro q hq
    refine mw_yInit3 ?_
    rw [hq]
    exact hp
  unfold mw_cl at h
  by_cases c : 8 ≤ x
  · rw [if_pos c] at h
    refine br_t c ?_
    by_cases d : x ≤ 32
    · rw [if_pos d] at h
      exact br_t d (h _ rfl)
    · rw [if_neg d] at h
      exact br_f d (h _ rfl)
  · rw [if_neg c] at h
    exact br_f c (h _ rfl)
theorem mw_yInit {post : SY → Prop} {p0 p1 p2 : Int32} (hp : post (mw_cl p0 2 16, mw_cl p1 8 32, mw_cl p2 1 8, 0, 0, 0, 0, 0, 0, fun _ => 0, fun _ => 0, fun _ => 0, fun _ => 0, fun _ => 0, fun _ => 0, fun _ => 0)) : wpY_init post p0 p1 p2 := by
  unfold wpY_init
  have h : ∀ q, q = mw_cl p0 2 16 → wY_init_83 post p1 p2 q 0 0 0 0 0 0 0 0 0 (fun _ => 0) (fun _ => 0) (fun _ => 0) (fun _ => 0) (fun _ => 0) (fun _ => 0) (fun _ => 0) := by
    intro q hq
    refine mw_yInit2 ?_
    rw [hq]
    exact hp
  unfold mw_cl at h
  by_cases c : 2 ≤ p0
  · rw [if_pos c] at h
    refine br_t c ?_
    by_cases d : p0 ≤ 16
    · rw [if_pos d] at h
      exact br_t d (h _ rfl)
    · rw [if_neg d] at h
      exact br_f d (h _ rfl)
  · rw [if_neg c] at h
    exact br_f c (h _ rfl)
end
theorem mw_zero {P C R : Nat} (hP : 2 ≤ P ∧ P ≤ 16) (hC : 8 ≤ C ∧ C ≤ 32) (hR : 1 ≤ R ∧ R ≤ 8) : i_Rel 3 (nI P, nI C, nI R, 1, lN 1, nI 0, nI 0, nI 0, nI 0, nI 0, nI 0, nI 0, 0, fun _ => 0, fun _ => 0, fun _ => 0, fun _ => 0, fun _ => 0, fun _ => 0, fun _ => 0, fun _ => 0, fun _ => 0, fun _ => 0, fun _ => 0, fun _ => 0, fun _ => 0, fun _ => 0, fun _ => 0, fun _ => 0)
    (nI P, nI C, nI R, nI 0, nI 0, 0, nI 0, nI 0, nI 0, fun _ => 0, fun _ => 0, fun _ => 0, fun _ => 0, fun _ => 0, fun _ => 0, fun _ => 0) := by
  refine mw_in ⟨⟨hP.1, hP.2, hC.1, hC.2, hR.1, hR.2⟩, ⟨by omega, by omega, by omega, by omega, by omega⟩, by omega, by omega, by omega⟩ ?_ ?_ ?_ ?_ ?_
  · exact ⟨fun j hj => absurd hj (by omega), fun _ => Or.inl rfl, rfl, rfl, ⟨rfl, fun i hi => absurd hi (by omega)⟩, fun _ => rfl⟩
  · exact ⟨fun _ => Or.inl rfl, by decide, fun j hj => absurd hj (by omega), fun j hj => absurd hj (by omega), ⟨0, by decide, fun _ => ⟨(by decide : (0 : Int64).toInt ≤ 0), (by decide : (0 : Int64).toInt ≤ 0)⟩, fun j _ hj => absurd hj (by omega)⟩, fun _ _ _ _ => rfl⟩
  · exact ⟨0, Nat.le_refl _, Nat.zero_le _, fun p _ => ⟨fun _ => ⟨rfl, rfl⟩, rfl⟩⟩
  · exact fun r _ ha => absurd rfl ha
  · exact mw_IX_0 (fun _ _ => rfl)
theorem i_vc0 (k0 : Int32) (k1 : Int32) (k2 : Int32) : wpX_init (fun u => wpY_init (fun v => i_Rel 3 u v) k0 k1 k2) k0 k1 k2 := by
  unfold wpX_init
  refine mw_clamp (mw_clamp (mw_clamp (mw_yInit ?_)))
  obtain ⟨P, p1, p2, e1⟩ := mw_cl_nat k0 2 16 (by decide) (by decide)
  obtain ⟨C, c1, c2, e2⟩ := mw_cl_nat k1 8 32 (by decide) (by decide)
  obtain ⟨R, r1, r2, e3⟩ := mw_cl_nat k2 1 8 (by decide) (by decide)
  have e1' : mw_cl k0 2 16 = nI P := e1
  have e2' : mw_cl k1 8 32 = nI C := e2
  have e3' : mw_cl k2 1 8 = nI R := e3
  rw [e1', e2', e3']
  exact mw_zero ⟨p1, p2⟩ ⟨c1, c2⟩ ⟨r1, r2⟩
end
section
/-! small shapes -/
theorem mw_yo {x : Int32} {n : Nat} {A B : Prop} (hn : n < 2 ^ 31) (h : x < 0 ∨ nI n ≤ x) (a : A) : (x < 0 → A) ∧ (¬ x < 0 → ((x < nI n → B) ∧ (¬ x < nI n → A))) := by
  refine br_c (fun _ => a) (fun c => ?_)
  rcases h with h | h
  · exact absurd h c
  · exact br_f (Int32.not_lt.mpr h) a
theorem mw_yi {j n : Nat} {A B C : Prop} (hn : n < 2 ^ 31) (hj : j < n) (b : B) : (nI j < 0 → A) ∧ (¬ nI j < 0 → ((nI j < nI n → B) ∧ (¬ nI j < nI n → C))) :=
  br_f (nI_pos (by omega)) (br_t (nI_lt hj hn) b)
section
variable {yp yo yr yb yf yw ys yc yt : Int32}
variable {ba fp fw fm ya ym sn : Nat → Int32}

theorem mw_yCWe {N b c : Nat} {post : Int32 → Prop} (hN : N ≤ 32) (e : mw_cnt fm N = c) (hp : post (nI (b + c))) : wpY_commitsWithin post (yp, yo, yr, nI b, yf, yw, ys, yc, yt, ba, fp, fw, fm, ya, ym, sn) (nI N) := mw_yCW hN (by rw [e]; exact hp)
theorem mw_yLMEe {N c : Nat} {post : Int32 → Prop} (hN : N ≤ 32) (e : mw_lme fm N = c) (hp : post (nI c)) : wpY_lastMarkedEnd post (yp, yo, yr, yb, yf, yw, ys, yc, yt, ba, fp, fw, fm, ya, ym, sn) (nI N) := mw_yLME hN (by rw [e]; exact hp)
end
section
variable {k pc ca rc la mk fr cm sy cp bc rs : Nat} {wr : Int32} {hh : Int64}
variable {fv dv lp lv lm dp dw dm ix ea ac rm ba fp fw fm sn : Nat → Int32} {li lq di dq : Nat → Int64}
/-! what the second group says of the reference's reckoning -/
theorem mw_G2_lme {n : Nat} (h : mw_G2 pc fr cm mk wr lp lv lm ea fp fw fm) (hn : n ≤ fr) : mw_lme fm n = mw_lme lm n ∧ mw_cnt fm n = mw_cnt lm n :=
  ⟨mw_lme_congr n (fun j hj => (h.1 j (by omega)).2.2.1), mw_cnt_congr n (fun j hj => (h.1 j (by omega)).2.2.1)⟩
theorem mw_G2_img {n : Nat} {x p : Int32} (h : mw_G2 pc fr cm mk wr lp lv lm ea fp fw fm) (hn : n ≤ fr) : mw_img x fp fw p n = mw_img x lp lv p n :=
  mw_img_congr n (fun j hj => ⟨(h.1 j (by omega)).1, (h.1 j (by omega)).2.1⟩)
theorem mw_G5_begin {r : Nat} {s : Nat → Int32} (h2 : mw_G2 pc fr cm mk wr lp lv lm ea fp fw fm) (h4 : mw_G4 pc cp sy fv dv lp lv lm ba) (h5 : mw_G5 pc rc cm fv lp lv ac rm sn) (hpc : pc ≤ 16) (hs : sy ≤ fr) (hS : mw_SN r pc cm ba fp fw sn s) :
    mw_G5 pc rc cm fv lp lv (upd ac r (vp_nar .boolean 1)) (upd rm r (mw_mk cp cm)) s := by
  have e0 := h2.2.2.1
  have hm := mw_lme_mono (m := lm) (a := sy) fr hs
  have hl := mw_lme_le lm fr
  intro q hq ha
  by_cases c : q = r
  · subst c
    by_cases z : cp = cm
    · refine ⟨0, Nat.zero_le _, ?_, fun p hp => ?_⟩
      · rw [pk_us, mw_mk, if_pos z]; rfl
      · rw [hS.1 p hp, mw_G2_img h2 (by omega)]
        show _ = fv p
        rw [← mw_G4_all h4 hp (by omega), z]
    · refine ⟨cm, Nat.le_refl _, ?_, fun p hp => ?_⟩
      · rw [pk_us, mw_mk, if_neg z]
      · rw [hS.1 p hp, mw_G2_img h2 (by omega), mw_G4_img h4 hp (by omega)]
  · rw [pk_un c] at ha
    obtain ⟨m, m1, m2, m3⟩ := h5 q hq ha
    refine ⟨m, m1, by rw [pk_un c]; exact m2, fun p hp => ?_⟩
    rw [hS.2 _ (by omega)]
    exact m3 p hp
theorem mw_G5_end {r : Nat} (h5 : mw_G5 pc rc cm fv lp lv ac rm sn) : mw_G5 pc rc cm fv lp lv (upd ac r (vp_nar .boolean 0)) rm sn := by
  intro q hq ha
  by_cases c : q = r
  · subst c
    rw [pk_us] at ha
    exact absurd rfl ha
  · rw [pk_un c] at ha
    exact h5 q hq ha
end
theorem i_vc_beginRead {k : Nat} {u : SX} {v : SY} (I : i_Rel k u v) (hk : k + 3 ≤ 1539) (v1 : Int32) : wpX_beginRead (fun r u' => wpY_beginRead (fun r' v' => r' = r ∧ i_Rel (k + 3) u' v') v v1) u v1 := by
  refine mw_el (Q := fun u v => wpX_beginRead (fun r u' => wpY_beginRead (fun r' v' => r' = r ∧ i_Rel (k + 3) u' v') v v1) u v1) I ?_
  intro pc ca rc la mk fr cm sy cp bc rs hh wr fv dv lp lv lm li lq dp dw dm di dq ix ea ac rm ba fp fw fm sn h1 h2 h3 h4 h5 h6
  have R := mw_in (mw_G1_up h1) h2 h3 h4 h5 h6
  obtain ⟨⟨b1, b2, b3, b4, b5, b6⟩, ⟨b7, b8, b9, b10, b11⟩, b12, b13, b14⟩ := id h1
  unfold wpX_beginRead wpY_beginRead
  rcases pk_ix v1 (n := rc) (by omega) with c | c | ⟨r, hr, rfl⟩
  · exact mw_isReader_n (Or.inl c) (br_t rfl (mw_yo (by omega) (Or.inl c) ⟨rfl, R⟩))
  · exact mw_isReader_n (Or.inr c) (br_t rfl (mw_yo (by omega) (Or.inr c) ⟨rfl, R⟩))
  · have hin : vp_in (nI r) 8 := vp_in_nI (by omega) (by decide)
    refine mw_isReader_y hr (by omega) (br_f (by decide) ?_)
    rw [nI_clamp (show r < 2 ^ 31 by omega)]
    refine ⟨hin, ?_⟩
    by_cases z : ac r = 0
    · have hY : ∀ post : Int32 → SY → Prop, (∀ s, mw_SN r pc cm ba fp fw sn s → post (mw_mk cp cm) (nI pc, nI ca, nI rc, nI bc, nI fr, wr, nI sy, nI cp, nI rs, ba, fp, fw, fm, upd ac r (vp_nar .boolean 1), upd rm r (mw_mk cp cm), s)) →
          wpY_lastMarkedEnd (fun r_5 => (vp_in (nI r) 8 ∧ (∀ a : Nat → Int32, a = upd ac r (vp_nar .boolean 1) → (∃ n44 : Nat, wY_beginRead_44 post (nI r) r_5 (nI pc) (nI ca) (nI rc) (nI bc) (nI fr) wr (nI sy) (nI cp) (nI rs) n44 0 ba fp fw fm a rm sn)))) (nI pc, nI ca, nI rc, nI bc, nI fr, wr, nI sy, nI cp, nI rs, ba, fp, fw, fm, ac, rm, sn) (nI fr) := by
        intro post hpost
        refine mw_yLMEe (c := cm) (by omega) (by rw [(mw_G2_lme h2 (Nat.le_refl fr)).1]; exact h2.2.2.1.symm) ⟨hin, nm_e ⟨17, ?_⟩⟩
        exact mw_yBR_loop b2 (by omega) (by omega) (by omega) hpost 17 0 sn (by omega) (by omega) ⟨fun p hp => absurd hp (by omega), fun _ _ => rfl⟩
      have fin : ∀ s, mw_SN r pc cm ba fp fw sn s → i_Rel (k + 3) (nI pc, nI ca, nI rc, hh, lN la, nI mk, nI fr, nI cm, nI sy, nI cp, nI bc, nI rs, wr, fv, dv, lp, lv, lm, li, lq, dp, dw, dm, di, dq, ix, ea, upd ac r (vp_nar .boolean 1), upd rm r (mw_mk cp cm)) (nI pc, nI ca, nI rc, nI bc, nI fr, wr, nI sy, nI cp, nI rs, ba, fp, fw, fm, upd ac r (vp_nar .boolean 1), upd rm r (mw_mk cp cm), s) :=
        fun s hs => mw_in (mw_G1_up h1) h2 h3 h4 (mw_G5_begin h2 h4 h5 b2 b9 hs) h6
      refine br_t z ⟨hin, nm_e ?_⟩
      refine pk_eq cp cm (fun e => ?_) (fun e => ?_)
      · refine ⟨hin, nm_e ⟨hin, ?_⟩⟩
        rw [pk_us]
        refine mw_yi (by omega) hr ⟨hin, br_t z ?_⟩
        refine hY _ (fun s hs => ?_)
        have h := fin s hs
        rw [mw_mk, if_pos e] at h ⊢
        exact ⟨rfl, h⟩
      · refine ⟨hin, nm_e ⟨hin, ?_⟩⟩
        rw [pk_us]
        refine mw_yi (by omega) hr ⟨hin, br_t z ?_⟩
        refine hY _ (fun s hs => ?_)
        have h := fin s hs
        rw [mw_mk, if_neg e] at h ⊢
        exact ⟨rfl, h⟩
    · exact br_f z (mw_yi (by omega) hr ⟨hin, br_f z ⟨rfl, R⟩⟩)
theorem i_vc_readPage {k : Nat} {u : SX} {v : SY} (I : i_Rel k u v) (hk : k + 3 ≤ 1539) (v1 : Int32) (v2 : Int32) : wpX_readPage (fun r => wpY_readPage (fun r' => r' = r ∧ i_Rel (k + 3) u v) v v1 v2) u v1 v2 := by
  refine mw_el (Q := fun u v => wpX_readPage (fun r => wpY_readPage (fun r' => r' = r ∧ i_Rel (k + 3) u v) v v1 v2) u v1 v2) I ?_
  intro pc ca rc la mk fr cm sy cp bc rs hh wr fv dv lp lv lm li lq dp dw dm di dq ix ea ac rm ba fp fw fm sn h1 h2 h3 h4 h5 h6
  have R := mw_in (mw_G1_up h1) h2 h3 h4 h5 h6
  obtain ⟨⟨b1, b2, b3, b4, b5, b6⟩, ⟨b7, b8, b9, b10, b11⟩, b12, b13, b14⟩ := id h1
  unfold wpX_readPage wpY_readPage
  rcases pk_ix v1 (n := rc) (by omega) with c | c | ⟨r, hr, rfl⟩
  · exact mw_isReader_n (Or.inl c) (br_t rfl (mw_yo (by omega) (Or.inl c) ⟨rfl, R⟩))
  · exact mw_isReader_n (Or.inr c) (br_t rfl (mw_yo (by omega) (Or.inr c) ⟨rfl, R⟩))
  · have hin : vp_in (nI r) 8 := vp_in_nI (by omega) (by decide)
    refine mw_isReader_y hr (by omega) (br_f (by decide) ?_)
    rw [nI_clamp (show r < 2 ^ 31 by omega)]
    rcases pk_ix v2 (n := pc) (by omega) with d | d | ⟨p, hp, rfl⟩
    · exact mw_isPage_n (Or.inl d) (br_t rfl (mw_yi (by omega) hr ⟨hin, br_c (fun _ => ⟨rfl, R⟩) (fun _ => mw_yo (by omega) (Or.inl d) ⟨rfl, R⟩)⟩))
    · exact mw_isPage_n (Or.inr d) (br_t rfl (mw_yi (by omega) hr ⟨hin, br_c (fun _ => ⟨rfl, R⟩) (fun _ => mw_yo (by omega) (Or.inr d) ⟨rfl, R⟩)⟩))
    · refine mw_isPage_y hp (by omega) (br_f (by decide) ⟨hin, ?_⟩)
      by_cases z : ac r = 0
      · exact br_t z (mw_yi (by omega) hr ⟨hin, br_t z ⟨rfl, R⟩⟩)
      · obtain ⟨m, m1, m2, m3⟩ := h5 r hr z
        refine br_f z ⟨hin, ?_⟩
        rw [m2]
        refine mw_imageAt (N := fr) (by omega) (by omega) (by omega) h6 ?_
        refine mw_yi (by omega) hr ⟨hin, br_f z (mw_yi (by omega) hp ?_)⟩
        have e : nI r * 16 + nI p = nI (r * 16 + p) := by
          rw [show nI r * 16 = nI (r * 16) from pk_mul r 16, nI_add]
        rw [e, nI_clamp (show r * 16 + p < 2 ^ 31 by omega), m3 p hp]
        exact ⟨vp_in_nI (by omega) (by decide), rfl, R⟩
theorem i_vc_endRead {k : Nat} {u : SX} {v : SY} (I : i_Rel k u v) (hk : k + 3 ≤ 1539) (v1 : Int32) : wpX_endRead (fun r u' => wpY_endRead (fun r' v' => r' = r ∧ i_Rel (k + 3) u' v') v v1) u v1 := by
  refine mw_el (Q := fun u v => wpX_endRead (fun r u' => wpY_endRead (fun r' v' => r' = r ∧ i_Rel (k + 3) u' v') v v1) u v1) I ?_
  intro pc ca rc la mk fr cm sy cp bc rs hh wr fv dv lp lv lm li lq dp dw dm di dq ix ea ac rm ba fp fw fm sn h1 h2 h3 h4 h5 h6
  have R := mw_in (mw_G1_up h1) h2 h3 h4 h5 h6
  obtain ⟨⟨b1, b2, b3, b4, b5, b6⟩, ⟨b7, b8, b9, b10, b11⟩, b12, b13, b14⟩ := id h1
  unfold wpX_endRead wpY_endRead
  rcases pk_ix v1 (n := rc) (by omega) with c | c | ⟨r, hr, rfl⟩
  · exact mw_isReader_n (Or.inl c) (br_t rfl (mw_yo (by omega) (Or.inl c) ⟨rfl, R⟩))
  · exact mw_isReader_n (Or.inr c) (br_t rfl (mw_yo (by omega) (Or.inr c) ⟨rfl, R⟩))
  · have hin : vp_in (nI r) 8 := vp_in_nI (by omega) (by decide)
    refine mw_isReader_y hr (by omega) (br_f (by decide) ?_)
    rw [nI_clamp (show r < 2 ^ 31 by omega)]
    refine ⟨hin, ?_⟩
    by_cases z : ac r = 0
    · exact br_t z (mw_yi (by omega) hr ⟨hin, br_t z ⟨rfl, R⟩⟩)
    · exact br_f z ⟨hin, nm_e (mw_yi (by omega) hr ⟨hin, br_f z ⟨hin, nm_e ⟨rfl, mw_in (mw_G1_up h1) h2 h3 h4 (mw_G5_end h5) h6⟩⟩⟩)⟩
theorem i_vc_readerMark {k : Nat} {u : SX} {v : SY} (I : i_Rel k u v) (hk : k + 3 ≤ 1539) (v1 : Int32) : wpX_readerMark (fun r => wpY_readerMark (fun r' => r' = r ∧ i_Rel (k + 3) u v) v v1) u v1 := by
  refine mw_el (Q := fun u v => wpX_readerMark (fun r => wpY_readerMark (fun r' => r' = r ∧ i_Rel (k + 3) u v) v v1) u v1) I ?_
  intro pc ca rc la mk fr cm sy cp bc rs hh wr fv dv lp lv lm li lq dp dw dm di dq ix ea ac rm ba fp fw fm sn h1 h2 h3 h4 h5 h6
  have R := mw_in (mw_G1_up h1) h2 h3 h4 h5 h6
  obtain ⟨⟨b1, b2, b3, b4, b5, b6⟩, ⟨b7, b8, b9, b10, b11⟩, b12, b13, b14⟩ := id h1
  unfold wpX_readerMark wpY_readerMark
  rcases pk_ix v1 (n := rc) (by omega) with c | c | ⟨r, hr, rfl⟩
  · exact mw_isReader_n (Or.inl c) (br_t rfl (mw_yo (by omega) (Or.inl c) ⟨rfl, R⟩))
  · exact mw_isReader_n (Or.inr c) (br_t rfl (mw_yo (by omega) (Or.inr c) ⟨rfl, R⟩))
  · have hin : vp_in (nI r) 8 := vp_in_nI (by omega) (by decide)
    refine mw_isReader_y hr (by omega) (br_f (by decide) ?_)
    rw [nI_clamp (show r < 2 ^ 31 by omega)]
    refine ⟨hin, ?_⟩
    by_cases z : ac r = 0
    · exact br_t z (mw_yi (by omega) hr ⟨hin, br_t z ⟨rfl, R⟩⟩)
    · exact br_f z ⟨hin, mw_yi (by omega) hr ⟨hin, br_f z ⟨hin, rfl, R⟩⟩⟩
end
section
theorem i_vc_pendingRead {k : Nat} {u : SX} {v : SY} (I : i_Rel k u v) (hk : k + 3 ≤ 1539) (v1 : Int32) (v2 : Int32) : wpX_pendingRead (fun r => wpY_pendingRead (fun r' => r' = r ∧ i_Rel (k + 3) u v) v v1 v2) u v1 v2 := by
  refine mw_el (Q := fun u v => wpX_pendingRead (fun r => wpY_pendingRead (fun r' => r' = r ∧ i_Rel (k + 3) u v) v v1 v2) u v1 v2) I ?_
  intro pc ca rc la mk fr cm sy cp bc rs hh wr fv dv lp lv lm li lq dp dw dm di dq ix ea ac rm ba fp fw fm sn h1 h2 h3 h4 h5 h6
  have R := mw_in (mw_G1_up h1) h2 h3 h4 h5 h6
  obtain ⟨⟨b1, b2, b3, b4, b5, b6⟩, ⟨b7, b8, b9, b10, b11⟩, b12, b13, b14⟩ := id h1
  have eC : mw_lme fm fr = cm := by rw [(mw_G2_lme h2 (Nat.le_refl fr)).1]; exact h2.2.2.1.symm
  have hsub : nI fr - nI cm = nI (fr - cm) := pk_sub b8
  unfold wpX_pendingRead wpY_pendingRead
  by_cases w : wr = 0
  · exact br_t w (br_t w ⟨rfl, R⟩)
  · refine br_f w ?_
    have no : (v2 < 0 ∨ nI pc ≤ v2) → ∀ P : Prop, (v1 < 0 → (4294967296 : Int64) = 4294967296 ∧ i_Rel (k + 3) (nI pc, nI ca, nI rc, hh, lN la, nI mk, nI fr, nI cm, nI sy, nI cp, nI bc, nI rs, wr, fv, dv, lp, lv, lm, li, lq, dp, dw, dm, di, dq, ix, ea, ac, rm) (nI pc, nI ca, nI rc, nI bc, nI fr, wr, nI sy, nI cp, nI rs, ba, fp, fw, fm, ac, rm, sn)) ∧ (¬ v1 < 0 → ((v1 ≤ nI fr - nI cm → ((v2 < 0 → (4294967296 : Int64) = 4294967296 ∧ i_Rel (k + 3) (nI pc, nI ca, nI rc, hh, lN la, nI mk, nI fr, nI cm, nI sy, nI cp, nI bc, nI rs, wr, fv, dv, lp, lv, lm, li, lq, dp, dw, dm, di, dq, ix, ea, ac, rm) (nI pc, nI ca, nI rc, nI bc, nI fr, wr, nI sy, nI cp, nI rs, ba, fp, fw, fm, ac, rm, sn)) ∧ (¬ v2 < 0 → ((v2 < nI pc → P) ∧ (¬ v2 < nI pc → (4294967296 : Int64) = 4294967296 ∧ i_Rel (k + 3) (nI pc, nI ca, nI rc, hh, lN la, nI mk, nI fr, nI cm, nI sy, nI cp, nI bc, nI rs, wr, fv, dv, lp, lv, lm, li, lq, dp, dw, dm, di, dq, ix, ea, ac, rm) (nI pc, nI ca, nI rc, nI bc, nI fr, wr, nI sy, nI cp, nI rs, ba, fp, fw, fm, ac, rm, sn)))))) ∧ (¬ v1 ≤ nI fr - nI cm → (4294967296 : Int64) = 4294967296 ∧ i_Rel (k + 3) (nI pc, nI ca, nI rc, hh, lN la, nI mk, nI fr, nI cm, nI sy, nI cp, nI bc, nI rs, wr, fv, dv, lp, lv, lm, li, lq, dp, dw, dm, di, dq, ix, ea, ac, rm) (nI pc, nI ca, nI rc, nI bc, nI fr, wr, nI sy, nI cp, nI rs, ba, fp, fw, fm, ac, rm, sn)))) :=
      fun h P => br_c (fun _ => ⟨rfl, R⟩) (fun _ => br_c (fun _ => mw_yo (by omega) h ⟨rfl, R⟩) (fun _ => ⟨rfl, R⟩))
    rcases pk_ix v2 (n := pc) (by omega) with d | d | ⟨p, hp, rfl⟩
    · exact mw_isPage_n (Or.inl d) (br_t rfl (br_f w (mw_yLMEe (c := cm) (by omega) eC (no (Or.inl d) _))))
    · exact mw_isPage_n (Or.inr d) (br_t rfl (br_f w (mw_yLMEe (c := cm) (by omega) eC (no (Or.inr d) _))))
    · refine mw_isPage_y hp (by omega) (br_f (by decide) ?_)
      by_cases c : v1 < 0
      · exact br_t c (br_f w (mw_yLMEe (c := cm) (by omega) eC (br_t c ⟨rfl, R⟩)))
      · refine br_f c ?_
        rw [hsub]
        by_cases e : v1 ≤ nI (fr - cm)
        · obtain ⟨q, hq, rfl⟩ := nI_of c
          have hq2 : q ≤ fr - cm := (nI_leI hq (by omega)).mp e
          refine br_t e ?_
          rw [nI_add]
          refine mw_imageAt (N := fr) (by omega) (by omega) (by omega) h6 (br_f w (mw_yLMEe (c := cm) (by omega) eC (br_f c ?_)))
          rw [hsub]
          refine br_t e (mw_yi (by omega) hp ?_)
          rw [nI_add]
          refine mw_yImage (by omega) (by omega) ?_
          have hm := mw_lme_mono (m := lm) (a := sy) fr b9
          have e0 := h2.2.2.1
          rw [mw_G2_img h2 (by omega), mw_G4_img h4 hp (by omega)]
          exact ⟨rfl, R⟩
        · refine br_f e (br_f w (mw_yLMEe (c := cm) (by omega) eC (br_f c ?_)))
          rw [hsub]
          exact br_f e ⟨rfl, R⟩
/-! known commits -/
section
variable {pc ca rc mk fr cm sy cp bc rs wr : Int32}
variable {hh la : Int64}
variable {fv dv lp lv lm dp dw dm ix ea ac rm : Nat → Int32}
variable {li lq di dq : Nat → Int64}

theorem mw_xSafe {F S b : Nat} (hF : F ≤ 32) (hS : S ≤ F) (H : mw_EA lm F ea) {post : Int32 → Prop} (hp : post (nI (b + mw_cnt lm S))) : wpX_safeCommits post (pc, ca, rc, hh, la, nI (mw_cnt lm F), fr, cm, nI S, cp, nI b, rs, wr, fv, dv, lp, lv, lm, li, lq, dp, dw, dm, di, dq, ix, ea, ac, rm) := by
  unfold wpX_safeCommits
  refine mw_marksWithin hF hS H ?_
  rw [nI_add]
  exact hp
theorem mw_xKnown {F S b : Nat} {c : Int32} (hF : F ≤ 32) (hS : S ≤ F) (H : mw_EA lm F ea) {post : Int32 → Prop} (hn : (c < nI (b + mw_cnt lm S) ∨ nI (b + mw_cnt lm F) < c) → post 0) (hy : ¬ c < nI (b + mw_cnt lm S) → ¬ nI (b + mw_cnt lm F) < c → post 1) : wpX_isKnownCommit post (pc, ca, rc, hh, la, nI (mw_cnt lm F), fr, cm, nI S, cp, nI b, rs, wr, fv, dv, lp, lv, lm, li, lq, dp, dw, dm, di, dq, ix, ea, ac, rm) c := by
  unfold wpX_isKnownCommit
  refine mw_xSafe hF hS H ?_
  rw [nI_add]
  exact br_c (fun h => hn (Or.inl h)) (fun h => br_c (fun g => hn (Or.inr g)) (fun g => hy h g))
theorem mw_xEnd0 {b : Nat} {post : Int32 → Prop} (hp : post 0) : wpX_endOf post (pc, ca, rc, hh, la, mk, fr, cm, sy, cp, nI b, rs, wr, fv, dv, lp, lv, lm, li, lq, dp, dw, dm, di, dq, ix, ea, ac, rm) (nI b) := by
  unfold wpX_endOf
  refine nm_r (e' := nI 0) ?_ (br_t (by decide) hp)
  rw [pk_sub (Nat.le_refl b), Nat.sub_self]
theorem mw_xEnd {F b k I : Nat} (hF : F ≤ 32) (H : mw_EA lm F ea) (hI : I < F) (hm : lm I ≠ 0) (hk : mw_cnt lm (I + 1) = k) {post : Int32 → Prop} (hp : post (nI (I + 1))) : wpX_endOf post (pc, ca, rc, hh, la, nI (mw_cnt lm F), fr, cm, sy, cp, nI b, rs, wr, fv, dv, lp, lv, lm, li, lq, dp, dw, dm, di, dq, ix, ea, ac, rm) (nI (b + k)) := by
  unfold wpX_endOf
  have h1 := mw_cnt_s hm
  have h2 := mw_cnt_mono (m := lm) (a := I + 1) F (by omega)
  have h3 := mw_cnt_le lm F
  refine nm_r (e' := nI k) ?_ (br_f (nI_nle (by omega) (by omega)) (br_f (nI_nlt (by omega) (by omega)) ?_))
  · rw [pk_sub (by omega), Nat.add_sub_cancel_left]
  · rw [nI_clamp (show k < 2 ^ 31 by omega), ← hk, H.2 I hI hm]
    exact ⟨vp_in_nI (by omega) (by decide), hp⟩
end
section
variable {yp yo yr yb yf yw ys yc yt : Int32}
variable {ba fp fw fm ya ym sn : Nat → Int32}

theorem mw_yKnown {F S b s f : Nat} {c : Int32} (hF : F ≤ 32) (hS : S ≤ F) (es : mw_cnt fm S = s) (ef : mw_cnt fm F = f) {post : Int32 → Prop} (hn : (c < nI (b + s) ∨ nI (b + f) < c) → post 0) (hy : ¬ c < nI (b + s) → ¬ nI (b + f) < c → post 1) : wpY_commitInRange post (yp, yo, yr, nI b, nI F, yw, nI S, yc, yt, ba, fp, fw, fm, ya, ym, sn) c := by
  unfold wpY_commitInRange
  refine mw_yCWe (c := s) (by omega) es (mw_yCWe (c := f) hF ef ?_)
  exact br_c (fun h => hn (Or.inl h)) (fun h => br_c (fun g => hn (Or.inr g)) (fun g => hy h g))
end
/-- the end of a known commit's prefix lies at or beyond the last synced mark -/
theorem mw_endAt {lm : Nat → Int32} {F S q : Nat} (hS : S ≤ F) (h1 : mw_cnt lm S ≤ q) (h2 : q ≤ mw_cnt lm F) : (q = 0 ∧ mw_lme lm S = 0) ∨ ∃ I, I < F ∧ lm I ≠ 0 ∧ mw_cnt lm (I + 1) = q ∧ mw_lme lm S ≤ I + 1 := by
  by_cases c : q = 0
  · left
    refine ⟨c, ?_⟩
    rcases mw_lme_mark (m := lm) S with e | ⟨j, a, b, d⟩
    · exact e
    · have h3 := mw_cnt_mono (m := lm) (a := j + 1) S (by omega)
      rw [mw_cnt_s d] at h3
      omega
  · right
    obtain ⟨I, a, b, d⟩ := mw_cnt_inv (m := lm) (k := q) F (by omega) h2
    refine ⟨I, a, b, d, ?_⟩
    rcases mw_lme_mark (m := lm) S with e | ⟨j, a', b', d'⟩
    · omega
    · apply Classical.byContradiction
      intro hlt
      have h3 := mw_cnt_mono (m := lm) (a := j + 1) S (by omega)
      have h4 := mw_cnt_mono (m := lm) (a := I + 1) j (by omega)
      rw [mw_cnt_s d'] at h3
      omega
theorem mw_between {c : Int32} {a b : Nat} (hb : b < 2 ^ 31) (ha : a ≤ b) (h1 : ¬ c < nI a) (h2 : ¬ nI b < c) : ∃ q, a ≤ q ∧ q ≤ b ∧ c = nI q := by
  have h0 : ¬ c < 0 := by
    rw [Int32.lt_iff_toInt_lt, nI_toInt (by omega)] at h1
    rw [Int32.lt_iff_toInt_lt, show (0 : Int32).toInt = 0 from by decide]
    omega
  obtain ⟨q, hq, rfl⟩ := nI_of h0
  rw [nI_ltI hq (by omega)] at h1
  rw [nI_ltI hb hq] at h2
  exact ⟨q, by omega, by omega, rfl⟩
section
variable {k pc ca rc la mk fr cm sy cp bc rs : Nat} {wr : Int32} {hh : Int64}
variable {fv dv lp lv lm dp dw dm ix ea ac rm ba fp fw fm sn : Nat → Int32} {li lq di dq : Nat → Int64}
/-- both sides find one end -/
theorem mw_ends {q : Nat} (h1 : mw_G1 k pc ca rc la mk fr cm sy cp bc rs) (h2 : mw_G2 pc fr cm mk wr lp lv lm ea fp fw fm) (hk : k < 2 ^ 30) (hq1 : mw_cnt lm sy ≤ q) (hq2 : q ≤ mw_cnt lm fr) :
    ∃ e, e ≤ fr ∧ mw_lme lm sy ≤ e ∧ (∀ post : Int32 → Prop, post (nI e) → wpX_endOf post (nI pc, nI ca, nI rc, hh, lN la, nI mk, nI fr, nI cm, nI sy, nI cp, nI bc, nI rs, wr, fv, dv, lp, lv, lm, li, lq, dp, dw, dm, di, dq, ix, ea, ac, rm) (nI (bc + q))) ∧ (∀ post : Int32 → Prop, post (nI e) → wpY_end post (nI pc, nI ca, nI rc, nI bc, nI fr, wr, nI sy, nI cp, nI rs, ba, fp, fw, fm, ac, rm, sn) (nI (bc + q))) := by
  obtain ⟨⟨b1, b2, b3, b4, b5, b6⟩, ⟨b7, b8, b9, b10, b11⟩, b12, b13, b14⟩ := id h1
  have e4 := h2.2.2.2.1
  rcases mw_endAt b9 hq1 hq2 with ⟨z, hz⟩ | ⟨I, i1, i2, i3, i4⟩
  · subst z
    exact ⟨0, Nat.zero_le _, by omega, fun post hp => mw_xEnd0 hp, fun post hp => mw_yEnd0 hp⟩
  · refine ⟨I + 1, i1, i4, fun post hp => ?_, fun post hp => ?_⟩
    · rw [e4]
      exact mw_xEnd (by omega) h2.2.2.2.2.1 i1 i2 i3 hp
    · have hm : fm I = lm I := (h2.1 I i1).2.2.1
      exact mw_yEnd (by omega) i1 (by rw [hm]; exact i2) (by rw [(mw_G2_lme h2 i1).2]; exact i3) (by omega) hp
end
theorem i_vc_commitEnd {k : Nat} {u : SX} {v : SY} (I : i_Rel k u v) (hk : k + 3 ≤ 1539) (v1 : Int32) : wpX_commitEnd (fun r => wpY_commitEnd (fun r' => r' = r ∧ i_Rel (k + 3) u v) v v1) u v1 := by
  refine mw_el (Q := fun u v => wpX_commitEnd (fun r => wpY_commitEnd (fun r' => r' = r ∧ i_Rel (k + 3) u v) v v1) u v1) I ?_
  intro pc ca rc la mk fr cm sy cp bc rs hh wr fv dv lp lv lm li lq dp dw dm di dq ix ea ac rm ba fp fw fm sn h1 h2 h3 h4 h5 h6
  have R := mw_in (mw_G1_up h1) h2 h3 h4 h5 h6
  obtain ⟨⟨b1, b2, b3, b4, b5, b6⟩, ⟨b7, b8, b9, b10, b11⟩, b12, b13, b14⟩ := id h1
  have e4 := h2.2.2.2.1
  have hE := @mw_ends k pc ca rc la mk fr cm sy cp bc rs wr hh fv dv lp lv lm dp dw dm ix ea ac rm ba fp fw fm sn li lq di dq
  unfold wpX_commitEnd wpY_commitEnd
  subst e4
  have hmono := mw_cnt_mono (m := lm) (a := sy) fr b9
  refine mw_xKnown (F := fr) (S := sy) (b := bc) (by omega) b9 h2.2.2.2.2.1 (fun h => ?_) (fun g1 g2 => ?_)
  · refine br_t rfl (mw_yKnown (F := fr) (S := sy) (b := bc) (by omega) b9 (mw_G2_lme h2 b9).2 (mw_G2_lme h2 (Nat.le_refl fr)).2 (fun _ => br_t rfl ⟨rfl, R⟩) (fun g1 g2 => ?_))
    rcases h with h | h
    · exact absurd h g1
    · exact absurd h g2
  · obtain ⟨c, c1, c2, rfl⟩ := mw_between (by omega) (by omega) g1 g2
    obtain ⟨q, rfl⟩ : ∃ q, c = bc + q := ⟨c - bc, by omega⟩
    obtain ⟨e, e1, e2, e3, e5⟩ := hE h1 h2 (by omega) (by omega) (show q ≤ mw_cnt lm fr by omega)
    refine br_f (by decide) (e3 _ ?_)
    refine mw_yKnown (F := fr) (S := sy) (b := bc) (by omega) b9 (mw_G2_lme h2 b9).2 (mw_G2_lme h2 (Nat.le_refl fr)).2 (fun h => ?_) (fun _ _ => br_f (by decide) (e5 _ ⟨rfl, R⟩))
    rcases h with h | h
    · exact absurd h g1
    · exact absurd h g2
theorem i_vc_asOf {k : Nat} {u : SX} {v : SY} (I : i_Rel k u v) (hk : k + 3 ≤ 1539) (v1 : Int32) (v2 : Int32) : wpX_asOf (fun r => wpY_asOf (fun r' => r' = r ∧ i_Rel (k + 3) u v) v v1 v2) u v1 v2 := by
  refine mw_el (Q := fun u v => wpX_asOf (fun r => wpY_asOf (fun r' => r' = r ∧ i_Rel (k + 3) u v) v v1 v2) u v1 v2) I ?_
  intro pc ca rc la mk fr cm sy cp bc rs hh wr fv dv lp lv lm li lq dp dw dm di dq ix ea ac rm ba fp fw fm sn h1 h2 h3 h4 h5 h6
  have R := mw_in (mw_G1_up h1) h2 h3 h4 h5 h6
  obtain ⟨⟨b1, b2, b3, b4, b5, b6⟩, ⟨b7, b8, b9, b10, b11⟩, b12, b13, b14⟩ := id h1
  have e4 := h2.2.2.2.1
  have hE := @mw_ends k pc ca rc la mk fr cm sy cp bc rs wr hh fv dv lp lv lm dp dw dm ix ea ac rm ba fp fw fm sn li lq di dq
  unfold wpX_asOf wpY_asOf
  subst e4
  have hmono := mw_cnt_mono (m := lm) (a := sy) fr b9
  refine mw_xKnown (F := fr) (S := sy) (b := bc) (by omega) b9 h2.2.2.2.2.1 (fun h => ?_) (fun g1 g2 => ?_)
  · refine br_t rfl (mw_yKnown (F := fr) (S := sy) (b := bc) (by omega) b9 (mw_G2_lme h2 b9).2 (mw_G2_lme h2 (Nat.le_refl fr)).2 (fun _ => br_t rfl ⟨rfl, R⟩) (fun g1 g2 => ?_))
    rcases h with h | h
    · exact absurd h g1
    · exact absurd h g2
  · refine br_f (by decide) ?_
    have known : ∀ post : Int32 → Prop, post 1 → wpY_commitInRange post (nI pc, nI ca, nI rc, nI bc, nI fr, wr, nI sy, nI cp, nI rs, ba, fp, fw, fm, ac, rm, sn) v1 := by
      intro post hp
      refine mw_yKnown (F := fr) (S := sy) (b := bc) (by omega) b9 (mw_G2_lme h2 b9).2 (mw_G2_lme h2 (Nat.le_refl fr)).2 (fun h => ?_) (fun _ _ => hp)
      rcases h with h | h
      · exact absurd h g1
      · exact absurd h g2
    rcases pk_ix v2 (n := pc) (by omega) with d | d | ⟨p, hp, rfl⟩
    · exact mw_isPage_n (Or.inl d) (br_t rfl (known _ (br_f (by decide) (mw_yo (by omega) (Or.inl d) ⟨rfl, R⟩))))
    · exact mw_isPage_n (Or.inr d) (br_t rfl (known _ (br_f (by decide) (mw_yo (by omega) (Or.inr d) ⟨rfl, R⟩))))
    · obtain ⟨c, c1, c2, rfl⟩ := mw_between (by omega) (by omega) g1 g2
      obtain ⟨q, rfl⟩ : ∃ q, c = bc + q := ⟨c - bc, by omega⟩
      obtain ⟨e, e1, e2, e3, e5⟩ := hE h1 h2 (by omega) (by omega) (show q ≤ mw_cnt lm fr by omega)
      refine mw_isPage_y hp (by omega) (br_f (by decide) (e3 _ ?_))
      refine mw_imageAt (N := fr) (by omega) (by omega) (by omega) h6 (known _ (br_f (by decide) (mw_yi (by omega) hp (e5 _ ?_))))
      refine mw_yImage (by omega) (by omega) ?_
      rw [mw_G2_img h2 (by omega), mw_G4_img h4 hp (by omega)]
      exact ⟨rfl, R⟩
theorem i_vc_count {k : Nat} {u : SX} {v : SY} (I : i_Rel k u v) (hk : k + 3 ≤ 1539) (v1 : Int32) : wpX_count (fun r => wpY_count (fun r' => r' = r ∧ i_Rel (k + 3) u v) v v1) u v1 := by
  refine mw_el (Q := fun u v => wpX_count (fun r => wpY_count (fun r' => r' = r ∧ i_Rel (k + 3) u v) v v1) u v1) I ?_
  intro pc ca rc la mk fr cm sy cp bc rs hh wr fv dv lp lv lm li lq dp dw dm di dq ix ea ac rm ba fp fw fm sn h1 h2 h3 h4 h5 h6
  have R := mw_in (mw_G1_up h1) h2 h3 h4 h5 h6
  obtain ⟨⟨b1, b2, b3, b4, b5, b6⟩, ⟨b7, b8, b9, b10, b11⟩, b12, b13, b14⟩ := id h1
  have e4 := h2.2.2.2.1
  have eC : mw_lme fm fr = cm := by rw [(mw_G2_lme h2 (Nat.le_refl fr)).1]; exact h2.2.2.1.symm
  unfold wpX_count wpY_count
  by_cases c : v1 < 0
  · have hne : ∀ x : Int32, ¬ x < 0 → ¬ v1 = x := fun x hx e => hx (e ▸ c)
    exact br_t c (br_f (hne 0 (by decide)) (br_f (hne 1 (by decide)) (br_f (hne 2 (by decide)) (br_f (hne 3 (by decide)) (br_f (hne 4 (by decide)) (br_f (hne 5 (by decide)) (br_f (hne 6 (by decide)) (br_f (hne 7 (by decide)) ⟨rfl, R⟩))))))))
  · by_cases d : 7 < v1
    · have hne : ∀ x : Int32, ¬ 7 < x → ¬ v1 = x := fun x hx e => hx (e ▸ d)
      exact br_f c (br_t d (br_f (hne 0 (by decide)) (br_f (hne 1 (by decide)) (br_f (hne 2 (by decide)) (br_f (hne 3 (by decide)) (br_f (hne 4 (by decide)) (br_f (hne 5 (by decide)) (br_f (hne 6 (by decide)) (br_f (hne 7 (by decide)) ⟨rfl, R⟩)))))))))
    · obtain ⟨j, hj, rfl⟩ := nI_of2 (M := 7) (n := 7) (by decide) c (Int32.not_lt.mp d)
      refine br_f c (br_f d ?_)
      match j, hj with
      | 0, _ => exact br_t rfl (br_t rfl ⟨rfl, R⟩)
      | 1, _ => exact br_f (by decide) (br_t rfl (br_f (by decide) (br_t rfl (mw_yLMEe (c := cm) (by omega) eC ⟨rfl, R⟩))))
      | 2, _ => exact br_f (by decide) (br_f (by decide) (br_t rfl (br_f (by decide) (br_f (by decide) (br_t rfl ⟨rfl, R⟩)))))
      | 3, _ => exact br_f (by decide) (br_f (by decide) (br_f (by decide) (br_t rfl (br_f (by decide) (br_f (by decide) (br_f (by decide) (br_t rfl ⟨rfl, R⟩)))))))
      | 4, _ => exact br_f (by decide) (br_f (by decide) (br_f (by decide) (br_f (by decide) (br_t rfl (br_f (by decide) (br_f (by decide) (br_f (by decide) (br_f (by decide) (br_t rfl (mw_yCWe (c := mk) (by omega) (by rw [(mw_G2_lme h2 (Nat.le_refl fr)).2]; exact e4.symm) ⟨(nI_add bc mk).symm, R⟩))))))))))
      | 5, _ =>
        refine br_f (by decide) (br_f (by decide) (br_f (by decide) (br_f (by decide) (br_f (by decide) (br_t rfl ?_)))))
        subst e4
        exact mw_xSafe (F := fr) (S := sy) (b := bc) (by omega) b9 h2.2.2.2.2.1 (br_f (by decide) (br_f (by decide) (br_f (by decide) (br_f (by decide) (br_f (by decide) (br_t rfl (mw_yCWe (c := mw_cnt lm sy) (by omega) (mw_G2_lme h2 b9).2 ⟨rfl, R⟩)))))))
      | 6, _ => exact br_f (by decide) (br_f (by decide) (br_f (by decide) (br_f (by decide) (br_f (by decide) (br_f (by decide) (br_t rfl (br_f (by decide) (br_f (by decide) (br_f (by decide) (br_f (by decide) (br_f (by decide) (br_f (by decide) (br_t rfl ⟨rfl, R⟩)))))))))))))
      | 7, _ =>
        refine br_f (by decide) (br_f (by decide) (br_f (by decide) (br_f (by decide) (br_f (by decide) (br_f (by decide) (br_f (by decide) (br_t rfl ?_)))))))
        by_cases w : wr = 0
        · exact br_t w (br_f (by decide) (br_f (by decide) (br_f (by decide) (br_f (by decide) (br_f (by decide) (br_f (by decide) (br_f (by decide) (br_t rfl (br_t w ⟨rfl, R⟩)))))))))
        · exact br_f w (br_f (by decide) (br_f (by decide) (br_f (by decide) (br_f (by decide) (br_f (by decide) (br_f (by decide) (br_f (by decide) (br_t rfl (br_f w ⟨rfl, R⟩)))))))))
end
section
theorem mw_lN1 {n : Nat} (h : n < 2 ^ 31) : (lN n + 1).toInt = (n : Int) + 1 := by
  rw [lN_1, pk_lT (by omega)]
  omega
section
variable {yp yo yr yb yf yw ys yc yt : Int32}
variable {ba fp fw fm ya ym sn : Nat → Int32}

/-- the reference's append -/
theorem mw_yAppend_no {n f c : Nat} {p v b r : Int32} (hn : n < 2 ^ 31) (hf : f ≤ c) (hc : c < 2 ^ 31) {post : Int32 → SY → Prop} (h : (yw = 0 ∧ r = -3) ∨ (yw ≠ 0 ∧ (p < 0 ∨ nI n ≤ p) ∧ r = -1) ∨ (yw ≠ 0 ∧ (∃ j, j < n ∧ p = nI j) ∧ f = c ∧ r = -4)) (hp : post r (nI n, nI c, yr, yb, nI f, yw, ys, yc, yt, ba, fp, fw, fm, ya, ym, sn)) : wpY_append post (nI n, nI c, yr, yb, nI f, yw, ys, yc, yt, ba, fp, fw, fm, ya, ym, sn) p v b := by
  unfold wpY_append
  rcases h with ⟨w, rfl⟩ | ⟨w, h, rfl⟩ | ⟨w, ⟨j, hj, rfl⟩, e, rfl⟩
  · exact br_t w hp
  · exact br_f w (mw_yo hn h hp)
  · subst e
    exact br_f w (mw_yi hn hj (br_f (nI_nlt (Nat.le_refl _) hc) hp))
theorem mw_yAppend_0 {n f c j : Nat} {v : Int32} (hn : n < 2 ^ 31) (hf : f < c) (hc : c ≤ 32) (hw : yw ≠ 0) (hj : j < n) {post : Int32 → SY → Prop} (hp : post 0 (nI n, nI c, yr, yb, nI (f + 1), yw, ys, yc, yt, ba, upd fp f (nI j), upd fw f v, upd fm f 0, ya, ym, sn)) : wpY_append post (nI n, nI c, yr, yb, nI f, yw, ys, yc, yt, ba, fp, fw, fm, ya, ym, sn) (nI j) v 0 := by
  unfold wpY_append
  have hin : vp_in (nI f) 32 := vp_in_nI (by omega) (by decide)
  refine br_f hw (mw_yi hn hj (br_t (nI_lt hf (by omega)) ?_))
  rw [nI_clamp (show f < 2 ^ 31 by omega)]
  exact ⟨hin, nm_e ⟨hin, nm_e ⟨hin, nm_r (e' := upd fm f 0) rfl (nm_r (nI_1 f) (br_t rfl hp))⟩⟩⟩
theorem mw_yAppend_1 {n f c j : Nat} {v : Int32} (hn : n < 2 ^ 31) (hf : f < c) (hc : c ≤ 32) (hw : yw ≠ 0) (hj : j < n) {post : Int32 → SY → Prop} (hp : post 0 (nI n, nI c, yr, yb, nI (f + 1), 0, ys, yc, yt, ba, upd fp f (nI j), upd fw f v, upd fm f 1, ya, ym, sn)) : wpY_append post (nI n, nI c, yr, yb, nI f, yw, ys, yc, yt, ba, fp, fw, fm, ya, ym, sn) (nI j) v 1 := by
  unfold wpY_append
  have hin : vp_in (nI f) 32 := vp_in_nI (by omega) (by decide)
  refine br_f hw (mw_yi hn hj (br_t (nI_lt hf (by omega)) ?_))
  rw [nI_clamp (show f < 2 ^ 31 by omega)]
  exact ⟨hin, nm_e ⟨hin, nm_e ⟨hin, nm_r (e' := upd fm f 1) rfl (nm_r (nI_1 f) (br_f (by decide) hp))⟩⟩⟩
end
theorem i_vc_put {k : Nat} {u : SX} {v : SY} (I : i_Rel k u v) (hk : k + 3 ≤ 1539) (v1 : Int32) (v2 : Int32) : wpX_put (fun r u' => wpY_put (fun r' v' => r' = r ∧ i_Rel (k + 3) u' v') v v1 v2) u v1 v2 := by
  refine mw_el (Q := fun u v => wpX_put (fun r u' => wpY_put (fun r' v' => r' = r ∧ i_Rel (k + 3) u' v') v v1 v2) u v1 v2) I ?_
  intro pc ca rc la mk fr cm sy cp bc rs hh wr fv dv lp lv lm li lq dp dw dm di dq ix ea ac rm ba fp fw fm sn h1 h2 h3 h4 h5 h6
  have R := mw_in (mw_G1_up h1) h2 h3 h4 h5 h6
  obtain ⟨⟨b1, b2, b3, b4, b5, b6⟩, ⟨b7, b8, b9, b10, b11⟩, b12, b13, b14⟩ := id h1
  unfold wpX_put wpY_put
  by_cases w : wr = 0
  · exact mw_checkAppend_idle w (br_f (by decide) (mw_yAppend_no (by omega) b7 (by omega) (Or.inl ⟨w, rfl⟩) ⟨rfl, R⟩))
  · rcases pk_ix v1 (n := pc) (by omega) with d | d | ⟨p, hp, rfl⟩
    · exact mw_checkAppend_bad w (Or.inl d) (br_f (by decide) (mw_yAppend_no (by omega) b7 (by omega) (Or.inr (Or.inl ⟨w, Or.inl d, rfl⟩)) ⟨rfl, R⟩))
    · exact mw_checkAppend_bad w (Or.inr d) (br_f (by decide) (mw_yAppend_no (by omega) b7 (by omega) (Or.inr (Or.inl ⟨w, Or.inr d, rfl⟩)) ⟨rfl, R⟩))
    · by_cases f : fr = ca
      · subst f
        exact mw_checkAppend_full w hp (by omega) (br_f (by decide) (mw_yAppend_no (by omega) (Nat.le_refl _) (by omega) (Or.inr (Or.inr ⟨w, ⟨p, hp, rfl⟩, rfl, rfl⟩)) ⟨rfl, R⟩))
      · refine mw_checkAppend_ok w hp (by omega) (show fr < ca by omega) (by omega) (br_t rfl ?_)
        refine mw_append (N := fr) (by omega) (by omega) h6 (fun d hd hz hne => ?_)
        refine mw_yAppend_0 (by omega) (show fr < ca by omega) b4 w hp ⟨rfl, ?_⟩
        rw [lN_1]
        have hl : ∀ j, j < fr → lp j = upd lp fr (nI p) j ∧ lv j = upd lv fr v2 j ∧ lm j = upd lm fr 0 j := fun j hj => ⟨(pk_un (by omega)).symm, (pk_un (by omega)).symm, (pk_un (by omega)).symm⟩
        refine mw_in (mk := mk) (cm := cm) ⟨⟨b1, b2, b3, b4, b5, b6⟩, ⟨by omega, by omega, by omega, by omega, by omega⟩, by omega, by omega, by omega⟩ (mw_G2_put h2 hp w) ?_ (mw_G4_congr h4 (fun j hj => hl j (by omega))) (mw_G5_congr h5 (Nat.le_refl _) (fun j hj => ⟨(hl j (by omega)).1, (hl j (by omega)).2.1⟩)) (mw_IX_put h6 (by omega) hd hz hne (fun j hj => pk_un (by omega)) pk_us)
        exact mw_G3_append h3 b9 (by rw [pk_lT (by omega)]; omega)
theorem i_vc_commit {k : Nat} {u : SX} {v : SY} (I : i_Rel k u v) (hk : k + 3 ≤ 1539) (v1 : Int32) (v2 : Int32) : wpX_commit (fun r u' => wpY_commit (fun r' v' => r' = r ∧ i_Rel (k + 3) u' v') v v1 v2) u v1 v2 := by
  refine mw_el (Q := fun u v => wpX_commit (fun r u' => wpY_commit (fun r' v' => r' = r ∧ i_Rel (k + 3) u' v') v v1 v2) u v1 v2) I ?_
  intro pc ca rc la mk fr cm sy cp bc rs hh wr fv dv lp lv lm li lq dp dw dm di dq ix ea ac rm ba fp fw fm sn h1 h2 h3 h4 h5 h6
  have R := mw_in (mw_G1_up h1) h2 h3 h4 h5 h6
  obtain ⟨⟨b1, b2, b3, b4, b5, b6⟩, ⟨b7, b8, b9, b10, b11⟩, b12, b13, b14⟩ := id h1
  unfold wpX_commit wpY_commit
  by_cases w : wr = 0
  · exact mw_checkAppend_idle w (br_f (by decide) (mw_yAppend_no (by omega) b7 (by omega) (Or.inl ⟨w, rfl⟩) ⟨rfl, R⟩))
  · rcases pk_ix v1 (n := pc) (by omega) with d | d | ⟨p, hp, rfl⟩
    · exact mw_checkAppend_bad w (Or.inl d) (br_f (by decide) (mw_yAppend_no (by omega) b7 (by omega) (Or.inr (Or.inl ⟨w, Or.inl d, rfl⟩)) ⟨rfl, R⟩))
    · exact mw_checkAppend_bad w (Or.inr d) (br_f (by decide) (mw_yAppend_no (by omega) b7 (by omega) (Or.inr (Or.inl ⟨w, Or.inr d, rfl⟩)) ⟨rfl, R⟩))
    · by_cases f : fr = ca
      · subst f
        exact mw_checkAppend_full w hp (by omega) (br_f (by decide) (mw_yAppend_no (by omega) (Nat.le_refl _) (by omega) (Or.inr (Or.inr ⟨w, ⟨p, hp, rfl⟩, rfl, rfl⟩)) ⟨rfl, R⟩))
      · refine mw_checkAppend_ok w hp (by omega) (show fr < ca by omega) (by omega) (br_t rfl ?_)
        refine mw_append (N := fr) (by omega) (by omega) h6 (fun d hd hz hne => ?_)
        refine nm_r (nI_1 mk) ?_
        rw [nI_clamp (show mk + 1 < 2 ^ 31 by omega)]
        refine ⟨vp_in_nI (by omega) (by decide), nm_e ?_⟩
        refine mw_yAppend_1 (by omega) (show fr < ca by omega) b4 w hp ⟨rfl, ?_⟩
        rw [lN_1]
        have hl : ∀ j, j < fr → lp j = upd lp fr (nI p) j ∧ lv j = upd lv fr v2 j ∧ lm j = upd lm fr 1 j := fun j hj => ⟨(pk_un (by omega)).symm, (pk_un (by omega)).symm, (pk_un (by omega)).symm⟩
        refine mw_in (mk := mk + 1) (cm := fr + 1) ⟨⟨b1, b2, b3, b4, b5, b6⟩, ⟨by omega, by omega, by omega, by omega, by omega⟩, by omega, by omega, by omega⟩ (mw_G2_commit h2 hp) ?_ (mw_G4_congr h4 (fun j hj => hl j (by omega))) (mw_G5_congr h5 (by omega) (fun j hj => ⟨(hl j (by omega)).1, (hl j (by omega)).2.1⟩)) (mw_IX_put h6 (by omega) hd hz hne (fun j hj => pk_un (by omega)) pk_us)
        exact mw_G3_append h3 b9 (by rw [pk_lT (by omega)]; omega)
section
variable {pc ca rc mk fr cm sy cp bc rs wr : Int32}
variable {hh la : Int64}
variable {fv dv lp lv lm dp dw dm ix ea ac rm : Nat → Int32}
variable {li lq di dq : Nat → Int64}

theorem mw_xUndo {f S : Nat} (hS : S < 2 ^ 31) (hf : f < 2 ^ 31) {post : Int32 → SX → Prop} (ha : S ≤ f → ∀ x, mw_CL (nI f) ix x → post 0 (pc, ca, rc, hh, la, mk, nI f, cm, nI S, cp, bc, rs, wr, fv, dv, lp, lv, lm, li, lq, dp, dw, dm, di, dq, x, ea, ac, rm)) (hb : f < S → ∀ x, mw_CL (nI f) ix x → post 0 (pc, ca, rc, hh, la, mk, nI f, cm, nI f, cp, bc, rs, wr, fv, dv, lp, lv, lm, li, lq, dp, dw, dm, di, dq, x, ea, ac, rm)) : wX_undo_55 post pc ca rc hh la mk (nI f) cm (nI S) cp bc rs wr fv dv lp lv lm li lq dp dw dm di dq ix ea ac rm := by
  unfold wX_undo_55 wX_undo_74
  refine pk_le S f (fun c => ?_) (fun c => ?_)
  · exact mw_cleanIndex (fun x hx => ha c x hx)
  · exact mw_cleanIndex (fun x hx => hb c x hx)
end
section
variable {yp yo yr yb yf yw ys yc yt : Int32}
variable {ba fp fw fm ya ym sn : Nat → Int32}

theorem mw_yUndo {f S : Nat} (hS : S < 2 ^ 31) (hf : f < 2 ^ 31) {post : Int32 → SY → Prop} (ha : S ≤ f → post 0 (yp, yo, yr, yb, nI f, yw, nI S, yc, yt, ba, fp, fw, fm, ya, ym, sn)) (hb : f < S → post 0 (yp, yo, yr, yb, nI f, yw, nI f, yc, yt, ba, fp, fw, fm, ya, ym, sn)) : wY_undo_55 post yp yo yr yb (nI f) yw (nI S) yc yt ba fp fw fm ya ym sn := by
  unfold wY_undo_55
  exact pk_le S f ha hb
end
theorem i_vc_undo {k : Nat} {u : SX} {v : SY} (I : i_Rel k u v) (hk : k + 3 ≤ 1539) (v1 : Int32) : wpX_undo (fun r u' => wpY_undo (fun r' v' => r' = r ∧ i_Rel (k + 3) u' v') v v1) u v1 := by
  refine mw_el (Q := fun u v => wpX_undo (fun r u' => wpY_undo (fun r' v' => r' = r ∧ i_Rel (k + 3) u' v') v v1) u v1) I ?_
  intro pc ca rc la mk fr cm sy cp bc rs hh wr fv dv lp lv lm li lq dp dw dm di dq ix ea ac rm ba fp fw fm sn h1 h2 h3 h4 h5 h6
  have R := mw_in (mw_G1_up h1) h2 h3 h4 h5 h6
  obtain ⟨⟨b1, b2, b3, b4, b5, b6⟩, ⟨b7, b8, b9, b10, b11⟩, b12, b13, b14⟩ := id h1
  have e0 := h2.2.2.1
  have eC : mw_lme fm fr = cm := by rw [(mw_G2_lme h2 (Nat.le_refl fr)).1]; exact e0.symm
  have hsub : nI fr - nI cm = nI (fr - cm) := pk_sub b8
  have hzero : ∀ j, cm ≤ j → j < fr → lm j = 0 := fun j a b => mw_lme_zero fr j (by omega) b
  have fin : ∀ (f s : Nat) (w : Int32) (x : Nat → Int32), cm ≤ f → f ≤ fr → (w = 0 → f = cm) → ((s = sy ∧ sy ≤ f) ∨ (s = f ∧ f < sy)) → mw_CL (nI f) ix x → i_Rel (k + 3) (nI pc, nI ca, nI rc, hh, lN la, nI mk, nI f, nI cm, nI s, nI cp, nI bc, nI rs, w, fv, dv, lp, lv, lm, li, lq, dp, dw, dm, di, dq, x, ea, ac, rm) (nI pc, nI ca, nI rc, nI bc, nI f, w, nI s, nI cp, nI rs, ba, fp, fw, fm, ac, rm, sn) := by
    intro f s w x a1 a2 a3 a4 a5
    have hm : mk ≤ f := by
      have := (mw_lme_cut (m := lm) (a := f) (n := fr) (by omega) a2).2
      have := mw_cnt_le lm f
      have := h2.2.2.2.1
      omega
    exact mw_in ⟨⟨b1, b2, b3, b4, b5, b6⟩, ⟨by omega, by omega, by omega, by omega, hm⟩, by omega, by omega, by omega⟩ (mw_G2_undo h2 a1 a2 a3) (mw_G3_undo h3 hzero a1 a2 b9 a4) (mw_G4_undo h4 e0 a1 a2 b9 a4) h5 (mw_IX_clean h6 a2 (by omega) a5)
  unfold wpX_undo wpY_undo
  by_cases w : wr = 0
  · exact br_t w (br_t w ⟨rfl, R⟩)
  · refine br_f w ?_
    rw [hsub]
    by_cases c : v1 ≤ nI (fr - cm)
    · refine br_t c ?_
      by_cases d : 0 ≤ v1
      · obtain ⟨q, hq, rfl⟩ := nI_of (x := v1) (Int32.not_lt.mpr d)
        have hq2 : q ≤ fr - cm := (nI_leI hq (by omega)).mp c
        refine br_t d (nm_r (nI_add cm q) ?_)
        refine mw_xUndo (by omega) (by omega) (fun o x hx => ?_) (fun o x hx => ?_)
        · refine br_f w (mw_yLMEe (c := cm) (by omega) eC ?_)
          rw [hsub]
          exact br_t c (br_t d (nm_r (nI_add cm q) (mw_yUndo (by omega) (by omega) (fun _ => ⟨rfl, fin (cm + q) sy wr x (by omega) (by omega) (fun z => absurd z w) (Or.inl ⟨rfl, o⟩) hx⟩) (fun z => by omega))))
        · refine br_f w (mw_yLMEe (c := cm) (by omega) eC ?_)
          rw [hsub]
          exact br_t c (br_t d (nm_r (nI_add cm q) (mw_yUndo (by omega) (by omega) (fun z => by omega) (fun _ => ⟨rfl, fin (cm + q) (cm + q) wr x (by omega) (by omega) (fun z => absurd z w) (Or.inr ⟨rfl, o⟩) hx⟩))))
      · refine br_f d ?_
        refine mw_xUndo (by omega) (by omega) (fun o x hx => ?_) (fun o x hx => ?_)
        · refine br_f w (mw_yLMEe (c := cm) (by omega) eC ?_)
          rw [hsub]
          exact br_t c (br_f d (mw_yUndo (by omega) (by omega) (fun _ => ⟨rfl, fin cm sy 0 x (by omega) (by omega) (fun _ => rfl) (Or.inl ⟨rfl, o⟩) hx⟩) (fun z => by omega)))
        · refine br_f w (mw_yLMEe (c := cm) (by omega) eC ?_)
          rw [hsub]
          exact br_t c (br_f d (mw_yUndo (by omega) (by omega) (fun z => by omega) (fun _ => ⟨rfl, fin cm cm 0 x (by omega) (by omega) (fun _ => rfl) (Or.inr ⟨rfl, o⟩) hx⟩)))
    · refine br_f c (br_f w (mw_yLMEe (c := cm) (by omega) eC ?_))
      rw [hsub]
      exact br_f c ⟨rfl, R⟩
end
section
theorem i_vc_sync {k : Nat} {u : SX} {v : SY} (I : i_Rel k u v) (hk : k + 3 ≤ 1539) : wpX_sync (fun r u' => wpY_sync (fun r' v' => r' = r ∧ i_Rel (k + 3) u' v') v) u := by
  refine mw_el (Q := fun u v => wpX_sync (fun r u' => wpY_sync (fun r' v' => r' = r ∧ i_Rel (k + 3) u' v') v) u) I ?_
  intro pc ca rc la mk fr cm sy cp bc rs hh wr fv dv lp lv lm li lq dp dw dm di dq ix ea ac rm ba fp fw fm sn h1 h2 h3 h4 h5 h6
  obtain ⟨⟨b1, b2, b3, b4, b5, b6⟩, ⟨b7, b8, b9, b10, b11⟩, b12, b13, b14⟩ := id h1
  have e4 := h2.2.2.2.1
  unfold wpX_sync wpY_sync
  subst e4
  have hmono := mw_cnt_mono (m := lm) (a := sy) fr b9
  refine mw_marksWithin (F := fr) (by omega) b9 h2.2.2.2.2.1 ?_
  refine mw_syncLog (by omega) b9 h2.2.1 ?_
  refine mw_marksWithin (F := fr) (by omega) (Nat.le_refl fr) h2.2.2.2.2.1 ?_
  refine mw_yCWe (c := mw_cnt lm sy) (by omega) (mw_G2_lme h2 b9).2 (mw_yCWe (c := mw_cnt lm fr) (by omega) (mw_G2_lme h2 (Nat.le_refl fr)).2 ⟨?_, ?_⟩)
  · rw [pk_sub (by omega), pk_sub (by omega)]
    exact congrArg nI (by omega)
  · exact mw_in ⟨⟨b1, b2, b3, b4, b5, b6⟩, ⟨by omega, by omega, by omega, by omega, by omega⟩, by omega, by omega, by omega⟩ h2 (mw_G3_sync h2.2.1 h3 b9) (mw_G4_sync h4 b9) h5 h6
section
variable {pc ca rc mk fr cm sy cp bc rs wr : Int32}
variable {hh la : Int64}
variable {fv dv lp lv lm dp dw dm ix ea ac rm : Nat → Int32}
variable {li lq di dq : Nat → Int64}

theorem mw_xCopy {P C E m : Nat} (hP : P ≤ 16) (hE : E ≤ 32) (hC : C + m = E) (hpg : ∀ j, j < E → ∃ p, p < P ∧ lp j = nI p) (hJ : mw_J P C lp lv fv fv) {post : Int32 → SX → Prop} (hp : ∀ g, mw_J P E lp lv fv g → post (nI m) (pc, ca, rc, hh, la, mk, fr, cm, sy, nI E, bc, rs, wr, g, dv, lp, lv, lm, li, lq, dp, dw, dm, di, dq, ix, ea, ac, rm)) : wX_checkpoint_37 post (nI m) pc ca rc hh la mk fr cm sy (nI C) bc rs wr fv dv lp lv lm li lq dp dw dm di dq ix ea ac rm := by
  unfold wX_checkpoint_37
  refine nm_r (e' := nI E) (by rw [nI_add, hC]) ⟨33, ?_⟩
  exact mw_copy_loop hP hE hpg hp 33 C fv (by omega) (by omega) hJ
end
section
variable {yp yo yr yb yf yw ys yc yt : Int32}
variable {ba fp fw fm ya ym sn : Nat → Int32}

theorem mw_yCopy {C m : Nat} {post : Int32 → SY → Prop} (hp : post (nI m) (yp, yo, yr, yb, yf, yw, ys, nI (C + m), yt, ba, fp, fw, fm, ya, ym, sn)) : wY_checkpoint_90 post (nI m) yp yo yr yb yf yw ys (nI C) yt ba fp fw fm ya ym sn := by
  unfold wY_checkpoint_90
  exact nm_r (nI_add C m) hp
theorem mw_yCP {R F C L s : Nat} {x : Int32} (hR : R ≤ 8) (hC : C ≤ 32) (hL : L ≤ 32) (hs : 1 ≤ s) (hs2 : s < 2 ^ 31) (e : mw_lim ya ym R x = nI L) {post : Int32 → SY → Prop}
    (h0 : L ≤ C → post 0 (yp, yo, nI R, yb, nI F, yw, ys, nI C, yt, ba, fp, fw, fm, ya, ym, sn)) (h1 : ∀ m, C < L → (m = if L - C ≤ s then L - C else s) → post (nI m) (yp, yo, nI R, yb, nI F, yw, nI F, nI (C + m), yt, ba, fp, fw, fm, ya, ym, sn)) : ∃ n18 : Nat, wY_checkpoint_18 post (nI s) yp yo (nI R) yb (nI F) yw ys (nI C) yt ba fp fw fm ya ym sn n18 x 0 := by
  refine ⟨9, mw_yCP_loop (x := x) hR (fun n => ?_) 9 0 (by omega) (by omega)⟩
  rw [wY_checkpoint_18, e]
  refine br_t (nI_le (Nat.le_refl R) (by omega)) ?_
  refine pk_lt C L (fun c => ?_) h0
  refine nm_r (pk_sub (by omega)) (pk_le (L - C) s (fun d => ?_) (fun d => ?_))
  · exact mw_yCopy (h1 (L - C) c (by rw [if_pos d]))
  · exact mw_yCopy (h1 s c (by rw [if_neg (by omega)]))
end
theorem i_vc_checkpoint {k : Nat} {u : SX} {v : SY} (I : i_Rel k u v) (hk : k + 3 ≤ 1539) (v1 : Int32) : wpX_checkpoint (fun r u' => wpY_checkpoint (fun r' v' => r' = r ∧ i_Rel (k + 3) u' v') v v1) u v1 := by
  refine mw_el (Q := fun u v => wpX_checkpoint (fun r u' => wpY_checkpoint (fun r' v' => r' = r ∧ i_Rel (k + 3) u' v') v v1) u v1) I ?_
  intro pc ca rc la mk fr cm sy cp bc rs hh wr fv dv lp lv lm li lq dp dw dm di dq ix ea ac rm ba fp fw fm sn h1 h2 h3 h4 h5 h6
  have R := mw_in (mw_G1_up h1) h2 h3 h4 h5 h6
  obtain ⟨⟨b1, b2, b3, b4, b5, b6⟩, ⟨b7, b8, b9, b10, b11⟩, b12, b13, b14⟩ := id h1
  have e0 := h2.2.2.1
  have eC : mw_lme fm fr = cm := by rw [(mw_G2_lme h2 (Nat.le_refl fr)).1]; exact e0.symm
  unfold wpX_checkpoint wpY_checkpoint
  by_cases c : 1 ≤ v1
  · obtain ⟨s, hs, rfl⟩ := nI_of (x := v1) (fun z => by
      rw [Int32.le_iff_toInt_le, show (1 : Int32).toInt = 1 from by decide] at c
      rw [Int32.lt_iff_toInt_lt, show (0 : Int32).toInt = 0 from by decide] at z
      omega)
    have hs1 : 1 ≤ s := (nI_leI (a := 1) (by omega) hs).mp c
    obtain ⟨L, l1, l2, l3⟩ := mw_lim_nat (ac := ac) (rm := rm) (c := cm) (by omega) rc (fun r hr ha => by
      obtain ⟨m, m1, m2, _⟩ := h5 r hr ha
      exact ⟨m, m1, m2⟩)
    refine br_t c (mw_copyLimit b6 ?_)
    rw [l2]
    by_cases d : L ≤ cp
    · refine nm_e (br_f ?_ ?_)
      · rw [Int32.lt_iff_toInt_lt, pk_sub_toInt (by omega) (by omega), show (0 : Int32).toInt = 0 from by decide]
        omega
      · refine br_t c (mw_yLMEe (c := cm) (by omega) eC ?_)
        exact mw_yCP b6 (by omega) (by omega) hs1 hs l2 (fun _ => ⟨rfl, R⟩) (fun m z => by omega)
    · have fin : ∀ m, cp + m ≤ L → ∀ g, mw_J pc (cp + m) lp lv fv g → i_Rel (k + 3) (nI pc, nI ca, nI rc, hh, lN la, nI mk, nI fr, nI cm, nI fr, nI (cp + m), nI bc, nI rs, wr, g, dv, lp, lv, lm, li, lq, mw_mx mw_one sy fr lp dp, mw_mx mw_one sy fr lv dw, mw_mx mw_one sy fr lm dm, mw_mx mw_one sy fr li di, mw_mx mw_one sy fr lq dq, ix, ea, ac, rm) (nI pc, nI ca, nI rc, nI bc, nI fr, wr, nI fr, nI (cp + m), nI rs, ba, fp, fw, fm, ac, rm, sn) := by
        intro m hm g hg
        exact mw_in ⟨⟨b1, b2, b3, b4, b5, b6⟩, ⟨by omega, by omega, by omega, by omega, by omega⟩, by omega, by omega, by omega⟩ h2 (mw_G3_sync h2.2.1 h3 b9) (mw_G4_copy (mw_G4_sync h4 b9) (by omega) hg) (mw_G5_copy h5 (fun r hr ha m' x y => by have := l3 r hr ha m' x y; omega) hg) h6
      have hJ : mw_J pc cp lp lv fv fv := by
        obtain ⟨q, q1, q2, q3⟩ := h4
        exact fun p hp => ⟨(q3 p hp).2, fun _ => rfl⟩
      have hpg : ∀ m, cp + m ≤ L → ∀ j, j < cp + m → ∃ p, p < pc ∧ lp j = nI p := fun m hm j hj => (h2.1 j (by omega)).2.2.2
      refine nm_r (pk_sub (by omega)) (br_t (nI_lt (a := 0) (by omega) (by omega)) ?_)
      refine mw_syncLog (by omega) b9 h2.2.1 ?_
      refine pk_le (L - cp) s (fun e => ?_) (fun e => ?_)
      · refine mw_xCopy (m := L - cp) b2 (show cp + (L - cp) ≤ 32 by omega) rfl (hpg (L - cp) (by omega)) hJ (fun g hg => ?_)
        refine br_t c (mw_yLMEe (c := cm) (by omega) eC ?_)
        refine mw_yCP b6 (by omega) (by omega) hs1 hs l2 (fun z => by omega) (fun m _ hm => ?_)
        rw [if_pos e] at hm
        rw [hm]
        exact ⟨rfl, fin (L - cp) (by omega) g hg⟩
      · refine mw_xCopy (m := s) b2 (show cp + s ≤ 32 by omega) rfl (hpg s (by omega)) hJ (fun g hg => ?_)
        refine br_t c (mw_yLMEe (c := cm) (by omega) eC ?_)
        refine mw_yCP b6 (by omega) (by omega) hs1 hs l2 (fun z => by omega) (fun m _ hm => ?_)
        rw [if_neg (by omega)] at hm
        rw [hm]
        exact ⟨rfl, fin s (by omega) g hg⟩
  · exact br_f c (br_f c ⟨rfl, R⟩)
theorem i_vc_beginWrite {k : Nat} {u : SX} {v : SY} (I : i_Rel k u v) (hk : k + 3 ≤ 1539) : wpX_beginWrite (fun r u' => wpY_beginWrite (fun r' v' => r' = r ∧ i_Rel (k + 3) u' v') v) u := by
  refine mw_el (Q := fun u v => wpX_beginWrite (fun r u' => wpY_beginWrite (fun r' v' => r' = r ∧ i_Rel (k + 3) u' v') v) u) I ?_
  intro pc ca rc la mk fr cm sy cp bc rs hh wr fv dv lp lv lm li lq dp dw dm di dq ix ea ac rm ba fp fw fm sn h1 h2 h3 h4 h5 h6
  have R := mw_in (mw_G1_up h1) h2 h3 h4 h5 h6
  obtain ⟨⟨b1, b2, b3, b4, b5, b6⟩, ⟨b7, b8, b9, b10, b11⟩, b12, b13, b14⟩ := id h1
  have e0 := h2.2.2.1
  have eC : mw_lme fm fr = cm := by rw [(mw_G2_lme h2 (Nat.le_refl fr)).1]; exact e0.symm
  unfold wpX_beginWrite wpY_beginWrite
  by_cases w : wr = 0
  · have hfc : fr = cm := h2.2.2.2.2.2 w
    have R1 : i_Rel (k + 3) (nI pc, nI ca, nI rc, hh, lN la, nI mk, nI fr, nI cm, nI sy, nI cp, nI bc, nI rs, 1, fv, dv, lp, lv, lm, li, lq, dp, dw, dm, di, dq, ix, ea, ac, rm) (nI pc, nI ca, nI rc, nI bc, nI fr, 1, nI sy, nI cp, nI rs, ba, fp, fw, fm, ac, rm, sn) :=
      mw_in (mw_G1_up h1) ⟨h2.1, h2.2.1, h2.2.2.1, h2.2.2.2.1, h2.2.2.2.2.1, fun z => absurd z (by decide)⟩ h3 h4 h5 h6
    refine br_t w (mw_canRestart b6 (by omega) (by omega) (fun g1 g2 g3 => ?_) (fun g => ?_))
    · refine br_f (by decide) (mw_restartLog b2 (fun d x hd hx => ?_))
      refine br_t w (mw_yLMEe (c := cm) (by omega) eC ?_)
      refine br_f (nI_ne0 (by omega) (by omega)) (br_t (by rw [g2]) ⟨9, ?_⟩)
      refine mw_yBW_loop b6 (fun _ => ⟨17, ?_⟩) (fun z => absurd g3 z) 9 0 (by omega) (by omega) (fun r hr => absurd hr (by omega))
      refine mw_yBW_base b2 (show fr ≤ 32 by omega) (by omega) (fun g hg => ⟨rfl, ?_⟩) 17 0 ba (by omega) (by omega) (fun p hp => absurd hp (by omega)) (fun _ _ => rfl)
      rw [(mw_G2_lme h2 (Nat.le_refl fr)).2, ← h2.2.2.2.1, nI_add, nI_1, lN_1]
      have hm := mw_lme_mono (m := lm) (a := sy) fr b9
      have hg' : ∀ p, p < pc → g p = mw_img (ba p) lp lv (nI p) cp := by
        intro p hp
        rw [hg p hp, mw_G2_img h2 (by omega), g2]
      exact mw_in (mk := 0) (fr := 0) (cm := 0) (sy := 0) (cp := 0) (bc := bc + mk) (rs := rs + 1) (la := la + 1) ⟨⟨b1, b2, b3, b4, b5, b6⟩, ⟨by omega, by omega, by omega, by omega, by omega⟩, by omega, by omega, by omega⟩
        ⟨fun j hj => absurd hj (by omega), h2.2.1, rfl, rfl, ⟨h2.2.2.2.2.1.1, fun i hi => absurd hi (by omega)⟩, fun _ => rfl⟩ (mw_G3_restart h3 (by rw [pk_lT (by omega)]; omega)) (mw_G4_restart h4 (by omega) hd hg') (mw_G5_restart h5 g3 (by omega)) (mw_IX_clean h6 (Nat.zero_le _) (by omega) hx)
    · refine br_t rfl (br_t w (mw_yLMEe (c := cm) (by omega) eC ?_))
      refine pk_eq (y := 0) cm 0 (fun _ => ⟨rfl, R1⟩) (fun z1 => pk_eq cp cm (fun z2 => ⟨9, ?_⟩) (fun _ => ⟨rfl, R1⟩))
      exact mw_yBW_loop b6 (fun z3 => absurd ⟨z1, z2, z3⟩ g) (fun _ => ⟨rfl, R1⟩) 9 0 (by omega) (by omega) (fun r hr => absurd hr (by omega))
  · exact br_f w (br_f w ⟨rfl, R⟩)
end
section
theorem mw_LS_ex (x : Int32) (S F : Nat) : ∃ s, mw_LS x S F 0 s := by
  obtain ⟨s, h1, h2⟩ := pk_least (fun j => F ≤ j ∨ ¬ (j < S ∨ mw_sh x j = 1)) ⟨F, Or.inl (Nat.le_refl F)⟩
  have h3 : ∀ j, j < s → j < F ∧ (j < S ∨ mw_sh x j = 1) := by
    intro j hj
    have h4 := h2 j hj
    refine ⟨?_, ?_⟩
    · apply Classical.byContradiction
      intro c
      exact h4 (Or.inl (by omega))
    · apply Classical.byContradiction
      intro c
      exact h4 (Or.inr c)
  refine ⟨s, Nat.zero_le _, ?_, fun j _ hj => (h3 j hj).2, fun hs => ?_⟩
  · apply Classical.byContradiction
    intro c
    have := (h3 F (by omega)).1
    omega
  · rcases h1 with h1 | h1
    · omega
    · exact h1
theorem mw_LS_un {x : Int32} {S F s t : Nat} (h : mw_LS x S F 0 s) (g : mw_LS x S F 0 t) : s = t := by
  obtain ⟨_, a2, a3, a4⟩ := h
  obtain ⟨_, c2, c3, c4⟩ := g
  apply Classical.byContradiction
  intro hne
  by_cases c : s < t
  · exact a4 (by omega) (c3 s (Nat.zero_le _) c)
  · exact c4 (by omega) (a3 t (Nat.zero_le _) (by omega))
section
variable {pc ca rc mk fr cm sy cp bc rs wr : Int32}
variable {hh la : Int64}
variable {fv dv lp lv lm dp dw dm ix ea ac rm : Nat → Int32}
variable {li lq di dq : Nat → Int64}

theorem mw_xOff_loop {R C s N : Nat} {x3 : Int32} (hR : R ≤ 8) (hC : C ≤ 32) (hs : s ≤ C) (hlink : ∀ j, j < s → dq j = mw_pv hh di j)
    (hst : ∀ i, s ≤ i → i < C → (∀ j, s ≤ j → j ≤ i → dq j = mw_pv hh di j) → dm i = 0) (h0 : ea 0 = 0) (hb : ∀ j, dm j = 0 ∨ dm j = 1) (hN : N ≤ 32) (H : mw_IX N lp ix)
    {post : Int32 → SX → Prop} (hp : ∀ e x, mw_EA dm s e → mw_IX (mw_lme dm s) (mw_mx mw_one 0 C dp lp) x →
      post (x3 - nI (mw_cnt dm s)) (pc, nI C, nI R, hh, la, nI (mw_cnt dm s), nI (mw_lme dm s), nI (mw_lme dm s), nI (mw_lme dm s), 0, bc, rs, 0, fv, dv, mw_mx mw_one 0 C dp lp, mw_mx mw_one 0 C dw lv, mw_mx mw_one 0 C dm lm, mw_mx mw_one 0 C di li, mw_mx mw_one 0 C dq lq, dp, dw, dm, di, dq, x, e, mw_off R ac, rm)) :
    ∀ (n i : Nat), i ≤ R → R - i < n → wX_crash_18 post x3 pc (nI C) (nI R) hh la mk fr cm sy cp bc rs wr n (nI i) fv dv lp lv lm li lq dp dw dm di dq ix ea (mw_off i ac) rm := by
  intro n
  induction n with
  | zero => intro i _ h; omega
  | succ n ih =>
    intro i hi hn
    rw [wX_crash_18]
    refine pk_le R i (fun h => ?_) (fun h => ?_)
    · have : i = R := by omega
      subst this
      exact mw_recover hC hs hlink hst h0 hb hN H (fun e x he hx => hp e x he hx)
    · rw [nI_clamp (show i < 2 ^ 31 by omega), mw_off_s]
      exact ⟨vp_in_nI (by omega) (by decide), nm_e (nm_r (nI_1 i) (ih (i + 1) (by omega) (by omega)))⟩
end
theorem i_vc_crash {k : Nat} {u : SX} {v : SY} (I : i_Rel k u v) (hk : k + 3 ≤ 1539) (v1 : Int32) (v2 : Int32) : wpX_crash (fun r u' => wpY_crash (fun r' v' => r' = r ∧ i_Rel (k + 3) u' v') v v1 v2) u v1 v2 := by
  refine mw_el (Q := fun u v => wpX_crash (fun r u' => wpY_crash (fun r' v' => r' = r ∧ i_Rel (k + 3) u' v') v v1 v2) u v1 v2) I ?_
  intro pc ca rc la mk fr cm sy cp bc rs hh wr fv dv lp lv lm li lq dp dw dm di dq ix ea ac rm ba fp fw fm sn h1 h2 h3 h4 h5 h6
  obtain ⟨⟨b1, b2, b3, b4, b5, b6⟩, ⟨b7, b8, b9, b10, b11⟩, b12, b13, b14⟩ := id h1
  have e4 := h2.2.2.2.1
  obtain ⟨s, hs⟩ := mw_LS_ex v1 sy fr
  have hsf := hs.2.1
  have hlm := mw_cr_lm h3 hs
  have hle := mw_lme_le lm s
  have hcl := mw_cnt_le lm s
  have hcut := mw_lme_cut (m := lm) (a := mw_lme lm s) (n := s) (Nat.le_refl _) hle
  have hcc := mw_cnt_le lm (mw_lme lm s)
  have hmono := mw_cnt_mono (m := lm) (a := s) fr hsf
  unfold wpX_crash wpY_crash
  refine mw_crashLog (by omega) b9 h2.2.1 ?_
  refine mw_crashFile b2 (fun g d hF => ?_)
  refine ⟨9, ?_⟩
  have goal : ∀ post : Int32 → SX → Prop, (∀ e x, mw_EA (mw_mx (mw_sh v1) sy fr lm dm) s e → mw_IX (mw_lme (mw_mx (mw_sh v1) sy fr lm dm) s) (mw_mx mw_one 0 ca (mw_mx (mw_sh v1) sy fr lp dp) lp) x →
      post (nI mk - nI (mw_cnt (mw_mx (mw_sh v1) sy fr lm dm) s)) (nI pc, nI ca, nI rc, hh, lN la, nI (mw_cnt (mw_mx (mw_sh v1) sy fr lm dm) s), nI (mw_lme (mw_mx (mw_sh v1) sy fr lm dm) s), nI (mw_lme (mw_mx (mw_sh v1) sy fr lm dm) s), nI (mw_lme (mw_mx (mw_sh v1) sy fr lm dm) s), nI 0, nI bc, nI rs, 0, g, d, mw_mx mw_one 0 ca (mw_mx (mw_sh v1) sy fr lp dp) lp, mw_mx mw_one 0 ca (mw_mx (mw_sh v1) sy fr lv dw) lv, mw_mx mw_one 0 ca (mw_mx (mw_sh v1) sy fr lm dm) lm, mw_mx mw_one 0 ca (mw_mx (mw_sh v1) sy fr li di) li, mw_mx mw_one 0 ca (mw_mx (mw_sh v1) sy fr lq dq) lq, mw_mx (mw_sh v1) sy fr lp dp, mw_mx (mw_sh v1) sy fr lv dw, mw_mx (mw_sh v1) sy fr lm dm, mw_mx (mw_sh v1) sy fr li di, mw_mx (mw_sh v1) sy fr lq dq, x, e, mw_off rc ac, rm)) →
      wX_crash_18 post (nI mk) (nI pc) (nI ca) (nI rc) hh (lN la) (nI mk) (nI fr) (nI cm) (nI sy) (nI cp) (nI bc) (nI rs) wr 9 0 g d lp lv lm li lq (mw_mx (mw_sh v1) sy fr lp dp) (mw_mx (mw_sh v1) sy fr lv dw) (mw_mx (mw_sh v1) sy fr lm dm) (mw_mx (mw_sh v1) sy fr li di) (mw_mx (mw_sh v1) sy fr lq dq) ix ea ac rm := by
    intro post hpost
    have h := mw_xOff_loop (pc := nI pc) (hh := hh) (la := lN la) (mk := nI mk) (fr := nI fr) (cm := nI cm) (sy := nI sy) (cp := nI cp) (bc := nI bc) (rs := nI rs) (wr := wr) (fv := g) (dv := d) (lp := lp) (lv := lv) (lm := lm) (li := li) (lq := lq) (dp := mw_mx (mw_sh v1) sy fr lp dp) (dw := mw_mx (mw_sh v1) sy fr lv dw) (dm := mw_mx (mw_sh v1) sy fr lm dm) (di := mw_mx (mw_sh v1) sy fr li di) (dq := mw_mx (mw_sh v1) sy fr lq dq) (ix := ix) (ea := ea) (ac := ac) (rm := rm) (x3 := nI mk) b6 b4 (show s ≤ ca by omega) (mw_cr_link h3 hs) (mw_cr_stale h3 b9 hs) h2.2.2.2.2.1.1 (mw_cr_01 h2.2.1 h3.1) (show fr ≤ 32 by omega) h6 hpost 9 0 (by omega) (by omega)
    rw [mw_off_0] at h
    exact h
  refine goal _ (fun e x he hx => ?_)
  refine mw_yCWe (c := mk) (by omega) (by rw [(mw_G2_lme h2 (Nat.le_refl fr)).2]; exact e4.symm) ⟨9, ?_⟩
  have hY : ∀ post : Int32 → SY → Prop, (∀ t, mw_LS v1 sy fr 0 t → post (nI (bc + mk) - nI (bc + mw_cnt fm (mw_lme fm t))) (nI pc, nI ca, nI rc, nI bc, nI (mw_lme fm t), 0, nI (mw_lme fm t), 0, nI rs, ba, fp, fw, fm, mw_off rc ac, rm, sn)) →
      wY_crash_12 post v1 (nI (bc + mk)) (nI pc) (nI ca) (nI rc) (nI bc) (nI fr) wr (nI sy) (nI cp) (nI rs) 9 0 ba fp fw fm ac rm sn := by
    intro post hpost
    have h := mw_yOff_loop (yp := nI pc) (yo := nI ca) (yw := wr) (yc := nI cp) (yt := nI rs) (ba := ba) (fp := fp) (fw := fw) (fm := fm) (ya := ac) (ym := rm) (sn := sn) (x := v1) (x3 := nI (bc + mk)) b6 (show fr ≤ 32 by omega) (show sy ≤ 32 by omega) hpost 9 0 (by omega) (by omega)
    rw [mw_off_0] at h
    exact h
  refine hY _ (fun t ht => ?_)
  have hts : t = s := mw_LS_un ht hs
  subst hts
  rw [(mw_G2_lme h2 hsf).1, (mw_G2_lme h2 (show mw_lme lm t ≤ fr by omega)).2, hcut.2, hlm.2]
  refine ⟨?_, ?_⟩
  · rw [pk_sub (by omega), pk_sub (by omega)]
    exact congrArg nI (by omega)
  · have r2 := mw_cr_G2 h2 h3 b7 hs rfl he
    have r3 := mw_cr_G3 h2.2.1 h3 b9 b7 hs rfl
    have r4 := mw_cr_G4 h4 h3 b9 b7 hs rfl hF
    rw [hlm.2] at r2
    rw [hlm.1] at r2 r3 r4 hx ⊢
    exact mw_in (cp := 0) ⟨⟨b1, b2, b3, b4, b5, b6⟩, ⟨by omega, by omega, by omega, by omega, by omega⟩, by omega, by omega, by omega⟩ r2 r3 r4 mw_cr_G5 hx
end
