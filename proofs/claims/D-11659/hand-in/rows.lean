section
/-! codes: 0 says nothing (-1), c + 1 says c -/
def ma_o (c : Nat) : Int32 := match c with
  | 0 => -1
  | k + 1 => nI k
theorem ma_oS (k : Nat) : ma_o (k + 1) = nI k := rfl
theorem ma_o0 : ma_o 0 = -1 := rfl
theorem ma_oT {c : Nat} (h : c ≤ 2 ^ 31) : (ma_o c).toInt = (c : Int) - 1 := by
  cases c with
  | zero => decide
  | succ k =>
    show (nI k).toInt = _
    rw [nI_toInt (by omega)]
    omega
theorem ma_o_le {a b : Nat} (ha : a ≤ 2 ^ 31) (hb : b ≤ 2 ^ 31) : ma_o a ≤ ma_o b ↔ a ≤ b := by
  rw [Int32.le_iff_toInt_le, ma_oT ha, ma_oT hb]
  omega
theorem ma_o_eq {a b : Nat} (ha : a ≤ 2 ^ 31) (hb : b ≤ 2 ^ 31) : ma_o a = ma_o b ↔ a = b := by
  rw [← Int32.toInt_inj, ma_oT ha, ma_oT hb]
  omega
theorem ma_o_lt0 {c : Nat} (h : c ≤ 2 ^ 31) : ma_o c < 0 ↔ c = 0 := by
  rw [Int32.lt_iff_toInt_lt, ma_oT h, show (0 : Int32).toInt = 0 from rfl]
  omega
theorem ma_o_ge0 {c : Nat} (h : c ≤ 2 ^ 31) : 0 ≤ ma_o c ↔ c ≠ 0 := by
  rw [Int32.le_iff_toInt_le, ma_oT h, show (0 : Int32).toInt = 0 from rfl]
  omega
theorem ma_om1 (c : Nat) : ma_o (c + 1) + (-1) = ma_o c := by
  cases c with
  | zero => decide
  | succ k => exact pk_m1 k
/-- x < 0 on a code -/
theorem ma_bn {A B : Prop} {x : Int32} (c : Nat) (h : c ≤ 2 ^ 31) (f : c = 0 → A) (g : ∀ k, c = k + 1 → B) (hx : x = ma_o c := by rfl) : (x < 0 → A) ∧ (¬ x < 0 → B) := by
  subst hx
  refine br_c (fun z => f ((ma_o_lt0 h).mp z)) (fun z => ?_)
  cases c with
  | zero => exact absurd ((ma_o_lt0 h).mpr rfl) z
  | succ k => exact g k rfl
/-- 0 ≤ x on a code -/
theorem ma_bp {A B : Prop} {x : Int32} (c : Nat) (h : c ≤ 2 ^ 31) (f : ∀ k, c = k + 1 → A) (g : c = 0 → B) (hx : x = ma_o c := by rfl) : (0 ≤ x → A) ∧ (¬ 0 ≤ x → B) := by
  subst hx
  refine br_c (fun z => ?_) (fun z => ?_)
  · cases c with
    | zero => exact absurd rfl ((ma_o_ge0 h).mp z)
    | succ k => exact f k rfl
  · cases c with
    | zero => exact g rfl
    | succ k => exact absurd ((ma_o_ge0 h).mpr (by omega)) z
theorem ma_ble {A B : Prop} {x y : Int32} (a b : Nat) (f : a ≤ b → A) (g : b < a → B) (hx : x = ma_o a) (hy : y = ma_o b) (ha : a ≤ 2 ^ 31 := by omega) (hb : b ≤ 2 ^ 31 := by omega) : (x ≤ y → A) ∧ (¬ x ≤ y → B) := by
  subst hx hy
  rw [ma_o_le ha hb]
  exact ⟨f, fun z => g (by omega)⟩
theorem ma_beq {A B : Prop} {x y : Int32} (a b : Nat) (f : a = b → A) (g : a ≠ b → B) (hx : x = ma_o a) (hy : y = ma_o b) (ha : a ≤ 2 ^ 31 := by omega) (hb : b ≤ 2 ^ 31 := by omega) : (x = y → A) ∧ (¬ x = y → B) := by
  subst hx hy
  rw [ma_o_eq ha hb]
  exact ⟨f, g⟩
theorem ma_o16 : ∀ c, c < 200 → (ma_o c).toInt16.toInt32 = ma_o c := by decide +kernel
theorem ma_i16 : ∀ c, c < 200 → (nI c).toInt16.toInt32 = nI c := by decide +kernel
theorem ma_i8 : ∀ c, c < 100 → (nI c).toInt8.toInt32 = nI c := by decide +kernel
theorem ma_sh : ∀ s, s < 32 → ((nI s &&& 31).toBitVec.smod 32).toNat = s := by decide +kernel
theorem ma_bit {v s : Nat} (hv : v < 2 ^ 31) (hs : s < 32) : (nI v >>> (nI s &&& 31)) &&& 1 = nI (v / 2 ^ s % 2) := by
  have h2 : v / 2 ^ s ≤ v := Nat.div_le_self _ _
  rw [pk_shrN hv _ s (ma_sh s hs)]
  exact pk_andN (by omega) 1 (by decide)
theorem ma_pow : ∀ d, d < 9 → (1 : Int32) <<< ((8 - nI d) &&& 31) = nI (2 ^ (8 - d)) := by decide +kernel
/-! numbers of eight bits and their first d bits -/
theorem ma_half (u d : Nat) (hd : d < 8) : u / 2 ^ (8 - (d + 1)) = 2 * (u / 2 ^ (8 - d)) + u / 2 ^ (7 - d) % 2 := by
  have e1 : 8 - (d + 1) = 7 - d := by omega
  have e2 : 2 ^ (8 - d) = 2 ^ (7 - d) * 2 := by
    rw [show 8 - d = (7 - d) + 1 by omega, Nat.pow_succ]
  rw [e1, e2, ← Nat.div_div_eq_div_mul]
  omega
/-- the part below (d, p): its numbers' first d' bits -/
theorem ma_up {p i d d' : Nat} (hd : d ≤ 8) (h : d' ≤ d) (hi : i < 2 ^ (8 - d)) : (p * 2 ^ (8 - d) + i) / 2 ^ (8 - d') = p / 2 ^ (d - d') := by
  have e : 2 ^ (8 - d') = 2 ^ (8 - d) * 2 ^ (d - d') := by
    rw [← Nat.pow_add]
    congr 1
    omega
  have h0 : 0 < 2 ^ (8 - d) := Nat.pow_pos (by omega)
  rw [e, ← Nat.div_div_eq_div_mul, Nat.mul_comm, Nat.mul_add_div h0, Nat.div_eq_of_lt hi, Nat.add_zero]
theorem ma_dn (p b e : Nat) (hb : b < 2) : (2 * p + b) / 2 ^ (e + 1) = p / 2 ^ e := by
  rw [Nat.pow_succ, Nat.mul_comm (2 ^ e) 2, ← Nat.div_div_eq_div_mul]
  congr 1
  omega
/-! the entries: those of al live, entry k has the number 90 + 37 k and the width w k -/
def ma_v (k : Nat) : Nat := 90 + 37 * k
def ma_E (al : Nat → Bool) (w : Nat → Nat) : Nat → Nat → Nat → Nat
  | 0 => fun _ _ => 0
  | m + 1 => fun d p => if ma_E al w m d p = 0 ∧ al m = true ∧ w m = d ∧ ma_v m / 2 ^ (8 - d) = p then m + 1 else ma_E al w m d p
theorem ma_E_some {al : Nat → Bool} {w : Nat → Nat} : ∀ {m d p k : Nat}, ma_E al w m d p = k + 1 → k < m ∧ al k = true ∧ w k = d ∧ ma_v k / 2 ^ (8 - d) = p ∧ ∀ j, j < k → al j = true → w j = d → ¬ ma_v j / 2 ^ (8 - d) = p := by
  have Z : ∀ {m d p : Nat}, ma_E al w m d p = 0 → ∀ j, j < m → al j = true → w j = d → ¬ ma_v j / 2 ^ (8 - d) = p := by
    intro m
    induction m with
    | zero => intro d p _ j hj; exact absurd hj (by omega)
    | succ m ih =>
      intro d p h j hj ha hw hv
      simp only [ma_E] at h
      split at h
      · omega
      · rename_i hn
        by_cases e : j = m
        · subst e
          exact hn ⟨h, ha, hw, hv⟩
        · exact ih h j (by omega) ha hw hv
  intro m
  induction m with
  | zero => intro d p k h; simp [ma_E] at h
  | succ m ih =>
    intro d p k h
    simp only [ma_E] at h
    split at h
    · rename_i hc
      have e : m = k := by omega
      subst e
      exact ⟨by omega, hc.2.1, hc.2.2.1, hc.2.2.2, fun j hj => Z hc.1 j hj⟩
    · obtain ⟨h1, h2, h3, h4, h5⟩ := ih h
      exact ⟨by omega, h2, h3, h4, h5⟩
theorem ma_E_none {al : Nat → Bool} {w : Nat → Nat} : ∀ {m d p : Nat}, ma_E al w m d p = 0 → ∀ j, j < m → al j = true → w j = d → ¬ ma_v j / 2 ^ (8 - d) = p := by
  intro m
  induction m with
  | zero => intro d p _ j hj; exact absurd hj (by omega)
  | succ m ih =>
    intro d p h j hj ha hw hv
    simp only [ma_E] at h
    split at h
    · omega
    · rename_i hn
      by_cases e : j = m
      · subst e
        exact hn ⟨h, ha, hw, hv⟩
      · exact ih h j (by omega) ha hw hv
theorem ma_E_le {al : Nat → Bool} {w : Nat → Nat} {m d p : Nat} : ma_E al w m d p ≤ m := by
  rcases h : ma_E al w m d p with _ | k
  · omega
  · have := (ma_E_some h).1
    omega
/-- the last entry on the way of u, down to depth n -/
def ma_be (E : Nat → Nat → Nat) (u : Nat) : Nat → Nat
  | 0 => 0
  | d + 1 => if E d (u / 2 ^ (8 - d)) = 0 then ma_be E u d else E d (u / 2 ^ (8 - d))
theorem ma_be_some {E : Nat → Nat → Nat} {u : Nat} : ∀ {n k : Nat}, ma_be E u n = k + 1 → ∃ d, d < n ∧ E d (u / 2 ^ (8 - d)) = k + 1 ∧ ∀ d', d < d' → d' < n → E d' (u / 2 ^ (8 - d')) = 0 := by
  intro n
  induction n with
  | zero => intro k h; simp [ma_be] at h
  | succ n ih =>
    intro k h
    simp only [ma_be] at h
    split at h
    · rename_i hz
      obtain ⟨d, h1, h2, h3⟩ := ih h
      refine ⟨d, by omega, h2, fun d' g1 g2 => ?_⟩
      by_cases e : d' = n
      · subst e
        exact hz
      · exact h3 d' g1 (by omega)
    · exact ⟨n, by omega, h, fun d' g1 g2 => absurd g1 (by omega)⟩
theorem ma_be_none {E : Nat → Nat → Nat} {u : Nat} : ∀ {n : Nat}, ma_be E u n = 0 → ∀ d, d < n → E d (u / 2 ^ (8 - d)) = 0 := by
  intro n
  induction n with
  | zero => intro _ d hd; exact absurd hd (by omega)
  | succ n ih =>
    intro h d hd
    simp only [ma_be] at h
    split at h
    · rename_i hz
      by_cases e : d = n
      · subst e
        exact hz
      · exact ih h d (by omega)
    · rename_i hz
      exact absurd h hz
theorem ma_be_keep {E : Nat → Nat → Nat} {u d : Nat} : ∀ {j : Nat}, (∀ d', d ≤ d' → d' < d + j → E d' (u / 2 ^ (8 - d')) = 0) → ma_be E u (d + j) = ma_be E u d := by
  intro j
  induction j with
  | zero => intro _; rfl
  | succ j ih =>
    intro h
    show (if E (d + j) (u / 2 ^ (8 - (d + j))) = 0 then ma_be E u (d + j) else E (d + j) (u / 2 ^ (8 - (d + j)))) = _
    rw [if_pos (h (d + j) (by omega) (by omega))]
    exact ih (fun d' g1 g2 => h d' g1 (by omega))
theorem ma_be_at {E : Nat → Nat → Nat} {u d k : Nat} (hd : d ≤ 8) (h : E d (u / 2 ^ (8 - d)) = k + 1) (hz : ∀ d', d < d' → d' ≤ 8 → E d' (u / 2 ^ (8 - d')) = 0) : ma_be E u 9 = k + 1 := by
  have e : ma_be E u (d + 1) = k + 1 := by
    show (if E d (u / 2 ^ (8 - d)) = 0 then ma_be E u d else E d (u / 2 ^ (8 - d))) = _
    rw [if_neg (by omega)]
    exact h
  have e2 : ma_be E u ((d + 1) + (8 - d)) = ma_be E u (d + 1) := ma_be_keep (fun d' g1 g2 => hz d' (by omega) (by omega))
  rw [show d + 1 + (8 - d) = 9 by omega] at e2
  rw [e2, e]
/-! the best entry for u, said plainly -/
def ma_fit (w : Nat → Nat) (u k : Nat) : Prop := u / 2 ^ (8 - w k) = ma_v k / 2 ^ (8 - w k)
def ma_B (al : Nat → Bool) (w : Nat → Nat) (u m c : Nat) : Prop :=
  (c = 0 → ∀ j, j < m → al j = true → ¬ ma_fit w u j) ∧ (∀ k, c = k + 1 → k < m ∧ al k = true ∧ ma_fit w u k ∧ ∀ j, j < m → al j = true → ma_fit w u j → w j < w k ∨ (w j = w k ∧ k ≤ j))
theorem ma_B_u {al : Nat → Bool} {w : Nat → Nat} {u m c c' : Nat} (h : ma_B al w u m c) (h' : ma_B al w u m c') : c = c' := by
  rcases c with _ | k
  · rcases c' with _ | k'
    · rfl
    · obtain ⟨g1, g2, g3, _⟩ := h'.2 k' rfl
      exact absurd g3 (h.1 rfl k' g1 g2)
  · obtain ⟨g1, g2, g3, g4⟩ := h.2 k rfl
    rcases c' with _ | k'
    · exact absurd g3 (h'.1 rfl k g1 g2)
    · obtain ⟨f1, f2, f3, f4⟩ := h'.2 k' rfl
      have a := g4 k' f1 f2 f3
      have b := f4 k g1 g2 g3
      omega
theorem ma_B_be {al : Nat → Bool} {w : Nat → Nat} {u m : Nat} (hw : ∀ k, al k = true → w k ≤ 8) : ma_B al w u m (ma_be (ma_E al w m) u 9) := by
  refine ⟨fun h j hj ha hf => ?_, fun k h => ?_⟩
  · have h8 := hw j ha
    exact ma_E_none (ma_be_none h (w j) (by omega)) j hj ha rfl hf.symm
  · obtain ⟨d, h1, h2, h3⟩ := ma_be_some h
    obtain ⟨g1, g2, g3, g4, g5⟩ := ma_E_some h2
    subst g3
    refine ⟨g1, g2, g4.symm, fun j hj ha hf => ?_⟩
    have h8 := hw j ha
    rcases Nat.lt_trichotomy (w j) (w k) with z | z | z
    · exact Or.inl z
    · refine Or.inr ⟨z, ?_⟩
      rcases Nat.lt_or_ge j k with y | y
      · have hf' := hf.symm
        rw [z] at hf'
        exact absurd hf' (g5 j y ha z)
      · exact y
    · exact absurd hf.symm (ma_E_none (h3 (w j) z (by omega)) j hj ha rfl)
/-- the law's own loop: best and most, as codes -/
def ma_I (al : Nat → Bool) (w : Nat → Nat) (u k b t : Nat) : Prop := ma_B al w u k b ∧ (b = 0 → t = 0) ∧ (∀ j, b = j + 1 → t = w j + 1) ∧ b ≤ k ∧ t ≤ 9
theorem ma_I_0 {al : Nat → Bool} {w : Nat → Nat} {u : Nat} : ma_I al w u 0 0 0 :=
  ⟨⟨fun _ j hj => absurd hj (by omega), fun k h => absurd h (by omega)⟩, fun _ => rfl, fun j h => absurd h (by omega), by omega, by omega⟩
theorem ma_I_no {al : Nat → Bool} {w : Nat → Nat} {u k b t : Nat} (h : ma_I al w u k b t) (hn : ¬ (al k = true ∧ ma_fit w u k)) : ma_I al w u (k + 1) b t := by
  obtain ⟨⟨h1, h2⟩, h3, h4, h5, h6⟩ := h
  refine ⟨⟨fun hb j hj ha hf => ?_, fun j hb => ?_⟩, h3, h4, by omega, h6⟩
  · by_cases e : j = k
    · subst e
      exact hn ⟨ha, hf⟩
    · exact h1 hb j (by omega) ha hf
  · obtain ⟨g1, g2, g3, g4⟩ := h2 j hb
    refine ⟨by omega, g2, g3, fun i hi ha hf => ?_⟩
    by_cases e : i = k
    · subst e
      exact absurd ⟨ha, hf⟩ hn
    · exact g4 i (by omega) ha hf
theorem ma_I_less {al : Nat → Bool} {w : Nat → Nat} {u k b t : Nat} (h : ma_I al w u k b t) (hn : w k + 1 ≤ t) : ma_I al w u (k + 1) b t := by
  obtain ⟨⟨h1, h2⟩, h3, h4, h5, h6⟩ := h
  refine ⟨⟨fun hb j hj ha hf => ?_, fun j hb => ?_⟩, h3, h4, by omega, h6⟩
  · have := h3 hb
    omega
  · obtain ⟨g1, g2, g3, g4⟩ := h2 j hb
    have ht := h4 j hb
    refine ⟨by omega, g2, g3, fun i hi ha hf => ?_⟩
    by_cases e : i = k
    · subst e
      omega
    · exact g4 i (by omega) ha hf
theorem ma_I_more {al : Nat → Bool} {w : Nat → Nat} {u k b t : Nat} (h : ma_I al w u k b t) (ha : al k = true) (hf : ma_fit w u k) (hw : w k ≤ 8) (hn : t < w k + 1) : ma_I al w u (k + 1) (k + 1) (w k + 1) := by
  obtain ⟨⟨h1, h2⟩, h3, h4, h5, h6⟩ := h
  refine ⟨⟨fun hb => absurd hb (by omega), fun j hb => ?_⟩, fun hb => absurd hb (by omega), fun j hb => ?_, by omega, by omega⟩
  · have e : k = j := by omega
    subst e
    refine ⟨by omega, ha, hf, fun i hi hai hfi => ?_⟩
    by_cases e : i = k
    · subst e
      omega
    · rcases b with _ | j
      · exact absurd hfi (h1 rfl i (by omega) hai)
      · obtain ⟨g1, g2, g3, g4⟩ := h2 j rfl
        have ht := h4 j rfl
        have a := g4 i (by omega) hai hfi
        omega
  · have e : k = j := by omega
    subst e
    rfl
end
section
/-! counting -/
def ma_c (P : Nat → Bool) (lo : Nat) : Nat → Nat
  | 0 => 0
  | n + 1 => ma_c P lo n + (if P (lo + n) = true then 1 else 0)
theorem ma_c_add (P : Nat → Bool) (lo a b : Nat) : ma_c P lo (a + b) = ma_c P lo a + ma_c P (lo + a) b := by
  induction b with
  | zero => rfl
  | succ b ih =>
    show ma_c P lo (a + b) + (if P (lo + (a + b)) = true then 1 else 0) = ma_c P lo a + (ma_c P (lo + a) b + (if P (lo + a + b) = true then 1 else 0))
    rw [ih, Nat.add_assoc lo a b]
    omega
theorem ma_c_le (P : Nat → Bool) (lo n : Nat) : ma_c P lo n ≤ n := by
  induction n with
  | zero => exact Nat.le_refl 0
  | succ n ih =>
    show ma_c P lo n + (if P (lo + n) = true then 1 else 0) ≤ n + 1
    split <;> omega
theorem ma_c_all {P : Nat → Bool} {lo n : Nat} (h : ∀ i, i < n → P (lo + i) = true) : ma_c P lo n = n := by
  induction n with
  | zero => rfl
  | succ n ih =>
    show ma_c P lo n + (if P (lo + n) = true then 1 else 0) = n + 1
    rw [if_pos (h n (by omega)), ih (fun i hi => h i (by omega))]
theorem ma_c_none {P : Nat → Bool} {lo n : Nat} (h : ∀ i, i < n → ¬ P (lo + i) = true) : ma_c P lo n = 0 := by
  induction n with
  | zero => rfl
  | succ n ih =>
    show ma_c P lo n + (if P (lo + n) = true then 1 else 0) = 0
    rw [if_neg (h n (by omega)), ih (fun i hi => h i (by omega))]
def ma_S (f : Nat → Nat) (k : Nat) : Nat := ma_c (fun u => decide (0 < f u ∧ f u ≤ k)) 0 256
theorem ma_S_0 (f : Nat → Nat) : ma_S f 0 = 0 := by
  refine ma_c_none (fun i _ => ?_)
  simp only [decide_eq_true_eq]
  omega
theorem ma_S_s (f : Nat → Nat) (k : Nat) : ma_S f (k + 1) = ma_S f k + ma_c (fun u => decide (f u = k + 1)) 0 256 := by
  have G : ∀ n, ma_c (fun u => decide (0 < f u ∧ f u ≤ k + 1)) 0 n = ma_c (fun u => decide (0 < f u ∧ f u ≤ k)) 0 n + ma_c (fun u => decide (f u = k + 1)) 0 n := by
    intro n
    induction n with
    | zero => rfl
    | succ n ih =>
      simp only [ma_c, decide_eq_true_eq]
      rw [ih]
      split <;> split <;> split <;> omega
  exact G 256
theorem ma_S_le (f : Nat → Nat) (k : Nat) : ma_S f k ≤ 256 := ma_c_le _ _ _
/-! what lies below (d, p) and is entry k's -/
def ma_n (E : Nat → Nat → Nat) (k d p : Nat) : Nat := ma_c (fun u => decide (ma_be E u 9 = k + 1)) (p * 2 ^ (8 - d)) (2 ^ (8 - d))
def ma_V (E : Nat → Nat → Nat) (d0 p0 d p : Nat) : Prop := d0 ≤ d ∧ d ≤ 8 ∧ p / 2 ^ (d - d0) = p0 ∧ ∀ d', d0 < d' → d' < d → E d' (p / 2 ^ (d - d')) = 0
theorem ma_V_0 {E : Nat → Nat → Nat} {d0 p0 : Nat} (h : d0 ≤ 8) : ma_V E d0 p0 d0 p0 := by
  refine ⟨Nat.le_refl _, h, ?_, fun d' g1 g2 => absurd g1 (by omega)⟩
  rw [Nat.sub_self, Nat.pow_zero, Nat.div_one]
theorem ma_V_dn {E : Nat → Nat → Nat} {d0 p0 d p : Nat} (h : ma_V E d0 p0 d p) (hd : d < 8) (hz : d0 < d → E d p = 0) (b : Nat) (hb : b < 2) : ma_V E d0 p0 (d + 1) (2 * p + b) := by
  obtain ⟨h1, h2, h3, h4⟩ := h
  refine ⟨by omega, by omega, ?_, fun d' g1 g2 => ?_⟩
  · rw [show d + 1 - d0 = (d - d0) + 1 by omega, ma_dn p b _ hb]
    exact h3
  · rw [show d + 1 - d' = (d - d') + 1 by omega, ma_dn p b _ hb]
    by_cases e : d' = d
    · subst e
      rw [Nat.sub_self, Nat.pow_zero, Nat.div_one]
      exact hz g1
    · exact h4 d' g1 (by omega)
theorem ma_n_full {E : Nat → Nat → Nat} {k d0 p0 d p : Nat} (h : ma_V E d0 p0 d p) (hk : E d0 p0 = k + 1) (hz : ∀ u d', u / 2 ^ (8 - d) = p → d ≤ d' → d' ≤ 8 → d0 < d' → E d' (u / 2 ^ (8 - d')) = 0) : ma_n E k d p = 2 ^ (8 - d) := by
  obtain ⟨h1, h2, h3, h4⟩ := h
  refine ma_c_all (fun i hi => ?_)
  rw [decide_eq_true_eq]
  refine ma_be_at (d := d0) (by omega) ?_ (fun d' g1 g2 => ?_)
  · rw [ma_up h2 h1 hi, h3]
    exact hk
  · rcases Nat.lt_or_ge d' d with z | z
    · rw [ma_up h2 (Nat.le_of_lt z) hi]
      exact h4 d' g1 z
    · refine hz _ d' ?_ z g2 g1
      rw [ma_up h2 (Nat.le_refl d) hi, Nat.sub_self, Nat.pow_zero, Nat.div_one]
theorem ma_n_zero {E : Nat → Nat → Nat} {k d0 p0 d p : Nat} (h : ma_V E d0 p0 d p) (hd : d0 < d) (he : E d p ≠ 0) (hu : ∀ d p, E d p = k + 1 → d = d0) : ma_n E k d p = 0 := by
  obtain ⟨h1, h2, h3, h4⟩ := h
  refine ma_c_none (fun i hi => ?_)
  rw [decide_eq_true_eq]
  intro hb
  obtain ⟨d1, g1, g2, g3⟩ := ma_be_some hb
  have e := hu _ _ g2
  have z := g3 d (by omega) (by omega)
  rw [ma_up h2 (Nat.le_refl d) hi, Nat.sub_self, Nat.pow_zero, Nat.div_one] at z
  exact he z
theorem ma_n_split {E : Nat → Nat → Nat} {k d p : Nat} (hd : d < 8) : ma_n E k d p = ma_n E k (d + 1) (2 * p) + ma_n E k (d + 1) (2 * p + 1) := by
  have e : 2 ^ (8 - d) = 2 ^ (8 - (d + 1)) + 2 ^ (8 - (d + 1)) := by
    rw [show 8 - d = (8 - (d + 1)) + 1 by omega, Nat.pow_succ]
    omega
  have e2 : p * 2 ^ (8 - d) = 2 * p * 2 ^ (8 - (d + 1)) := by
    rw [e, Nat.mul_add, Nat.mul_assoc]
    omega
  have e3 : 2 * p * 2 ^ (8 - (d + 1)) + 2 ^ (8 - (d + 1)) = (2 * p + 1) * 2 ^ (8 - (d + 1)) := by
    rw [Nat.add_mul, Nat.one_mul]
  unfold ma_n
  rw [e2, e, ma_c_add, e3]
theorem ma_n_tot {E : Nat → Nat → Nat} {k d0 p0 : Nat} (hd : d0 ≤ 8) (hp : p0 < 2 ^ d0) (hu : ∀ d p, E d p = k + 1 → d = d0 ∧ p = p0) : ma_n E k d0 p0 = ma_c (fun u => decide (ma_be E u 9 = k + 1)) 0 256 := by
  have h0 : 0 < 2 ^ (8 - d0) := Nat.pow_pos (by omega)
  have e : 2 ^ d0 * 2 ^ (8 - d0) = 256 := by
    rw [← Nat.pow_add, show d0 + (8 - d0) = 8 by omega]
  have l : (p0 + 1) * 2 ^ (8 - d0) ≤ 256 := by
    rw [← e]
    exact Nat.mul_le_mul_right _ hp
  rw [Nat.add_mul, Nat.one_mul] at l
  have out : ∀ u, (u < p0 * 2 ^ (8 - d0) ∨ p0 * 2 ^ (8 - d0) + 2 ^ (8 - d0) ≤ u) → ¬ decide (ma_be E u 9 = k + 1) = true := by
    intro u hu2 hb
    rw [decide_eq_true_eq] at hb
    obtain ⟨d1, g1, g2, g3⟩ := ma_be_some hb
    obtain ⟨q1, q2⟩ := hu _ _ g2
    subst q1
    have q3 := Nat.div_add_mod u (2 ^ (8 - d1))
    have q4 := Nat.mod_lt u h0
    rw [q2, Nat.mul_comm] at q3
    omega
  have s : 256 = p0 * 2 ^ (8 - d0) + (2 ^ (8 - d0) + (256 - (p0 * 2 ^ (8 - d0) + 2 ^ (8 - d0)))) := by omega
  rw [s, ma_c_add, ma_c_add, Nat.zero_add]
  rw [ma_c_none (lo := 0) (fun i hi => out _ (by omega)), ma_c_none (lo := p0 * 2 ^ (8 - d0) + 2 ^ (8 - d0)) (fun i hi => out _ (by omega))]
  show ma_n E k d0 p0 = 0 + (ma_n E k d0 p0 + 0)
  omega
/-! the tree: nd d p is the code of the node for the first d bits p -/
def ma_T (E nd : Nat → Nat → Nat) (N : Nat) (a8 a9 : Nat → Int32) : Prop :=
  nd 0 0 = 1 ∧ (∀ d p, nd d p ≤ N) ∧
  (∀ d p x, nd d p = x + 1 → a8 (2 * x) = ma_o (nd (d + 1) (2 * p)) ∧ a8 (2 * x + 1) = ma_o (nd (d + 1) (2 * p + 1)) ∧ a9 x = ma_o (E d p)) ∧
  (∀ d p d' p', nd d p = nd d' p' → nd d p ≠ 0 → d = d' ∧ p = p') ∧
  (∀ d p, nd d p = 0 → E d p = 0 ∧ nd (d + 1) (2 * p) = 0 ∧ nd (d + 1) (2 * p + 1) = 0) ∧
  (∀ d p, 8 < d → nd d p = 0)
theorem ma_T_ch {E nd : Nat → Nat → Nat} {N : Nat} {a8 a9 : Nat → Int32} (h : ma_T E nd N a8 a9) {d p x : Nat} (hx : nd d p = x + 1) {b : Nat} (hb : b < 2) : a8 (2 * x + b) = ma_o (nd (d + 1) (2 * p + b)) := by
  obtain ⟨g1, g2, g3⟩ := h.2.2.1 d p x hx
  rcases b with _ | _ | b
  · exact g1
  · exact g2
  · omega
theorem ma_T_0 {a8 a9 : Nat → Int32} : ma_T (fun _ _ => 0) (fun d p => if d = 0 ∧ p = 0 then 1 else 0) 1 (upd (upd a8 0 (-1)) 1 (-1)) (upd a9 0 (-1)) := by
  refine ⟨by simp, fun d p => by dsimp only; split <;> omega, fun d p x hx => ?_, fun d p d' p' h h' => ?_, fun d p h => ⟨rfl, ?_, ?_⟩, fun d p h => ?_⟩
  · dsimp only at hx ⊢
    split at hx
    · have e : x = 0 := by omega
      subst e
      rw [if_neg (by omega), if_neg (by omega)]
      refine ⟨?_, pk_us, pk_us⟩
      rw [pk_un (by omega)]
      exact pk_us
    · omega
  · dsimp only at h h'
    by_cases c1 : d = 0 ∧ p = 0
    · by_cases c2 : d' = 0 ∧ p' = 0
      · omega
      · rw [if_pos c1, if_neg c2] at h
        omega
    · rw [if_neg c1] at h'
      exact absurd rfl h'
  · dsimp only
    rw [if_neg (by omega)]
  · dsimp only
    rw [if_neg (by omega)]
  · dsimp only
    rw [if_neg (by omega)]
theorem ma_T_new {E nd : Nat → Nat → Nat} {N : Nat} {a8 a9 : Nat → Int32} (h : ma_T E nd N a8 a9) {d p x b : Nat} (hx : nd d p = x + 1) (hb : b < 2) (hd : d < 8) (h0 : nd (d + 1) (2 * p + b) = 0) :
    ma_T E (fun d' p' => if d' = d + 1 ∧ p' = 2 * p + b then N + 1 else nd d' p') (N + 1) (upd (upd (upd a8 (2 * N) (-1)) (2 * N + 1) (-1)) (2 * x + b) (nI N)) (upd a9 N (-1)) := by
  obtain ⟨h1, h2, h3, h4, h5, h6⟩ := h
  have hxN : x < N := by
    have := h2 d p
    omega
  have old : ∀ d' p' x' c, nd d' p' = x' + 1 → c < 2 → a8 (2 * x' + c) = ma_o (nd (d' + 1) (2 * p' + c)) → upd (upd (upd a8 (2 * N) (-1)) (2 * N + 1) (-1)) (2 * x + b) (nI N) (2 * x' + c) = ma_o (if d' + 1 = d + 1 ∧ 2 * p' + c = 2 * p + b then N + 1 else nd (d' + 1) (2 * p' + c)) := by
    intro d' p' x' c e hc hv
    have hx'N := h2 d' p'
    by_cases q : 2 * x' + c = 2 * x + b
    · have q1 : x' = x := by omega
      have q2 : c = b := by omega
      subst q1 q2
      obtain ⟨r1, r2⟩ := h4 d' p' d p (by omega) (by omega)
      subst r1 r2
      rw [pk_us, if_pos ⟨rfl, rfl⟩]
      rfl
    · rw [pk_un q, pk_un (by omega), pk_un (by omega), hv]
      rw [if_neg]
      intro r
      have r1 : d' = d := by omega
      have r2 : p' = p := by omega
      subst r1 r2
      omega
  refine ⟨?_, fun d' p' => ?_, fun d' p' x' e => ?_, fun d' p' d2 p2 e e0 => ?_, fun d' p' e => ?_, fun d' p' e => ?_⟩
  · dsimp only
    rw [if_neg (by omega)]
    exact h1
  · dsimp only
    have := h2 d' p'
    split <;> omega
  · dsimp only at e ⊢
    split at e
    · rename_i hc
      obtain ⟨c1, c2⟩ := hc
      subst c1 c2
      have e' : x' = N := by omega
      subst e'
      obtain ⟨z1, z2, z3⟩ := h5 _ _ h0
      rw [if_neg (by omega), if_neg (by omega), z1, z2, z3]
      refine ⟨?_, ?_, pk_us⟩
      · rw [pk_un (by omega), pk_un (by omega)]
        exact pk_us
      · rw [pk_un (by omega)]
        exact pk_us
    · obtain ⟨g1, g2, g3⟩ := h3 d' p' x' e
      have hx'N := h2 d' p'
      refine ⟨old d' p' x' 0 e (by omega) g1, old d' p' x' 1 e (by omega) g2, ?_⟩
      rw [pk_un (by omega)]
      exact g3
  · dsimp only at e e0
    have i1 := h2 d' p'
    have i2 := h2 d2 p2
    split at e
    · split at e
      · omega
      · omega
    · rename_i hn
      rw [if_neg hn] at e0
      split at e
      · omega
      · exact h4 d' p' d2 p2 e e0
  · dsimp only at e ⊢
    split at e
    · omega
    · obtain ⟨z1, z2, z3⟩ := h5 d' p' e
      have ne : ¬ (d' = d ∧ p' = p) := by
        intro r
        obtain ⟨r1, r2⟩ := r
        subst r1 r2
        omega
      rw [if_neg (by omega), if_neg (by omega)]
      exact ⟨z1, z2, z3⟩
  · dsimp only
    rw [if_neg (by omega)]
    exact h6 d' p' e
theorem ma_T_end {E E' nd : Nat → Nat → Nat} {N : Nat} {a8 a9 : Nat → Int32} (h : ma_T E nd N a8 a9) {d p x : Nat} (hx : nd d p = x + 1) (hn : ∀ d' p', ¬ (d' = d ∧ p' = p) → E' d' p' = E d' p') :
    ma_T E' nd N a8 (upd a9 x (ma_o (E' d p))) := by
  obtain ⟨h1, h2, h3, h4, h5, h6⟩ := h
  refine ⟨h1, h2, fun d' p' x' e => ?_, h4, fun d' p' e => ?_, h6⟩
  · obtain ⟨g1, g2, g3⟩ := h3 d' p' x' e
    refine ⟨g1, g2, ?_⟩
    by_cases q : x' = x
    · subst q
      obtain ⟨r1, r2⟩ := h4 d' p' d p (by omega) (by omega)
      subst r1 r2
      exact pk_us
    · rw [pk_un q, hn d' p' (fun r => by obtain ⟨r1, r2⟩ := r; subst r1 r2; omega)]
      exact g3
  · obtain ⟨z1, z2, z3⟩ := h5 d' p' e
    rw [hn d' p' (fun r => by obtain ⟨r1, r2⟩ := r; subst r1 r2; omega)]
    exact ⟨z1, z2, z3⟩
theorem ma_T_same {E E' nd : Nat → Nat → Nat} {N : Nat} {a8 a9 : Nat → Int32} (h : ma_T E nd N a8 a9) (hn : ∀ d' p', E' d' p' = E d' p') : ma_T E' nd N a8 a9 := by
  have e : E' = E := funext (fun d' => funext (fun p' => hn d' p'))
  rw [e]
  exact h
theorem ma_T_no {E nd : Nat → Nat → Nat} {N : Nat} {a8 a9 : Nat → Int32} (h : ma_T E nd N a8 a9) {u d : Nat} : ∀ j, nd d (u / 2 ^ (8 - d)) = 0 → d + j ≤ 8 → nd (d + j) (u / 2 ^ (8 - (d + j))) = 0 := by
  intro j
  induction j with
  | zero => intro h0 _; exact h0
  | succ j ih =>
    intro h0 hj
    have z := h.2.2.2.2.1 _ _ (ih h0 (by omega))
    rw [show d + (j + 1) = d + j + 1 from rfl, ma_half u (d + j) (by omega)]
    rcases Nat.mod_two_eq_zero_or_one (u / 2 ^ (7 - (d + j))) with q | q
    · rw [q]
      exact z.2.1
    · rw [q]
      exact z.2.2
theorem ma_T_noE {E nd : Nat → Nat → Nat} {N : Nat} {a8 a9 : Nat → Int32} (h : ma_T E nd N a8 a9) {u d : Nat} (h0 : nd d (u / 2 ^ (8 - d)) = 0) : ∀ d', d ≤ d' → d' ≤ 8 → E d' (u / 2 ^ (8 - d')) = 0 := by
  intro d' g1 g2
  have z := ma_T_no h (d' - d) h0 (by omega)
  rw [show d + (d' - d) = d' by omega] at z
  exact (h.2.2.2.2.1 _ _ z).1
end
section
section
variable {f1 f2 f3 f4 f5 f6 : Int32} {a1 a2 a3 a4 a5 a6 a7 a8 a9 a10 a11 a12 a13 a14 a15 a16 : Nat → Int32}
theorem ma_newNode {post : Int32 → St2 → Prop} {N : Nat} (hN : N < 129)
    (H : post (nI N) (f1, f2, f3, nI (N + 1), f5, f6, a1, a2, a3, a4, a5, a6, a7, upd (upd a8 (2 * N) (-1)) (2 * N + 1) (-1), upd a9 N (-1), upd a10 N 0, a11, a12, a13, a14, a15, a16)) :
    wpX_newNode post (f1, f2, f3, nI N, f5, f6, a1, a2, a3, a4, a5, a6, a7, a8, a9, a10, a11, a12, a13, a14, a15, a16) := by
  have e1 : (2 : Int32) * nI N = nI (2 * N) := pk_mul 2 N
  have e2 : (2 : Int32) * nI N + 1 = nI (2 * N + 1) := by rw [e1, nI_1]
  refine nm_r (nI_1 N) ⟨pk_in (2 * N) 258 (by omega) e1, nm_r (e' := upd a8 (2 * N) (-1)) (by rw [e1, nI_clamp (by omega)]) ⟨pk_in (2 * N + 1) 258 (by omega) e2, nm_r (e' := upd (upd a8 (2 * N) (-1)) (2 * N + 1) (-1)) (by rw [e2, nI_clamp (by omega)]) ⟨pk_in N 129 hN, nm_r (e' := upd a9 N (-1)) (by rw [nI_clamp (by omega)]) ⟨pk_in N 129 hN, nm_r (e' := upd a10 N 0) (by rw [nI_clamp (by omega)]) H⟩⟩⟩⟩
theorem ma_7 : ∀ n, n < 9 → (7 : Int32) - nI n = ma_o (8 - n) := by decide +kernel
theorem ma_x4 {t : Nat} (h : t < 8) : ma_o (8 - t) + (-1) = ma_o (8 - (t + 1)) := by
  rw [show 8 - t = (8 - (t + 1)) + 1 by omega]
  exact ma_om1 _
theorem ma_x5 {v x t : Nat} (hv : v < 256) (ht : t < 8) : ∃ b, b < 2 ∧ 2 * nI x + ((nI v >>> (ma_o (8 - t) &&& 31)) &&& 1) = nI (2 * x + b) ∧ v / 2 ^ (8 - (t + 1)) = 2 * (v / 2 ^ (8 - t)) + b := by
  refine ⟨v / 2 ^ (7 - t) % 2, Nat.mod_lt _ (by omega), ?_, ma_half v t ht⟩
  rw [show 8 - t = (7 - t) + 1 by omega, ma_oS, ma_bit (by omega) (by omega), ← nI_add, ← pk_mul]
  rfl
/-- nodeFor, making what is wanting -/
theorem ma_nf {post : Int32 → St2 → Prop} {E : Nat → Nat → Nat} {v n : Nat} (hv : v < 256) (hn : n ≤ 8) : ∀ j t, t + j = n → ∀ (nd : Nat → Nat → Nat) (N x : Nat) (a8 a9 a10 : Nat → Int32), ma_T E nd N a8 a9 → nd t (v / 2 ^ (8 - t)) = x + 1 → N + j ≤ 129 →
    (∀ (nd' : Nat → Nat → Nat) (N' x' : Nat) (a8' a9' a10' : Nat → Int32), ma_T E nd' N' a8' a9' → nd' n (v / 2 ^ (8 - n)) = x' + 1 → N' ≤ N + j → post (nI x') (f1, f2, f3, nI N', f5, f6, a1, a2, a3, a4, a5, a6, a7, a8', a9', a10', a11, a12, a13, a14, a15, a16)) →
    wX_nodeFor_6 post (nI v) (nI n) (j + 1) (nI x) (ma_o (8 - t)) f1 f2 f3 (nI N) f5 f6 a1 a2 a3 a4 a5 a6 a7 a8 a9 a10 a11 a12 a13 a14 a15 a16 := by
  intro j
  induction j with
  | zero =>
    intro t ht nd N x a8 a9 a10 hT hx hN H
    have e : t = n := by omega
    subst e
    exact ma_ble (8 - t) (8 - t) (fun _ => H nd N x a8 a9 a10 hT hx (by omega)) (fun z => absurd z (by omega)) rfl (ma_7 t (by omega))
  | succ j ih =>
    intro t ht nd N x a8 a9 a10 hT hx hN H
    have hxN : x < N := by
      have := hT.2.1 t (v / 2 ^ (8 - t))
      omega
    obtain ⟨b, hb, e1, e2⟩ := ma_x5 (v := v) (x := x) (t := t) hv (by omega)
    refine ma_ble (8 - t) (8 - n) (fun z => absurd z (by omega)) (fun _ => nm_r e1 ⟨pk_in (2 * x + b) 258 (by omega), ?_⟩) rfl (ma_7 n (by omega))
    rw [nI_clamp (n := 2 * x + b) (by omega), ma_T_ch hT hx hb]
    have hle := hT.2.1 (t + 1) (2 * (v / 2 ^ (8 - t)) + b)
    refine ma_bp (nd (t + 1) (2 * (v / 2 ^ (8 - t)) + b)) (by omega) (fun k hk => ?_) (fun h0 => ?_)
    · refine ⟨pk_in (2 * x + b) 258 (by omega), nm_r (e' := nI k) (by rw [hk]; rfl) (nm_r (ma_x4 (by omega)) ?_)⟩
      exact ih (t + 1) (by omega) nd N k a8 a9 a10 hT (by rw [e2]; exact hk) (by omega) (fun nd' N' x' a8' a9' a10' q1 q2 q3 => H nd' N' x' a8' a9' a10' q1 q2 (by omega))
    · refine ma_newNode (by omega) ⟨pk_in (2 * x + b) 258 (by omega), nm_r (e' := upd (upd (upd a8 (2 * N) (-1)) (2 * N + 1) (-1)) (2 * x + b) (nI N)) (by rw [ma_i16 N (by omega)]) ⟨pk_in (2 * x + b) 258 (by omega), nm_r (e' := nI N) pk_us (nm_r (ma_x4 (by omega)) ?_)⟩⟩
      refine ih (t + 1) (by omega) _ (N + 1) N _ _ _ (ma_T_new hT hx hb (by omega) h0) ?_ (by omega) (fun nd' N' x' a8' a9' a10' q1 q2 q3 => H nd' N' x' a8' a9' a10' q1 q2 (by omega))
      rw [e2]
      exact if_pos ⟨rfl, rfl⟩
/-- nodeFor, where the node is there -/
theorem ma_nfo {post : Int32 → St2 → Prop} {E nd : Nat → Nat → Nat} {N v n xn : Nat} (hv : v < 256) (hn : n ≤ 8) (hN : N ≤ 129) (hT : ma_T E nd N a8 a9) (hp : nd n (v / 2 ^ (8 - n)) = xn + 1) (H : post (nI xn) (f1, f2, f3, f4, f5, f6, a1, a2, a3, a4, a5, a6, a7, a8, a9, a10, a11, a12, a13, a14, a15, a16)) : ∀ j t x, t + j = n → nd t (v / 2 ^ (8 - t)) = x + 1 →
    wX_nodeFor_6 post (nI v) (nI n) (j + 1) (nI x) (ma_o (8 - t)) f1 f2 f3 f4 f5 f6 a1 a2 a3 a4 a5 a6 a7 a8 a9 a10 a11 a12 a13 a14 a15 a16 := by
  intro j
  induction j with
  | zero =>
    intro t x ht hx
    have e : t = n := by omega
    subst e
    have e2 : x = xn := by omega
    subst e2
    exact ma_ble (8 - t) (8 - t) (fun _ => H) (fun z => absurd z (by omega)) rfl (ma_7 t (by omega))
  | succ j ih =>
    intro t x ht hx
    have hxN : x < N := by
      have := hT.2.1 t (v / 2 ^ (8 - t))
      omega
    obtain ⟨b, hb, e1, e2⟩ := ma_x5 (v := v) (x := x) (t := t) hv (by omega)
    refine ma_ble (8 - t) (8 - n) (fun z => absurd z (by omega)) (fun _ => nm_r e1 ⟨pk_in (2 * x + b) 258 (by omega), ?_⟩) rfl (ma_7 n (by omega))
    rw [nI_clamp (n := 2 * x + b) (by omega), ma_T_ch hT hx hb]
    have hle := hT.2.1 (t + 1) (2 * (v / 2 ^ (8 - t)) + b)
    refine ma_bp (nd (t + 1) (2 * (v / 2 ^ (8 - t)) + b)) (by omega) (fun k hk => ?_) (fun h0 => ?_)
    · refine ⟨pk_in (2 * x + b) 258 (by omega), nm_r (e' := nI k) (by rw [hk]; rfl) (nm_r (ma_x4 (by omega)) ?_)⟩
      exact ih (t + 1) k (by omega) (by rw [e2]; exact hk)
    · rw [← e2] at h0
      have z := ma_T_no hT (n - (t + 1)) h0 (by omega)
      rw [show t + 1 + (n - (t + 1)) = n by omega] at z
      omega
/-! makeTree -/
def ma_Tb (al : Nat → Bool) (w : Nat → Nat) (a4 a6 a7 : Nat → Int32) : Prop :=
  (∀ e, e < 16 → a4 e = ma_o (if al e = true then e + 1 else 0)) ∧ (∀ e, al e = true → e < 4 ∧ w e ≤ 8 ∧ a6 e = nI (ma_v e) ∧ a7 e = nI (w e))
theorem ma_E_dead {al : Nat → Bool} {w : Nat → Nat} {e d p : Nat} (h : ¬ al e = true) : ma_E al w (e + 1) d p = ma_E al w e d p := by
  show (if _ then _ else _) = _
  rw [if_neg (fun q => h q.2.1)]
theorem ma_E_full {al : Nat → Bool} {w : Nat → Nat} {e d p : Nat} (h : ma_E al w e (w e) (ma_v e / 2 ^ (8 - w e)) ≠ 0) : ma_E al w (e + 1) d p = ma_E al w e d p := by
  show (if _ then _ else _) = _
  rw [if_neg]
  intro q
  obtain ⟨q1, q2, q3, q4⟩ := q
  subst q3
  subst q4
  exact h q1
theorem ma_E_oth {al : Nat → Bool} {w : Nat → Nat} {e d p : Nat} (h : ¬ (d = w e ∧ p = ma_v e / 2 ^ (8 - w e))) : ma_E al w (e + 1) d p = ma_E al w e d p := by
  show (if _ then _ else _) = _
  rw [if_neg]
  intro q
  obtain ⟨q1, q2, q3, q4⟩ := q
  subst q3
  exact h ⟨rfl, q4.symm⟩
theorem ma_E_set {al : Nat → Bool} {w : Nat → Nat} {e : Nat} (ha : al e = true) (h : ma_E al w e (w e) (ma_v e / 2 ^ (8 - w e)) = 0) : ma_E al w (e + 1) (w e) (ma_v e / 2 ^ (8 - w e)) = e + 1 := by
  show (if _ then _ else _) = _
  rw [if_pos ⟨h, ha, rfl, rfl⟩]
theorem ma_mt {post : St2 → Prop} {al : Nat → Bool} {w : Nat → Nat} (hb : ma_Tb al w a4 a6 a7)
    (H : ∀ (nd : Nat → Nat → Nat) (N : Nat) (a8 a9 a10 : Nat → Int32), ma_T (ma_E al w 16) nd N a8 a9 → N ≤ 33 → post (f1, f2, f3, nI N, f5, f6, a1, a2, a3, a4, a5, a6, a7, a8, a9, a10, a11, a12, a13, a14, a15, a16)) : ∀ j e, e + j = 16 → ∀ (nd : Nat → Nat → Nat) (N : Nat) (a8 a9 a10 : Nat → Int32), ma_T (ma_E al w e) nd N a8 a9 → N ≤ 1 + 8 * min e 4 →
    wX_makeTree_25 post (j + 1) (nI e) f1 f2 f3 (nI N) f5 f6 a1 a2 a3 a4 a5 a6 a7 a8 a9 a10 a11 a12 a13 a14 a15 a16 := by
  intro j
  induction j with
  | zero =>
    intro e he nd N a8 a9 a10 hT hN
    have e0 : e = 16 := by omega
    subst e0
    exact pk_le 16 16 (fun _ => H nd N a8 a9 a10 hT (by omega)) (fun z => absurd z (by omega))
  | succ j ih =>
    intro e he nd N a8 a9 a10 hT hN
    refine pk_le 16 e (fun z => absurd z (by omega)) (fun _ => ⟨pk_in e 32 (by omega), ?_⟩)
    rw [nI_clamp (n := e) (by omega)]
    by_cases ha : al e = true
    · obtain ⟨h4, h8, h6, h7⟩ := hb.2 e ha
      have hve : ma_v e < 256 := by
        unfold ma_v
        omega
      have h4e : a4 e = nI e := by
        rw [hb.1 e (by omega), if_pos ha]
        rfl
      refine br_t (by rw [h4e]; exact nI_pos' (by omega)) ⟨pk_in e 32 (by omega), pk_in e 32 (by omega), ?_⟩
      rw [h6, h7]
      refine ⟨w e + 1, ma_nf hve h8 (w e) 0 (by omega) nd N 0 a8 a9 a10 hT ?_ (by omega) (fun nd' N' x' a8' a9' a10' hT' hx' hN' => ?_)⟩
      · rw [show ma_v e / 2 ^ (8 - 0) = 0 from Nat.div_eq_of_lt hve]
        exact hT.1
      · have hx'N : x' < N' := by
          have := hT'.2.1 (w e) (ma_v e / 2 ^ (8 - w e))
          omega
        have hEle : ma_E al w e (w e) (ma_v e / 2 ^ (8 - w e)) ≤ e := ma_E_le
        have h9 := (hT'.2.2.1 _ _ _ hx').2.2
        refine ⟨pk_in x' 129 (by omega), pk_in x' 129 (by omega), nm_e ⟨pk_in x' 129 (by omega), ?_⟩⟩
        rw [nI_clamp (n := x') (by omega), h9]
        refine ma_bn (ma_E al w e (w e) (ma_v e / 2 ^ (8 - w e))) (by omega) (fun h0 => ?_) (fun k hk => ?_)
        · refine ⟨pk_in x' 129 (by omega), nm_r (e' := upd a9' x' (ma_o (ma_E al w (e + 1) (w e) (ma_v e / 2 ^ (8 - w e))))) ?_ (nm_r (nI_1 e) ?_)⟩
          · rw [nI_clamp (n := x') (by omega), ma_E_set ha h0, ma_i8 e (by omega)]
            rfl
          · exact ih (e + 1) (by omega) nd' N' _ _ _ (ma_T_end hT' hx' (fun d' p' q => ma_E_oth q)) (by omega)
        · obtain ⟨k1, k2, k3, k4, k5⟩ := ma_E_some hk
          have h4k : a4 k = nI k := by
            rw [hb.1 k (by omega), if_pos k2]
            rfl
          refine ⟨pk_in e 32 (by omega), pk_in x' 129 (by omega), pk_in k 32 (by omega) (by rw [hk]; rfl), ?_⟩
          rw [hk, ma_oS, nI_clamp (n := k) (by omega), h4k, h4e]
          refine br_t (nI_le (by omega) (by omega)) (nm_r (nI_1 e) ?_)
          exact ih (e + 1) (by omega) nd' N' _ _ _ (ma_T_same hT' (fun d' p' => ma_E_full (by omega))) (by omega)
    · have h4e : a4 e = -1 := by
        rw [hb.1 e (by omega), if_neg ha]
        rfl
      refine br_f (by rw [h4e]; decide) (nm_r (nI_1 e) ?_)
      exact ih (e + 1) (by omega) nd N _ _ _ (ma_T_same hT (fun d' p' => ma_E_dead ha)) (by omega)
/-- the tree is to be made, or it is there -/
def ma_TR (al : Nat → Bool) (w : Nat → Nat) (f3 f4 : Int32) (a8 a9 : Nat → Int32) : Prop := f3 = 0 ∨ (f3 = 1 ∧ ∃ (nd : Nat → Nat → Nat) (N : Nat), f4 = nI N ∧ N ≤ 33 ∧ ma_T (ma_E al w 16) nd N a8 a9)
theorem ma_makeTree {post : St2 → Prop} {al : Nat → Bool} {w : Nat → Nat} (hb : ma_Tb al w a4 a6 a7) (hr : ma_TR al w f3 f4 a8 a9)
    (H : ∀ (nd : Nat → Nat → Nat) (N : Nat) (a8 a9 a10 : Nat → Int32), ma_T (ma_E al w 16) nd N a8 a9 → N ≤ 33 → post (f1, f2, 1, nI N, f5, f6, a1, a2, a3, a4, a5, a6, a7, a8, a9, a10, a11, a12, a13, a14, a15, a16)) : wpX_makeTree post (f1, f2, f3, f4, f5, f6, a1, a2, a3, a4, a5, a6, a7, a8, a9, a10, a11, a12, a13, a14, a15, a16) := by
  rcases hr with h | ⟨h, nd, N, h4, hN, hT⟩
  · subst h
    refine br_t rfl (ma_newNode (N := 0) (by omega) ⟨17, ?_⟩)
    exact ma_mt hb H 16 0 (by omega) _ 1 _ _ _ ma_T_0 (by omega)
  · subst h
    subst h4
    exact br_f (by decide) (H nd N a8 a9 a10 hT hN)
end
end
section
section
variable {f1 f2 f3 f4 f5 f6 : Int32} {a1 a2 a3 a4 a5 a6 a7 a8 a9 a10 a11 a12 a13 a14 a15 a16 : Nat → Int32}
/-! longestPrefix -/
theorem ma_lp {post : Int32 → St2 → Prop} {E nd : Nat → Nat → Nat} {N u : Nat} (hu : u < 256) (hN : N ≤ 129) (hE : ∀ d p, E d p ≤ 16) (hT : ma_T E nd N a8 a9) (h2 : a2 0 = nI u) (H : post (ma_o (ma_be E u 9)) (f1, f2, f3, f4, f5, f6, a1, a2, a3, a4, a5, a6, a7, a8, a9, a10, a11, a12, a13, a14, a15, a16)) : ∀ j t, t + j = 8 →
    wX_longestPrefix_11 post f1 f2 f3 f4 f5 f6 a1 a2 a3 a4 a5 a6 a7 a8 a9 a10 a11 a12 a13 a14 a15 a16 (j + 2) (ma_o (ma_be E u t)) (ma_o (nd t (u / 2 ^ (8 - t)))) (ma_o (8 - t)) := by
  intro j
  induction j with
  | zero =>
    intro t ht
    have e : t = 8 := by omega
    subst e
    have hle := hT.2.1 8 (u / 2 ^ (8 - 8))
    refine ma_bn (nd 8 (u / 2 ^ (8 - 8))) (by omega) (fun h0 => ?_) (fun x hx => ?_)
    · have z := ma_be_keep (E := E) (u := u) (d := 8) (j := 1) (fun d' g1 g2 => ma_T_noE hT h0 d' g1 (by omega))
      rw [← z]
      exact H
    · have h9 := (hT.2.2.1 _ _ _ hx).2.2
      have hxE := hE 8 (u / 2 ^ (8 - 8))
      rw [hx, ma_oS]
      refine ⟨pk_in x 129 (by omega), ?_⟩
      rw [nI_clamp (n := x) (by omega), h9]
      refine ma_bn (E 8 (u / 2 ^ (8 - 8))) (by omega) (fun h0 => ?_) (fun k hk => ?_)
      · refine br_f (by decide) (nm_e (br_t (by decide) ?_))
        have z := ma_be_keep (E := E) (u := u) (d := 8) (j := 1) (fun d' g1 g2 => by rw [show d' = 8 by omega]; exact h0)
        rw [← z]
        exact H
      · refine ⟨pk_in x 129 (by omega), nm_e (br_f (by decide) (nm_e (br_t (by decide) ?_)))⟩
        have z : ma_be E u 9 = E 8 (u / 2 ^ (8 - 8)) := if_neg (by rw [hk]; exact Nat.succ_ne_zero k)
        rw [← z]
        exact H
  | succ j ih =>
    intro t ht
    have hle := hT.2.1 t (u / 2 ^ (8 - t))
    refine ma_bn (nd t (u / 2 ^ (8 - t))) (by omega) (fun h0 => ?_) (fun x hx => ?_)
    · have z := ma_be_keep (E := E) (u := u) (d := t) (j := 9 - t) (fun d' g1 g2 => ma_T_noE hT h0 d' g1 (by omega))
      rw [show t + (9 - t) = 9 by omega] at z
      rw [← z]
      exact H
    · have h9 := (hT.2.2.1 _ _ _ hx).2.2
      have hxE := hE t (u / 2 ^ (8 - t))
      obtain ⟨b, hb, e1, e2⟩ := ma_x5 (v := u) (x := x) (t := t) hu (by omega)
      have step : ∀ c, c = ma_be E u (t + 1) → wX_longestPrefix_31 post (wX_longestPrefix_11 post f1 f2 f3 f4 f5 f6 a1 a2 a3 a4 a5 a6 a7 a8 a9 a10 a11 a12 a13 a14 a15 a16 (j + 2)) (ma_o c) (nI x) (ma_o (8 - t)) f1 f2 f3 f4 f5 f6 a1 a2 a3 a4 a5 a6 a7 a8 a9 a10 a11 a12 a13 a14 a15 a16 := by
        intro c hc
        subst hc
        unfold wX_longestPrefix_31
        rw [h2, e1, nI_clamp (n := 2 * x + b) (by omega), ma_T_ch hT hx hb, ← e2]
        refine ma_bp (8 - t) (by omega) (fun k hk => ⟨pk_in (2 * x + b) 258 (by omega), nm_e (nm_r (ma_x4 (by omega)) (ih (t + 1) (by omega)))⟩) (fun h0 => absurd h0 (by omega))
      rw [hx, ma_oS]
      refine ⟨pk_in x 129 (by omega), ?_⟩
      rw [nI_clamp (n := x) (by omega), h9]
      refine ma_bn (E t (u / 2 ^ (8 - t))) (by omega) (fun h0 => ?_) (fun k hk => ?_)
      · exact step _ (if_pos h0).symm
      · exact ⟨pk_in x 129 (by omega), nm_e (step _ (if_neg (by omega)).symm)⟩
theorem ma_longest {post : Int32 → St2 → Prop} {al : Nat → Bool} {w : Nat → Nat} {u : Nat} (hb : ma_Tb al w a4 a6 a7) (hr : ma_TR al w f3 f4 a8 a9) (hu : u < 256) (h2 : a2 0 = nI u)
    (H : ∀ (f3 f4 : Int32) (a8 a9 a10 : Nat → Int32), ma_TR al w f3 f4 a8 a9 → post (ma_o (ma_be (ma_E al w 16) u 9)) (f1, f2, f3, f4, f5, f6, a1, a2, a3, a4, a5, a6, a7, a8, a9, a10, a11, a12, a13, a14, a15, a16)) : wpX_longestPrefix post (f1, f2, f3, f4, f5, f6, a1, a2, a3, a4, a5, a6, a7, a8, a9, a10, a11, a12, a13, a14, a15, a16) := by
  refine ma_makeTree hb hr (fun nd N a8 a9 a10 hT hN => ⟨10, ?_⟩)
  have h := ma_lp (post := post) (f1 := f1) (f2 := f2) (f3 := 1) (f4 := nI N) (f5 := f5) (f6 := f6) (a1 := a1) (a3 := a3) (a4 := a4) (a5 := a5) (a6 := a6) (a7 := a7) (a10 := a10) (a11 := a11) (a12 := a12) (a13 := a13) (a14 := a14) (a15 := a15) (a16 := a16) hu (by omega) (fun d p => ma_E_le) hT h2 (H 1 (nI N) a8 a9 a10 (Or.inr ⟨rfl, nd, N, rfl, hN, hT⟩)) 8 0 (by omega)
  rw [show u / 2 ^ (8 - 0) = 0 from Nat.div_eq_of_lt hu, hT.1] at h
  exact h
/-! owned: one place of the pile, and all that lies below it -/
theorem ma_item {post : Int32 → St2 → Prop} {E nd : Nat → Nat → Nat} {N k d0 p0 x0 : Nat} (hN : N ≤ 129) (hE : ∀ d p, E d p ≤ 16) (hT : ma_T E nd N a8 a9) (hx0 : nd d0 p0 = x0 + 1) (hk : E d0 p0 = k + 1) (hu : ∀ d p, E d p = k + 1 → d = d0) :
    ∀ j d p i tot (a11 a12 : Nat → Int32), d + j = 8 → ma_V E d0 p0 d p → i ≤ d → a11 i = ma_o (nd d p) → a12 i = nI d →
    (∀ (b11 b12 : Nat → Int32), (∀ q, q < i → b11 q = a11 q ∧ b12 q = a12 q) → ∃ n, wX_owned_79 post (nI x0) f1 f2 f3 f4 f5 f6 n (nI (tot + ma_n E k d p)) (nI i) a1 a2 a3 a4 a5 a6 a7 a8 a9 a10 b11 b12 a13 a14 a15 a16) →
    ∃ n, wX_owned_79 post (nI x0) f1 f2 f3 f4 f5 f6 n (nI tot) (nI (i + 1)) a1 a2 a3 a4 a5 a6 a7 a8 a9 a10 a11 a12 a13 a14 a15 a16 := by
  intro j
  induction j with
  | zero =>
    intro d p i tot a11 a12 hd hV hi h11 h12 H
    have e : d = 8 := by omega
    subst e
    obtain ⟨n, hn⟩ := H a11 a12 (fun q _ => ⟨rfl, rfl⟩)
    have hle := hT.2.1 8 p
    have hx0l := hT.2.1 d0 p0
    have hV' := hV
    obtain ⟨v1, v2, v3, v4⟩ := hV'
    refine ⟨n + 1, pk_le (i + 1) 0 (fun z => absurd z (by omega)) (fun _ => nm_r (pk_m1 i) ⟨pk_in i 20 (by omega), nm_r (e' := ma_o (nd 8 p)) (by rw [nI_clamp (by omega), h11]) ⟨pk_in i 20 (by omega), nm_r (e' := nI 8) (by rw [nI_clamp (by omega), h12]) ?_⟩⟩)⟩
    refine ma_bp (nd 8 p) (by omega) (fun x hx => ?_) (fun h0 => ?_)
    · have hxE := hE 8 p
      have h9 := (hT.2.2.1 _ _ _ hx).2.2
      have fin : (d0 < 8 → E 8 p = 0) → wX_owned_141 post (wX_owned_79 post (nI x0) f1 f2 f3 f4 f5 f6 n) (nI x0) (nI tot) (nI i) (nI x) (nI 8) f1 f2 f3 f4 f5 f6 a1 a2 a3 a4 a5 a6 a7 a8 a9 a10 a11 a12 a13 a14 a15 a16 := by
        intro hz
        have c : ma_n E k 8 p = 1 := by
          refine ma_n_full hV hk (fun u d' g1 g2 g3 g4 => ?_)
          have e : d' = 8 := by omega
          subst e
          rw [g1]
          exact hz g4
        rw [c] at hn
        exact br_t rfl (nm_r (nI_1 tot) hn)
      rw [hx, ma_oS]
      refine pk_eq x x0 (fun q => ?_) (fun q => ⟨pk_in x 129 (by omega), ?_⟩)
      · refine fin (fun g => ?_)
        subst q
        have := hT.2.2.2.1 8 p d0 p0 (by omega) (by omega)
        omega
      · rw [nI_clamp (n := x) (by omega), h9]
        refine ma_bp (E 8 p) (by omega) (fun y hy => ?_) (fun hz => fin (fun _ => hz))
        have g : d0 < 8 := by
          rcases Nat.lt_or_ge d0 8 with g | g
          · exact g
          · have e : d0 = 8 := by omega
            subst e
            rw [Nat.sub_self, Nat.pow_zero, Nat.div_one] at v3
            subst v3
            omega
        rw [ma_n_zero hV g (by omega) hu] at hn
        exact hn
    · have g : ma_n E k 8 p = 2 ^ (8 - 8) := by
        refine ma_n_full hV hk (fun u d' g1 g2 g3 g4 => ?_)
        exact ma_T_noE hT (d := 8) (by rw [g1]; exact h0) d' g2 g3
      rw [g] at hn
      refine nm_r (e' := nI (tot + 2 ^ (8 - 8))) ?_ hn
      rw [ma_pow 8 (by omega), nI_add]
  | succ j ih =>
    intro d p i tot a11 a12 hd hV hi h11 h12 H
    have hle := hT.2.1 d p
    have hV' := hV
    obtain ⟨v1, v2, v3, v4⟩ := hV'
    have pop : ∀ n, (∀ c, c = nd d p → ((0 ≤ ma_o c → ((ma_o c = nI x0 → wX_owned_141 post (wX_owned_79 post (nI x0) f1 f2 f3 f4 f5 f6 n) (nI x0) (nI tot) (nI i) (ma_o c) (nI d) f1 f2 f3 f4 f5 f6 a1 a2 a3 a4 a5 a6 a7 a8 a9 a10 a11 a12 a13 a14 a15 a16) ∧ (¬ ma_o c = nI x0 → (vp_in (ma_o c) 129 ∧ ((0 ≤ a9 (ma_o c).toNatClampNeg → wX_owned_79 post (nI x0) f1 f2 f3 f4 f5 f6 n (nI tot) (nI i) a1 a2 a3 a4 a5 a6 a7 a8 a9 a10 a11 a12 a13 a14 a15 a16) ∧ (¬ 0 ≤ a9 (ma_o c).toNatClampNeg → wX_owned_141 post (wX_owned_79 post (nI x0) f1 f2 f3 f4 f5 f6 n) (nI x0) (nI tot) (nI i) (ma_o c) (nI d) f1 f2 f3 f4 f5 f6 a1 a2 a3 a4 a5 a6 a7 a8 a9 a10 a11 a12 a13 a14 a15 a16)))))) ∧ (¬ 0 ≤ ma_o c → (∀ x4_146 : Int32, x4_146 = nI tot + ((1 : Int32) <<< ((8 - nI d) &&& 31)) → wX_owned_79 post (nI x0) f1 f2 f3 f4 f5 f6 n x4_146 (nI i) a1 a2 a3 a4 a5 a6 a7 a8 a9 a10 a11 a12 a13 a14 a15 a16)))) → wX_owned_79 post (nI x0) f1 f2 f3 f4 f5 f6 (n + 1) (nI tot) (nI (i + 1)) a1 a2 a3 a4 a5 a6 a7 a8 a9 a10 a11 a12 a13 a14 a15 a16 := by
      intro n hh
      exact pk_le (i + 1) 0 (fun z => absurd z (by omega)) (fun _ => nm_r (pk_m1 i) ⟨pk_in i 20 (by omega), nm_r (e' := ma_o (nd d p)) (by rw [nI_clamp (by omega), h11]) ⟨pk_in i 20 (by omega), nm_r (e' := nI d) (by rw [nI_clamp (by omega), h12]) (hh _ rfl)⟩⟩)
    rcases hc : nd d p with _ | x
    · obtain ⟨n, hn⟩ := H a11 a12 (fun q _ => ⟨rfl, rfl⟩)
      refine ⟨n + 1, pop n (fun c e => ?_)⟩
      rw [hc] at e
      subst e
      refine br_f (by decide) ?_
      have g : ma_n E k d p = 2 ^ (8 - d) := by
        refine ma_n_full hV hk (fun u d' g1 g2 g3 g4 => ?_)
        exact ma_T_noE hT (d := d) (by rw [g1]; exact hc) d' g2 g3
      rw [g] at hn
      refine nm_r (e' := nI (tot + 2 ^ (8 - d))) ?_ hn
      rw [ma_pow d (by omega), nI_add]
    · have hxE := hE d p
      have h9 := (hT.2.2.1 _ _ _ hc).2.2
      have hc0 := ma_T_ch hT hc (b := 0) (by omega)
      have hc1 := ma_T_ch hT hc (b := 1) (by omega)
      have l0 := hT.2.1 (d + 1) (2 * p + 0)
      have l1 := hT.2.1 (d + 1) (2 * p + 1)
      have fin : (d0 < d → E d p = 0) → ∃ n, wX_owned_141 post (wX_owned_79 post (nI x0) f1 f2 f3 f4 f5 f6 n) (nI x0) (nI tot) (nI i) (nI x) (nI d) f1 f2 f3 f4 f5 f6 a1 a2 a3 a4 a5 a6 a7 a8 a9 a10 a11 a12 a13 a14 a15 a16 := by
        intro hz
        have two : ∃ n, wX_owned_79 post (nI x0) f1 f2 f3 f4 f5 f6 n (nI tot) (nI (i + 1 + 1)) a1 a2 a3 a4 a5 a6 a7 a8 a9 a10 (upd (upd a11 i (ma_o (nd (d + 1) (2 * p + 0)))) (i + 1) (ma_o (nd (d + 1) (2 * p + 1)))) (upd (upd a12 i (nI (d + 1))) (i + 1) (nI (d + 1))) a13 a14 a15 a16 := by
          refine ih (d + 1) (2 * p + 1) (i + 1) tot _ _ (by omega) (ma_V_dn hV (by omega) hz 1 (by omega)) (by omega) pk_us pk_us (fun b11 b12 hb => ?_)
          refine ih (d + 1) (2 * p + 0) i (tot + ma_n E k (d + 1) (2 * p + 1)) b11 b12 (by omega) (ma_V_dn hV (by omega) hz 0 (by omega)) (by omega) ?_ ?_ (fun c11 c12 hcc => ?_)
          · rw [(hb i (by omega)).1, pk_un (by omega)]
            exact pk_us
          · rw [(hb i (by omega)).2, pk_un (by omega)]
            exact pk_us
          · have s : ma_n E k d p = ma_n E k (d + 1) (2 * p + 0) + ma_n E k (d + 1) (2 * p + 1) := ma_n_split (show d < 8 by omega)
            rw [show tot + ma_n E k (d + 1) (2 * p + 1) + ma_n E k (d + 1) (2 * p + 0) = tot + ma_n E k d p by rw [s]; omega]
            refine H c11 c12 (fun q hq => ?_)
            rw [(hcc q hq).1, (hcc q hq).2, (hb q (by omega)).1, (hb q (by omega)).2, pk_un (by omega), pk_un (by omega), pk_un (by omega), pk_un (by omega)]
            exact ⟨rfl, rfl⟩
        obtain ⟨n, hn⟩ := two
        have e1 : (2 : Int32) * nI x = nI (2 * x) := pk_mul 2 x
        have e2 : (2 : Int32) * nI x + 1 = nI (2 * x + 1) := by rw [e1, nI_1]
        refine ⟨n, pk_eq d 8 (fun z => absurd z (by omega)) (fun _ => ⟨pk_in (2 * x) 258 (by omega) e1, pk_in i 20 (by omega), nm_r (e' := upd a11 i (ma_o (nd (d + 1) (2 * p + 0)))) ?_ ⟨pk_in i 20 (by omega), nm_r (e' := upd a12 i (nI (d + 1))) ?_ ⟨pk_in (2 * x + 1) 258 (by omega) e2, pk_in (i + 1) 20 (by omega) (nI_1 i), nm_r (e' := upd (upd a11 i (ma_o (nd (d + 1) (2 * p + 0)))) (i + 1) (ma_o (nd (d + 1) (2 * p + 1)))) ?_ ⟨pk_in (i + 1) 20 (by omega) (nI_1 i), nm_r (e' := upd (upd a12 i (nI (d + 1))) (i + 1) (nI (d + 1))) ?_ (nm_r (e' := nI (i + 1 + 1)) ?_ hn)⟩⟩⟩⟩)⟩
        · rw [e1, nI_clamp (n := 2 * x) (by omega), nI_clamp (n := i) (by omega), show a8 (2 * x) = ma_o (nd (d + 1) (2 * p + 0)) from hc0, vp_nar_short, ma_o16 _ (by omega)]
        · rw [nI_clamp (n := i) (by omega), nI_1, ma_i8 _ (by omega)]
        · rw [e2, nI_1, nI_clamp (n := 2 * x + 1) (by omega), nI_clamp (n := i + 1) (by omega), hc1, vp_nar_short, ma_o16 _ (by omega)]
        · rw [nI_1, nI_1, nI_clamp (n := i + 1) (by omega), ma_i8 _ (by omega)]
        · exact nI_add i 2
      by_cases q : x = x0
      · obtain ⟨n, hn⟩ := fin (fun g => by
          subst q
          have := hT.2.2.2.1 d p d0 p0 (by omega) (by omega)
          omega)
        refine ⟨n + 1, pop n (fun c e => ?_)⟩
        rw [hc] at e
        subst e
        exact br_t (nI_pos' (by omega)) (br_t (by rw [q]; rfl) hn)
      · rcases he : E d p with _ | y
        · obtain ⟨n, hn⟩ := fin (fun _ => he)
          refine ⟨n + 1, pop n (fun c e => ?_)⟩
          rw [hc] at e
          subst e
          rw [ma_oS, nI_clamp (n := x) (by omega), h9, he]
          exact br_t (nI_pos' (by omega)) (br_f (by rw [nI_eq (by omega) (by have := hT.2.1 d0 p0; omega)]; exact q) ⟨pk_in x 129 (by omega), br_f (by decide) hn⟩)
        · obtain ⟨n, hn⟩ := H a11 a12 (fun q _ => ⟨rfl, rfl⟩)
          have g : d0 < d := by
            rcases Nat.lt_or_ge d0 d with g | g
            · exact g
            · have e : d0 = d := by omega
              subst e
              rw [Nat.sub_self, Nat.pow_zero, Nat.div_one] at v3
              subst v3
              omega
          rw [ma_n_zero hV g (by omega) hu] at hn
          refine ⟨n + 1, pop n (fun c e => ?_)⟩
          rw [hc] at e
          subst e
          rw [ma_oS, nI_clamp (n := x) (by omega), h9, he]
          exact br_t (nI_pos' (by omega)) (br_f (by rw [nI_eq (by omega) (by have := hT.2.1 d0 p0; omega)]; exact q) ⟨pk_in x 129 (by omega), br_t (nI_pos' (by omega)) hn⟩)
/-! entryWith -/
theorem ma_ew_some {post : Int32 → Prop} {h e : Nat} (hh : h < 2 ^ 31) (he : e < 32) (hne : ∀ j, j < e → ¬ a4 j = nI h) (hit : a4 e = nI h) (H : post (nI e)) : wpX_entryWith post (f1, f2, f3, f4, f5, f6, a1, a2, a3, a4, a5, a6, a7, a8, a9, a10, a11, a12, a13, a14, a15, a16) (nI h) :=
  br_t (nI_pos' hh) (pk_loop (σ := Unit) (fun n i _ => wX_entryWith_8 post (nI h) f1 f2 f3 f4 f5 f6 a1 a2 a3 a4 a5 a6 a7 a8 a9 a10 a11 a12 a13 a14 a15 a16 n (nI i)) (fun _ _ => True) e 0 () (by omega) trivial
    (fun n _ _ => pk_le 32 e (fun z => absurd z (by omega)) (fun _ => ⟨pk_in e 32 he, br_t (by rw [nI_clamp (by omega)]; exact hit) H⟩))
    (fun n i _ hi _ hw => pk_le 32 i (fun z => absurd z (by omega)) (fun _ => ⟨pk_in i 32 (by omega), br_f (by rw [nI_clamp (by omega)]; exact hne i hi) (nm_r (nI_1 i) (hw () trivial))⟩)))
theorem ma_ew_none {post : Int32 → Prop} {h : Nat} (hh : h < 2 ^ 31) (hne : ∀ j, j < 32 → ¬ a4 j = nI h) (H : post (-1)) : wpX_entryWith post (f1, f2, f3, f4, f5, f6, a1, a2, a3, a4, a5, a6, a7, a8, a9, a10, a11, a12, a13, a14, a15, a16) (nI h) :=
  br_t (nI_pos' hh) (pk_loop (σ := Unit) (fun n i _ => wX_entryWith_8 post (nI h) f1 f2 f3 f4 f5 f6 a1 a2 a3 a4 a5 a6 a7 a8 a9 a10 a11 a12 a13 a14 a15 a16 n (nI i)) (fun _ _ => True) 32 0 () (by omega) trivial
    (fun n _ _ => pk_le 32 32 (fun _ => H) (fun z => absurd z (by omega)))
    (fun n i _ hi _ hw => pk_le 32 i (fun z => absurd z (by omega)) (fun _ => ⟨pk_in i 32 (by omega), br_f (by rw [nI_clamp (by omega)]; exact hne i hi) (nm_r (nI_1 i) (hw () trivial))⟩)))
/-- owned, of a live entry -/
theorem ma_owned_live {post : Int32 → St2 → Prop} {al : Nat → Bool} {w : Nat → Nat} {k : Nat} (hb : ma_Tb al w a4 a6 a7) (hr : ma_TR al w f3 f4 a8 a9) (hk : al k = true)
    (H : ∀ (f3 f4 : Int32) (a8 a9 a10 a11 a12 : Nat → Int32), ma_TR al w f3 f4 a8 a9 → post (nI (ma_c (fun u => decide (ma_be (ma_E al w 16) u 9 = k + 1)) 0 256)) (f1, f2, f3, f4, f5, f6, a1, a2, a3, a4, a5, a6, a7, a8, a9, a10, a11, a12, a13, a14, a15, a16)) : wpX_owned post (f1, f2, f3, f4, f5, f6, a1, a2, a3, a4, a5, a6, a7, a8, a9, a10, a11, a12, a13, a14, a15, a16) (nI k) := by
  obtain ⟨h4, h8, h6, h7⟩ := hb.2 k hk
  have hv : ma_v k < 256 := by
    unfold ma_v
    omega
  have uniq : ∀ d p, ma_E al w 16 d p = k + 1 → d = w k ∧ p = ma_v k / 2 ^ (8 - w k) := by
    intro d p q
    obtain ⟨q1, q2, q3, q4, q5⟩ := ma_E_some q
    subst q3
    exact ⟨rfl, q4.symm⟩
  refine ma_ew_some (e := k) (by omega) (by omega) (fun j hj q => ?_) (by rw [hb.1 k (by omega), if_pos hk]; rfl) ?_
  · rw [hb.1 j (by omega), ← ma_oS, ma_o_eq (by split <;> omega) (by omega)] at q
    split at q <;> omega
  · refine br_f (nI_pos (by omega)) (br_t (nI_lt (b := 16) (by omega) (by omega)) (ma_makeTree hb hr (fun nd N a8 a9 a10 hT hN => ⟨pk_in k 32 (by omega), pk_in k 32 (by omega), ?_⟩)))
    rw [nI_clamp (n := k) (by omega), h6, h7]
    have hR : ma_TR al w 1 (nI N) a8 a9 := Or.inr ⟨rfl, nd, N, rfl, hN, hT⟩
    have hEl : ma_E al w 16 (w k) (ma_v k / 2 ^ (8 - w k)) ≤ 16 := ma_E_le
    have hpres : nd (w k) (ma_v k / 2 ^ (8 - w k)) ≠ 0 := fun z => ma_E_none (hT.2.2.2.2.1 _ _ z).1 k (by omega) hk rfl rfl
    obtain ⟨x0, hx0⟩ : ∃ x0, nd (w k) (ma_v k / 2 ^ (8 - w k)) = x0 + 1 := ⟨nd (w k) (ma_v k / 2 ^ (8 - w k)) - 1, by omega⟩
    have hxl := hT.2.1 (w k) (ma_v k / 2 ^ (8 - w k))
    have h9 := (hT.2.2.1 _ _ _ hx0).2.2
    refine ⟨w k + 1, ma_nfo hv h8 (by omega) hT hx0 ⟨pk_in x0 129 (by omega), ?_⟩ (w k) 0 0 (by omega) (by rw [show ma_v k / 2 ^ (8 - 0) = 0 from Nat.div_eq_of_lt hv]; exact hT.1)⟩
    rw [nI_clamp (n := x0) (by omega), h9, ← ma_oS k]
    refine ma_beq (ma_E al w 16 (w k) (ma_v k / 2 ^ (8 - w k))) (k + 1) (fun hE => ?_) (fun hE => ?_) rfl rfl
    · refine nm_r (e' := upd a11 0 (ma_o (x0 + 1))) (by rw [ma_i16 x0 (by omega)]; rfl) ⟨pk_in k 32 (by omega), nm_r (e' := upd a12 0 (nI (w k))) (by rw [h7, ma_i8 _ (by omega)]) ?_⟩
      refine ma_item (k := k) (by omega) (fun d p => ma_E_le) hT hx0 hE (fun d p q => (uniq d p q).1) (8 - w k) (w k) (ma_v k / 2 ^ (8 - w k)) 0 0 _ _ (by omega) (ma_V_0 h8) (by omega) (by rw [pk_us, hx0]) pk_us (fun b11 b12 _ => ⟨1, ?_⟩)
      have hp : ma_v k / 2 ^ (8 - w k) < 2 ^ w k := by
        rw [Nat.div_lt_iff_lt_mul (Nat.pow_pos (by omega)), ← Nat.pow_add, show w k + (8 - w k) = 8 by omega]
        exact hv
      rw [ma_n_tot h8 hp uniq, Nat.zero_add]
      exact br_t (by decide) (H 1 (nI N) a8 a9 a10 b11 b12 hR)
    · have z : ma_c (fun u => decide (ma_be (ma_E al w 16) u 9 = k + 1)) 0 256 = 0 := by
        refine ma_c_none (fun i _ => ?_)
        rw [decide_eq_true_eq]
        intro q
        obtain ⟨d1, q1, q2, q3⟩ := ma_be_some q
        obtain ⟨r1, r2⟩ := uniq _ _ q2
        rw [r1] at q2 r2
        rw [r2] at q2
        exact hE q2
      have h := H 1 (nI N) a8 a9 a10 a11 a12 hR
      rw [z] at h
      exact h
/-- owned, of no live entry of table 0 -/
theorem ma_owned_none {post : Int32 → St2 → Prop} {h : Nat} (hh : h < 2 ^ 31) (hne : ∀ j, j < 32 → ¬ a4 j = nI h) (H : post (-3) (f1, f2, f3, f4, f5, f6, a1, a2, a3, a4, a5, a6, a7, a8, a9, a10, a11, a12, a13, a14, a15, a16)) : wpX_owned post (f1, f2, f3, f4, f5, f6, a1, a2, a3, a4, a5, a6, a7, a8, a9, a10, a11, a12, a13, a14, a15, a16) (nI h) :=
  ma_ew_none hh hne (br_t (by decide) H)
theorem ma_owned_16 {post : Int32 → St2 → Prop} {h : Nat} (hh : h < 2 ^ 31) (hne : ∀ j, j < 16 → ¬ a4 j = nI h) (hit : a4 16 = nI h) (H : post (-3) (f1, f2, f3, f4, f5, f6, a1, a2, a3, a4, a5, a6, a7, a8, a9, a10, a11, a12, a13, a14, a15, a16)) : wpX_owned post (f1, f2, f3, f4, f5, f6, a1, a2, a3, a4, a5, a6, a7, a8, a9, a10, a11, a12, a13, a14, a15, a16) (nI h) :=
  ma_ew_some (e := 16) hh (by omega) hne hit (br_f (by decide) (br_f (by decide) H))
end
end
section
/-! the law's own functions -/
def ma_w (x : Int32) (k : Nat) : Nat := ((x >>> ((4 * nI k) &&& 31)) &&& 15).toNatClampNeg % 9
theorem ma_w_le (x : Int32) (k : Nat) : ma_w x k ≤ 8 := by
  have := Nat.mod_lt ((x >>> ((4 * nI k) &&& 31)) &&& 15).toNatClampNeg (show 0 < 9 by omega)
  unfold ma_w
  omega
theorem ma_w_eq (x : Int32) (k : Nat) : ((x >>> ((4 * nI k) &&& 31)) &&& 15) - ((x >>> ((4 * nI k) &&& 31)) &&& 15) / 9 * 9 = nI (ma_w x k) := by
  obtain ⟨j, hj, e⟩ := pk_andE (x >>> ((4 * nI k) &&& 31)) (m := 15) 4 (by decide)
  unfold ma_w
  rw [e, nI_clamp (by omega)]
  exact pk_rem (d := 9) (by omega) (by omega) (by omega)
theorem ma_fits {post : Int32 → Prop} {x : Int32} {k u : Nat} (hk : k < 4) (hu : u < 256) (h1 : ma_fit (ma_w x) u k → post 1) (h0 : ¬ ma_fit (ma_w x) u k → post 0) : wpL_fits post () x (nI k) (nI u) := by
  have hw := ma_w_le x k
  have e8 : (8 : Int32) - nI (ma_w x k) = nI (8 - ma_w x k) := pk_sub (a := 8) hw
  have ev : (90 : Int32) + 37 * nI k = nI (ma_v k) := by
    unfold ma_v
    rw [← nI_add, ← pk_mul]
    rfl
  have l1 : u / 2 ^ (8 - ma_w x k) ≤ u := Nat.div_le_self _ _
  have l2 : ma_v k / 2 ^ (8 - ma_w x k) ≤ ma_v k := Nat.div_le_self _ _
  have l3 : ma_v k < 256 := by
    unfold ma_v
    omega
  refine ⟨by decide, nm_r (ma_w_eq x k) ?_⟩
  rw [e8, ev, pk_shrN (by omega) _ _ (ma_sh _ (by omega)), pk_shrN (by omega) _ _ (ma_sh _ (by omega))]
  exact pk_eq (u / 2 ^ (8 - ma_w x k)) (ma_v k / 2 ^ (8 - ma_w x k)) (fun z => h1 z) (fun z => h0 z)
def ma_al (lc k : Nat) : Bool := decide (k < 4 ∧ k + 1 ≠ lc)
theorem ma_al_iff {lc k : Nat} : ma_al lc k = true ↔ k < 4 ∧ k + 1 ≠ lc := decide_eq_true_iff
/-- the code of u's entry -/
def ma_f (lc : Nat) (w : Nat → Nat) (u : Nat) : Nat := ma_be (ma_E (ma_al lc) w 16) u 9
theorem ma_f_B {lc : Nat} {w : Nat → Nat} {u c : Nat} (hw : ∀ k, w k ≤ 8) (h : ma_B (ma_al lc) w u 4 c) : c = ma_f lc w u := by
  have h16 : ma_B (ma_al lc) w u 16 c := by
    refine ⟨fun hc j hj ha => h.1 hc j (ma_al_iff.mp ha).1 ha, fun k hc => ?_⟩
    obtain ⟨g1, g2, g3, g4⟩ := h.2 k hc
    exact ⟨by omega, g2, g3, fun j hj ha => g4 j (ma_al_iff.mp ha).1 ha⟩
  exact ma_B_u h16 (ma_B_be (fun k _ => hw k))
theorem ma_f_some {lc : Nat} {w : Nat → Nat} {u k : Nat} (h : ma_f lc w u = k + 1) : k < 4 ∧ k + 1 ≠ lc := by
  obtain ⟨d, h1, h2, h3⟩ := ma_be_some h
  exact ma_al_iff.mp (ma_E_some h2).2.1
theorem ma_f_le {lc : Nat} {w : Nat → Nat} {u : Nat} : ma_f lc w u ≤ 4 := by
  rcases h : ma_f lc w u with _ | k
  · omega
  · have := ma_f_some h
    omega
theorem ma_taken {post : Int32 → Prop} {x : Int32} {lc u : Nat} (hlc : lc ≤ 4) (hu : u < 256) (H : post (ma_o (ma_f lc (ma_w x) u))) : wpL_taken post () x (ma_o lc) (nI u) := by
  have L : ∀ j k, k + j = 4 → ∀ b t, ma_I (ma_al lc) (ma_w x) u k b t → wL_taken_8 post x (ma_o lc) (nI u) (j + 1) (ma_o b) (ma_o t) (nI k) := by
    intro j
    induction j with
    | zero =>
      intro k hk b t h
      have e : k = 4 := by omega
      subst e
      refine pk_le 4 4 (fun _ => ?_) (fun z => absurd z (by omega))
      rw [ma_f_B (ma_w_le x) h.1]
      exact H
    | succ j ih =>
      intro k hk b t h
      have hw := ma_w_le x k
      have hb9 := h.2.2.2
      refine pk_le 4 k (fun z => absurd z (by omega)) (fun _ => ⟨by decide, nm_r (ma_w_eq x k) ?_⟩)
      refine ma_beq (k + 1) lc (fun e => ?_) (fun e => ?_) rfl rfl
      · refine nm_r (nI_1 k) (ih (k + 1) (by omega) b t (ma_I_no h (fun q => (ma_al_iff.mp q.1).2 e)))
      · refine ma_fits (by omega) hu (fun hf => ?_) (fun hf => ?_)
        · refine br_f (by decide) ?_
          refine ma_ble (ma_w x k + 1) t (fun z => ?_) (fun z => ?_) rfl rfl
          · exact nm_r (nI_1 k) (ih (k + 1) (by omega) b t (ma_I_less h z))
          · exact nm_r (nI_1 k) (ih (k + 1) (by omega) (k + 1) (ma_w x k + 1) (ma_I_more h (ma_al_iff.mpr ⟨by omega, e⟩) hf hw z))
        · exact br_t rfl (nm_r (nI_1 k) (ih (k + 1) (by omega) b t (ma_I_no h (fun q => hf q.2))))
  exact ⟨5, L 4 0 (by omega) 0 0 ma_I_0⟩
/-! numbers of the masks -/
def ma_key (m : Nat) : Int32 := nI (256 * (11 &&& m) + 196608)
def ma_msk (m : Nat) : Int32 := nI (256 * m)
theorem ma_k1 : ∀ m, m < 256 → (((2816 + nI m) &&& 255) <<< ((8 : Int32) &&& 31)) ||| ((0 : Int32) &&& 255) = ma_msk m := by decide +kernel
theorem ma_k2 : ∀ m, m < 256 → (((((2816 + nI m) &&& 65280) ||| ((0 : Int32) >>> ((8 : Int32) &&& 31))) &&& ma_msk m) ||| ((3 : Int32) <<< ((16 : Int32) &&& 31))) = ma_key m := by decide +kernel
theorem ma_k3 : ∀ m, m < 256 → ma_key m >>> ((16 : Int32) &&& 31) = 3 := by decide +kernel
theorem ma_k4 : ∀ m, m < 256 → ma_key m &&& 65535 = nI (256 * (11 &&& m)) := by decide +kernel
theorem ma_k5 : ∀ n, n < 32 → ∀ m, m < 256 → ((nI n <<< ((8 : Int32) &&& 31)) ||| 0) &&& ma_msk m = nI (256 * (n &&& m)) := by decide +kernel
theorem ma_k6 : ∀ n, n < 32 → ∀ m, m < 256 → nI n &&& nI m = nI (n &&& m) := by decide +kernel
theorem ma_k7 : ∀ m, m < 256 → 2816 + nI m = nI (2816 + m) := by decide +kernel
theorem ma_80 (s : Nat) : (8 : Int32) * 0 + nI s = nI s := by
  rw [show (8 : Int32) * 0 = 0 from rfl, Int32.zero_add]
def ma_slot (x : Int32) : Int32 := (((x ^^^ (x >>> ((3 : Int32) &&& 31))) ^^^ (x >>> ((8 : Int32) &&& 31))) ^^^ (x >>> ((11 : Int32) &&& 31))) &&& 7
theorem ma_slot_in (x : Int32) : ∃ s, s < 8 ∧ ma_slot x = nI s := pk_andE _ (m := 7) 3 (by decide)
/-- the groups as one masked entry (of mask m) makes them -/
def ma_G (m : Nat) (f6 : Int32) (a13 a15 a16 : Nat → Int32) : Prop :=
  f6 = 1 ∧ a13 0 = ma_msk m ∧ (∃ s, s < 8 ∧ ma_slot (nI (256 * (11 &&& m))) = nI s ∧ a15 s = 16 ∧ ∀ j, j < 8 → j ≠ s → a15 j = -1) ∧ a16 16 = -1
section
variable {f1 f2 f3 f4 f5 f6 : Int32} {a1 a2 a3 a4 a5 a6 a7 a8 a9 a10 a11 a12 a13 a14 a15 a16 : Nat → Int32}
/-- the lists are emptied -/
theorem ma_g20 {post : St2 → Prop} (H : ∀ a15 : Nat → Int32, (∀ j, j < 128 → a15 j = -1) → ∃ n, wX_makeGroups_43 post n 16 f1 f2 f3 f4 f5 f6 a1 a2 a3 a4 a5 a6 a7 a8 a9 a10 a11 a12 a13 a14 a15 a16) : ∃ n, wX_makeGroups_20 post f1 f2 f3 f4 f5 f6 n 0 a1 a2 a3 a4 a5 a6 a7 a8 a9 a10 a11 a12 a13 a14 a15 a16 :=
  pk_loop (fun n i (s : Nat → Int32) => wX_makeGroups_20 post f1 f2 f3 f4 f5 f6 n (nI i) a1 a2 a3 a4 a5 a6 a7 a8 a9 a10 a11 a12 a13 a14 s a16) (fun i s => ∀ j, j < i → s j = -1) 128 0 a15 (by omega) (fun j hj => absurd hj (by omega))
    (fun n s h => pk_le 128 128 (fun _ => H s h) (fun z => absurd z (by omega)))
    (fun n i s hi h hw => pk_le 128 i (fun z => absurd z (by omega)) (fun _ => ⟨pk_in i 128 hi, nm_r (e' := upd s i (-1)) (by rw [nI_clamp (by omega)]) (nm_r (nI_1 i) (hw _ (fun j hj => by
      by_cases e : j = i
      · rw [e]
        exact pk_us
      · rw [pk_un e]
        exact h j (by omega))))⟩))
/-- no entry is left from e on -/
theorem ma_g76 {post : St2 → Prop} {e : Nat} (he : e ≤ 32) (hd : ∀ j, e ≤ j → j < 32 → a4 j = -1) (H : post (f1, f2, f3, f4, f5, f6, a1, a2, a3, a4, a5, a6, a7, a8, a9, a10, a11, a12, a13, a14, a15, a16)) : ∃ n, wX_makeGroups_76 post n (nI e) f1 f2 f3 f4 f5 f6 a1 a2 a3 a4 a5 a6 a7 a8 a9 a10 a11 a12 a13 a14 a15 a16 :=
  pk_loop (σ := Unit) (fun n i _ => wX_makeGroups_76 post n (nI i) f1 f2 f3 f4 f5 f6 a1 a2 a3 a4 a5 a6 a7 a8 a9 a10 a11 a12 a13 a14 a15 a16) (fun i _ => e ≤ i) 32 e () he (Nat.le_refl e)
    (fun n _ _ => pk_le 32 32 (fun _ => H) (fun z => absurd z (by omega)))
    (fun n i _ hi h hw => pk_le 32 i (fun z => absurd z (by omega)) (fun _ => ⟨pk_in i 32 hi, br_t (by rw [nI_clamp (by omega), hd i h hi]; decide) (nm_r (nI_1 i) (hw () (by omega)))⟩))
theorem ma_g43 {post : St2 → Prop} {e : Nat} (he : e ≤ 32) (hd : ∀ j, e ≤ j → j < 32 → a4 j = -1) (hg : f6 = 0 ∨ f6 = 1) (H : ∃ n, wX_makeGroups_76 post n 16 f1 f2 f3 f4 f5 f6 a1 a2 a3 a4 a5 a6 a7 a8 a9 a10 a11 a12 a13 a14 a15 a16) : ∃ n, wX_makeGroups_43 post n (nI e) f1 f2 f3 f4 f5 f6 a1 a2 a3 a4 a5 a6 a7 a8 a9 a10 a11 a12 a13 a14 a15 a16 :=
  pk_loop (σ := Unit) (fun n i _ => wX_makeGroups_43 post n (nI i) f1 f2 f3 f4 f5 f6 a1 a2 a3 a4 a5 a6 a7 a8 a9 a10 a11 a12 a13 a14 a15 a16) (fun i _ => e ≤ i) 32 e () he (Nat.le_refl e)
    (fun n _ _ => pk_le 32 32 (fun _ => ⟨1, br_t (by rcases hg with h | h <;> (rw [h]; decide)) H⟩) (fun z => absurd z (by omega)))
    (fun n i _ hi h hw => pk_le 32 i (fun z => absurd z (by omega)) (fun _ => ⟨pk_in i 32 hi, br_t (by rw [nI_clamp (by omega), hd i h hi]; decide) (nm_r (nI_1 i) (hw () (by omega)))⟩))
/-- groupOf, with no group and with the one -/
theorem ma_go0 {post : Int32 → Prop} {x : Int32} (H : post (-1)) : wpX_groupOf post (f1, f2, f3, f4, f5, 0, a1, a2, a3, a4, a5, a6, a7, a8, a9, a10, a11, a12, a13, a14, a15, a16) x := ⟨1, br_t (by decide) H⟩
theorem ma_go1 {post : Int32 → Prop} {x : Int32} (h : a13 0 = x) (H : post 0) : wpX_groupOf post (f1, f2, f3, f4, f5, 1, a1, a2, a3, a4, a5, a6, a7, a8, a9, a10, a11, a12, a13, a14, a15, a16) x := ⟨1, br_f (by decide) ⟨pk_in 0 16 (by omega), br_t h H⟩⟩
/-- the groups are to be made, or they are there -/
def ma_GR (m : Nat) (f5 f6 : Int32) (a13 a15 a16 : Nat → Int32) : Prop := f5 = 0 ∨ (f5 = 1 ∧ ma_G m f6 a13 a15 a16)
theorem ma_makeGroups {post : St2 → Prop} {m : Nat} (hm : m < 256) (h4 : a4 16 = 4) (h4' : ∀ j, 17 ≤ j → j < 32 → a4 j = -1) (h6 : a6 16 = ma_key m) (h7 : a7 16 = ma_msk m) (hr : ma_GR m f5 f6 a13 a15 a16)
    (H : ∀ a13 a14 a15 a16 : Nat → Int32, ma_G m 1 a13 a15 a16 → post (f1, f2, f3, f4, 1, 1, a1, a2, a3, a4, a5, a6, a7, a8, a9, a10, a11, a12, a13, a14, a15, a16)) : wpX_makeGroups post (f1, f2, f3, f4, f5, f6, a1, a2, a3, a4, a5, a6, a7, a8, a9, a10, a11, a12, a13, a14, a15, a16) := by
  rcases hr with h | ⟨h, hG⟩
  · subst h
    refine br_t rfl (ma_g20 (fun a15 h15 => ?_))
    have two : ∀ a13 a14 : Nat → Int32, a13 0 = ma_msk m → ∃ n, wX_makeGroups_43 post n 17 f1 f2 f3 f4 1 1 a1 a2 a3 a4 a5 a6 a7 a8 a9 a10 a11 a12 a13 a14 a15 a16 := by
      intro a13 a14 h13
      refine ma_g43 (e := 17) (by omega) h4' (Or.inr rfl) ?_
      have three : ∀ a15 a16 : Nat → Int32, ma_G m 1 a13 a15 a16 → ∃ n, wX_makeGroups_76 post n 17 f1 f2 f3 f4 1 1 a1 a2 a3 a4 a5 a6 a7 a8 a9 a10 a11 a12 a13 a14 a15 a16 := by
        intro a15 a16 hG
        exact ma_g76 (e := 17) (by omega) h4' (H a13 a14 a15 a16 hG)
      have four : ∃ n, wpX_hang (fun u => match u with | (f1, f2, f3, f4, f5, f6, a1, a2, a3, a4, a5, a6, a7, a8, a9, a10, a11, a12, a13, a14, a15, a16) => ∀ x : Int32, x = 16 + 1 → wX_makeGroups_76 post n x f1 f2 f3 f4 f5 f6 a1 a2 a3 a4 a5 a6 a7 a8 a9 a10 a11 a12 a13 a14 a15 a16) (f1, f2, f3, f4, 1, 1, a1, a2, a3, a4, a5, a6, a7, a8, a9, a10, a11, a12, a13, a14, a15, a16) (nI 16) := by
        obtain ⟨s, hs, es⟩ := ma_slot_in (nI (256 * (11 &&& m)))
        have hG : ma_G m 1 a13 (upd a15 s 16) (upd a16 16 (-1)) := by
          refine ⟨rfl, h13, ⟨s, hs, es, pk_us, fun j hj hn => ?_⟩, pk_us⟩
          rw [pk_un hn]
          exact h15 j (by omega)
        obtain ⟨n, hn⟩ := three _ _ hG
        refine ⟨n, ?_⟩
        refine ⟨pk_in 16 32 (by omega), ma_go1 (by rw [show (nI 16).toNatClampNeg = 16 from rfl, h7]; exact h13) ⟨pk_in 16 32 (by omega), ?_⟩⟩
        rw [show (nI 16).toNatClampNeg = 16 from rfl, h6, ma_k4 m hm]
        show ∀ x2_5 : Int32, x2_5 = 8 * 0 + ma_slot (nI (256 * (11 &&& m))) → _
        refine nm_r (e' := nI s) (by rw [es]; exact ma_80 s) ⟨pk_in s 128 (by omega), nm_r (e' := -1) (by rw [nI_clamp (by omega)]; exact h15 s (by omega)) ⟨1, br_t (by decide) ⟨pk_in 16 32 (by omega), nm_r (e' := upd a16 16 (-1)) rfl (br_f (by decide) ⟨pk_in s 128 (by omega), nm_r (e' := upd a15 s 16) (by rw [nI_clamp (by omega)]; rfl) (nm_r (e' := 17) (by decide) hn)⟩)⟩⟩⟩
      obtain ⟨n, hn⟩ := four
      exact ⟨n + 1, br_f (by decide) ⟨pk_in 16 32 (by omega), br_f (by rw [show (16 : Int32).toNatClampNeg = 16 from rfl, h4]; decide) hn⟩⟩
    have one : ∃ n, wpX_noteGroup (fun u => match u with | (f1, f2, f3, f4, f5, f6, a1, a2, a3, a4, a5, a6, a7, a8, a9, a10, a11, a12, a13, a14, a15, a16) => ∀ x : Int32, x = 16 + 1 → wX_makeGroups_43 post n x f1 f2 f3 f4 f5 f6 a1 a2 a3 a4 a5 a6 a7 a8 a9 a10 a11 a12 a13 a14 a15 a16) (f1, f2, f3, f4, 1, 0, a1, a2, a3, a4, a5, a6, a7, a8, a9, a10, a11, a12, a13, a14, a15, a16) (nI 16) := by
      have fin : ∃ a13' a14' : Nat → Int32, a13' 0 = ma_msk m ∧ ∀ post' : St2 → Prop, post' (f1, f2, f3, f4, 1, 1, a1, a2, a3, a4, a5, a6, a7, a8, a9, a10, a11, a12, a13', a14', a15, a16) → wpX_noteGroup post' (f1, f2, f3, f4, 1, 0, a1, a2, a3, a4, a5, a6, a7, a8, a9, a10, a11, a12, a13, a14, a15, a16) (nI 16) := by
        refine ⟨upd a13 0 (ma_msk m), upd (upd a14 0 0) 0 3, pk_us, fun post' hp => ?_⟩
        refine ⟨pk_in 16 32 (by omega), ma_go0 (br_f (by decide) (nm_r (e' := 1) (by decide) ⟨pk_in 16 32 (by omega), pk_in 0 16 (by omega), nm_r (e' := upd a13 0 (ma_msk m)) (by rw [show (nI 16).toNatClampNeg = 16 from rfl, h7]; rfl) ⟨pk_in 0 16 (by omega), nm_r (e' := upd a14 0 0) rfl ⟨pk_in 16 32 (by omega), pk_in 0 16 (by omega), ?_⟩⟩⟩))⟩
        rw [show (nI 16).toNatClampNeg = 16 from rfl, h6, ma_k3 m hm]
        exact br_f (by show ¬ (3 : Int32) ≤ upd a14 0 0 0; rw [pk_us]; decide) ⟨pk_in 16 32 (by omega), pk_in 0 16 (by omega), nm_r (e' := upd (upd a14 0 0) 0 3) rfl hp⟩
      obtain ⟨a13', a14', h13', hp⟩ := fin
      obtain ⟨n, hn⟩ := two a13' a14' h13'
      exact ⟨n, hp _ (nm_r (e' := 17) (by decide) hn)⟩
    obtain ⟨n, hn⟩ := one
    exact ⟨n + 1, br_f (by decide) ⟨pk_in 16 32 (by omega), br_f (by rw [show (16 : Int32).toNatClampNeg = 16 from rfl, h4]; decide) hn⟩⟩
  · subst h
    have h6' := hG.1
    subst h6'
    exact br_f (by decide) (H a13 a14 a15 a16 hG)
/-- no masked entry -/
theorem ma_makeGroups0 {post : St2 → Prop} (h4 : ∀ j, 16 ≤ j → j < 32 → a4 j = -1) (H : ∀ a15 : Nat → Int32, post (f1, f2, f3, f4, 1, 0, a1, a2, a3, a4, a5, a6, a7, a8, a9, a10, a11, a12, a13, a14, a15, a16)) : wpX_makeGroups post (f1, f2, f3, f4, 0, f6, a1, a2, a3, a4, a5, a6, a7, a8, a9, a10, a11, a12, a13, a14, a15, a16) :=
  br_t rfl (ma_g20 (fun a15 _ => ma_g43 (e := 16) (by omega) h4 (Or.inl rfl) (ma_g76 (e := 16) (by omega) h4 (H a15))))
theorem ma_great {post : Int32 → St2 → Prop} {m n : Nat} (hm : m < 256) (hn : n < 32) (h4 : a4 16 = 4) (h4' : ∀ j, 17 ≤ j → j < 32 → a4 j = -1) (h6 : a6 16 = ma_key m) (h7 : a7 16 = ma_msk m) (hr : ma_GR m f5 f6 a13 a15 a16) (h2 : a2 1 = nI n) (h2' : a2 2 = 0)
    (H : ∀ (f5 f6 : Int32) (a13 a14 a15 a16 : Nat → Int32), ma_GR m f5 f6 a13 a15 a16 → post (if n &&& m = 11 &&& m then 16 else -1) (f1, f2, f3, f4, f5, f6, a1, a2, a3, a4, a5, a6, a7, a8, a9, a10, a11, a12, a13, a14, a15, a16)) : wpX_greatestPriority post (f1, f2, f3, f4, f5, f6, a1, a2, a3, a4, a5, a6, a7, a8, a9, a10, a11, a12, a13, a14, a15, a16) := by
  refine ma_makeGroups hm h4 h4' h6 h7 hr (fun a13 a14 a15 a16 hG => nm_e ⟨2, ?_⟩)
  have H' := H 1 1 a13 a14 a15 a16 (Or.inr ⟨rfl, hG⟩)
  obtain ⟨_, g13, ⟨s, hs, es, g15, g15'⟩, g16⟩ := hG
  have last : ∀ r : Int32, r = (if n &&& m = 11 &&& m then 16 else -1) → ∀ x3 : Int32, x3 = 0 + 1 → wX_greatestPriority_25 post ((a2 1 <<< ((8 : Int32) &&& 31)) ||| a2 2) f1 f2 f3 f4 1 1 a1 a2 a3 a4 a5 a6 a7 a8 a9 a10 a11 a12 a13 a14 a15 a16 1 r x3 := by
    intro r hr x3 h3
    subst h3
    subst hr
    exact br_t (by decide) H'
  obtain ⟨s', hs', es'⟩ := ma_slot_in (nI (256 * (n &&& m)))
  have l1 : 11 &&& m ≤ m := Nat.and_le_right
  have l2 : n &&& m ≤ m := Nat.and_le_right
  refine br_f (by decide) (br_t (by decide) ⟨pk_in 0 16 (by omega), nm_r (e' := nI (256 * (n &&& m))) (by rw [h2, h2', show (0 : Int32).toNatClampNeg = 0 from rfl, g13]; exact ma_k5 n hn m hm) ?_⟩)
  show vp_in (8 * 0 + ma_slot (nI (256 * (n &&& m)))) 128 ∧ (∀ x5 : Int32, x5 = a15 (8 * 0 + ma_slot (nI (256 * (n &&& m)))).toNatClampNeg → _)
  rw [es', ma_80 s', nI_clamp (n := s') (by omega)]
  refine ⟨pk_in s' 128 (by omega), ?_⟩
  by_cases q : s' = s
  · subst q
    refine nm_r (e' := 16) g15 ⟨2, br_f (by decide) ⟨pk_in 16 32 (by omega), ?_⟩⟩
    rw [show (16 : Int32).toNatClampNeg = 16 from rfl, h6, ma_k4 m hm]
    refine pk_eq (256 * (11 &&& m)) (256 * (n &&& m)) (fun z => ?_) (fun z => ⟨pk_in 16 32 (by omega), nm_r (e' := -1) g16 ?_⟩)
    · have z' : n &&& m = 11 &&& m := by omega
      exact br_f (by decide) (br_t (by decide) (last 16 (by rw [if_pos z'])))
    · have z' : ¬ n &&& m = 11 &&& m := by omega
      exact br_t (by decide) (br_t (by decide) (last (-1) (by rw [if_neg z'])))
  · refine nm_r (e' := -1) (g15' s' hs' q) ⟨1, br_t (by decide) (br_t (by decide) (last (-1) ?_))⟩
    rw [if_neg]
    intro z
    rw [z, es] at es'
    exact q ((nI_eq (by omega) (by omega)).mp es').symm
end
end
section
section
variable {f1 f2 f3 f4 f5 f6 : Int32} {a1 a2 a3 a4 a5 a6 a7 a8 a9 a10 a11 a12 a13 a14 a15 a16 : Nat → Int32}
/-! the small methods -/
theorem ma_perf_set {post : Int32 → St2 → Prop} {p q : Int32} (e1 : p &&& 7 = 0) (e2 : (p >>> ((3 : Int32) &&& 31)) &&& 3 = 1) (e3 : p >>> ((5 : Int32) &&& 31) = q) (H : post 1 (f1, f2, f3, f4, f5, f6, a1, upd a2 1 q, a3, a4, a5, a6, a7, a8, a9, a10, a11, a12, a13, a14, a15, a16)) : wpX_perform post (f1, f2, f3, f4, f5, f6, a1, a2, a3, a4, a5, a6, a7, a8, a9, a10, a11, a12, a13, a14, a15, a16) p :=
  nm_r e1 (nm_r e2 (nm_r e3 (br_t rfl ⟨pk_in 1 4 (by omega), nm_r (e' := upd a2 1 q) rfl (br_f (by decide) (br_f (by decide) (br_f (by decide) H)))⟩)))
theorem ma_perf_plus {post : Int32 → St2 → Prop} (H : post 1 (f1, f2, f3, f4, f5, f6, a1, upd a2 0 ((a2 0 + 100) &&& 255), a3, a4, a5, a6, a7, a8, a9, a10, a11, a12, a13, a14, a15, a16)) : wpX_perform post (f1, f2, f3, f4, f5, f6, a1, a2, a3, a4, a5, a6, a7, a8, a9, a10, a11, a12, a13, a14, a15, a16) 3201 :=
  nm_r (e' := 1) (by decide) (nm_r (e' := 0) (by decide) (nm_r (e' := 100) (by decide) (br_f (by decide) (br_t rfl ⟨pk_in 0 4 (by omega), pk_in 0 4 (by omega), nm_r (e' := upd a2 0 ((a2 0 + 100) &&& 255)) rfl (br_f (by decide) (br_f (by decide) H))⟩))))
theorem ma_perf_copy {post : Int32 → St2 → Prop} (H : post 1 (f1, f2, f3, f4, f5, f6, a1, upd a2 3 (a2 1), a3, a4, a5, a6, a7, a8, a9, a10, a11, a12, a13, a14, a15, a16)) : wpX_perform post (f1, f2, f3, f4, f5, f6, a1, a2, a3, a4, a5, a6, a7, a8, a9, a10, a11, a12, a13, a14, a15, a16) 58 :=
  nm_r (e' := 2) (by decide) (nm_r (e' := 3) (by decide) (nm_r (e' := 1) (by decide) (br_f (by decide) (br_f (by decide) (br_t rfl ⟨pk_in 1 4 (by omega), pk_in 3 4 (by omega), nm_r (e' := upd a2 3 (a2 1)) rfl (br_f (by decide) H)⟩)))))
theorem ma_perf_drop {post : Int32 → St2 → Prop} (H : post 0 (f1, f2, f3, f4, f5, f6, a1, a2, a3, a4, a5, a6, a7, a8, a9, a10, a11, a12, a13, a14, a15, a16)) : wpX_perform post (f1, f2, f3, f4, f5, f6, a1, a2, a3, a4, a5, a6, a7, a8, a9, a10, a11, a12, a13, a14, a15, a16) 4 :=
  nm_r (e' := 4) (by decide) (nm_r (e' := 0) (by decide) (nm_r (e' := 0) (by decide) (br_f (by decide) (br_f (by decide) (br_f (by decide) (br_t rfl H))))))
theorem ma_action {post : Int32 → St2 → Prop} {p0 p1 p2 d : Int32} (h0 : ¬ p0 < 0) (h1 : ¬ 4 < p0) (h2 : ¬ p1 < 0) (h3 : ¬ 3 < p1) (h4 : ¬ p2 < 0) (h5 : p2 ≤ 255) (e : (p0 ||| (p1 <<< ((3 : Int32) &&& 31))) ||| (p2 <<< ((5 : Int32) &&& 31)) = d) (H : post 1 (d, f2, f3, f4, f5, f6, a1, a2, a3, a4, a5, a6, a7, a8, a9, a10, a11, a12, a13, a14, a15, a16)) : wpX_action post (f1, f2, f3, f4, f5, f6, a1, a2, a3, a4, a5, a6, a7, a8, a9, a10, a11, a12, a13, a14, a15, a16) p0 p1 p2 :=
  br_f h0 (br_f h1 (br_f h2 (br_f h3 (br_f h4 (br_t h5 (nm_r e H))))))
theorem ma_field {post : Int32 → St2 → Prop} {i v : Nat} (hi : i < 4) (hv : v < 256) (H : post 1 (f1, f2, f3, f4, f5, f6, a1, upd a2 i (nI v), a3, a4, a5, a6, a7, a8, a9, a10, a11, a12, a13, a14, a15, a16)) : wpX_field post (f1, f2, f3, f4, f5, f6, a1, a2, a3, a4, a5, a6, a7, a8, a9, a10, a11, a12, a13, a14, a15, a16) (nI i) (nI v) :=
  br_f (nI_pos (by omega)) (br_f (nI_nlt (b := i) (a := 3) (by omega) (by omega)) (br_f (nI_pos (by omega)) (br_t (nI_le (b := 255) (by omega) (by omega)) ⟨pk_in i 4 hi, nm_r (e' := upd a2 i (nI v)) (by rw [nI_clamp (by omega)]) H⟩)))
theorem ma_get {post : Int32 → Prop} {i : Nat} (hi : i < 4) (H : post (a2 i)) : wpX_get post (f1, f2, f3, f4, f5, f6, a1, a2, a3, a4, a5, a6, a7, a8, a9, a10, a11, a12, a13, a14, a15, a16) (nI i) :=
  br_f (nI_pos (by omega)) (br_t (nI_le (b := 3) (by omega) (by omega)) ⟨pk_in i 4 hi, by rw [nI_clamp (by omega)]; exact H⟩)
theorem ma_addEntry {post : Int32 → St2 → Prop} {t e : Nat} {k v : Int32} (ht : t < 2) (he : 16 * t ≤ e) (he2 : e < 32) (hl : ∀ j, 16 * t ≤ j → j < e → ¬ a4 j < 0) (hf : a4 e < 0)
    (H : post (f2 + 1 - 1) (f1, f2 + 1, f3, f4, f5, f6, a1, a2, upd a3 t ((a3 t + 1).toInt8.toInt32), upd a4 e f2, upd a5 e f1, upd a6 e k, upd a7 e v, a8, a9, a10, a11, a12, a13, a14, a15, a16)) : wpX_addEntry post (f1, f2, f3, f4, f5, f6, a1, a2, a3, a4, a5, a6, a7, a8, a9, a10, a11, a12, a13, a14, a15, a16) (nI t) k v := by
  refine nm_r (e' := nI (16 * t)) (pk_mul 16 t) (pk_loop (σ := Unit) (fun n i _ => wX_addEntry_6 post (nI t) k v f1 f2 f3 f4 f5 f6 a1 a2 a3 a4 a5 a6 a7 a8 a9 a10 a11 a12 a13 a14 a15 a16 n (nI i)) (fun i _ => 16 * t ≤ i) e (16 * t) () he (Nat.le_refl _) (fun n _ _ => ?_) (fun n i _ hi h hw => ?_))
  · refine ⟨pk_in e 32 he2, br_t (by rw [nI_clamp (by omega)]; exact hf) ⟨pk_in e 32 he2, nm_r (e' := upd a4 e f2) (by rw [nI_clamp (by omega)]) ⟨pk_in e 32 he2, nm_r (e' := upd a5 e f1) (by rw [nI_clamp (by omega)]) ⟨pk_in e 32 he2, nm_r (e' := upd a6 e k) (by rw [nI_clamp (by omega)]) ⟨pk_in e 32 he2, nm_r (e' := upd a7 e v) (by rw [nI_clamp (by omega)]) ⟨pk_in t 2 ht, pk_in t 2 ht, nm_r (e' := upd a3 t ((a3 t + 1).toInt8.toInt32)) (by rw [nI_clamp (by omega)]) (nm_e H)⟩⟩⟩⟩⟩⟩
  · exact ⟨pk_in i 32 (by omega), br_f (by rw [nI_clamp (by omega)]; exact hl i h hi) (nm_r (nI_1 i) (hw () (by omega)))⟩
theorem ma_addPrefix {post : Int32 → St2 → Prop} {e v n : Nat} (h3 : a3 0 < 16) (hv : v < 256) (hn : n ≤ 8) (he : e < 16) (hl : ∀ j, j < e → ¬ a4 j < 0) (hf : a4 e < 0)
    (H : post (f2 + 1 - 1) (f1, f2 + 1, 0, f4, f5, f6, a1, a2, upd a3 0 ((a3 0 + 1).toInt8.toInt32), upd a4 e f2, upd a5 e f1, upd a6 e (nI v), upd a7 e (nI n), a8, a9, a10, a11, a12, a13, a14, a15, a16)) : wpX_addPrefix post (f1, f2, f3, f4, f5, f6, a1, a2, a3, a4, a5, a6, a7, a8, a9, a10, a11, a12, a13, a14, a15, a16) (nI v) (nI n) :=
  br_t h3 (br_f (nI_pos (by omega)) (br_f (nI_nlt (a := 255) (by omega) (by omega)) (br_f (nI_pos (by omega)) (br_t (nI_le (b := 8) hn (by omega)) (ma_addEntry (t := 0) (e := e) (by omega) (by omega) (by omega) (fun j _ hj => hl j hj) hf H)))))
theorem ma_addMasked {post : Int32 → St2 → Prop} {m : Nat} (h3 : a3 1 < 16) (hm : m < 256) (hf : a4 16 < 0)
    (H : post (f2 + 1 - 1) (f1, f2 + 1, f3, f4, 0, f6, a1, a2, upd a3 1 ((a3 1 + 1).toInt8.toInt32), upd a4 16 f2, upd a5 16 f1, upd a6 16 (ma_key m), upd a7 16 (ma_msk m), a8, a9, a10, a11, a12, a13, a14, a15, a16)) : wpX_addMasked post (f1, f2, f3, f4, f5, f6, a1, a2, a3, a4, a5, a6, a7, a8, a9, a10, a11, a12, a13, a14, a15, a16) (2816 + nI m) 0 3 := by
  refine br_t h3 (br_f (by rw [ma_k7 m hm]; exact nI_pos (by omega)) (br_f (by rw [ma_k7 m hm]; exact nI_nlt (a := 65535) (by omega) (by omega)) (br_f (by decide) (br_f (by decide) (br_f (by decide) (br_t (by decide) (nm_r (ma_k1 m hm) (nm_e ?_))))))))
  rw [ma_k2 m hm]
  exact ma_addEntry (t := 1) (e := 16) (by omega) (by omega) (by omega) (fun j h1 h2 => absurd h2 (by omega)) hf H
theorem ma_remove_some {post : Int32 → St2 → Prop} {h e t : Nat} (hh : h < 2 ^ 31) (he : e < 32) (ht : e / 16 = t) (hne : ∀ j, j < e → ¬ a4 j = nI h) (hit : a4 e = nI h)
    (H : post ((a3 t - 1).toInt8.toInt32) (f1, f2, 0, f4, 0, f6, a1, a2, upd a3 t ((a3 t - 1).toInt8.toInt32), upd a4 e (-1), a5, a6, a7, a8, a9, a10, a11, a12, a13, a14, a15, a16)) : wpX_remove post (f1, f2, f3, f4, f5, f6, a1, a2, a3, a4, a5, a6, a7, a8, a9, a10, a11, a12, a13, a14, a15, a16) (nI h) := by
  refine ma_ew_some hh he hne hit (br_t (nI_pos' (by omega)) ⟨by decide, nm_r (e' := nI t) (by rw [← ht]; exact pk_div (d := 16) (by omega) (by omega) (by omega)) ⟨pk_in e 32 he, nm_r (e' := upd a4 e (-1)) (by rw [nI_clamp (by omega)]) ⟨pk_in t 2 (by omega), pk_in t 2 (by omega), nm_r (e' := upd a3 t ((a3 t - 1).toInt8.toInt32)) (by rw [nI_clamp (by omega)]) ⟨pk_in t 2 (by omega), ?_⟩⟩⟩⟩)
  rw [nI_clamp (by omega), pk_us]
  exact H
theorem ma_remove_none {post : Int32 → St2 → Prop} {h : Nat} (hh : h < 2 ^ 31) (hne : ∀ j, j < 32 → ¬ a4 j = nI h) (H : post (-3) (f1, f2, f3, f4, f5, f6, a1, a2, a3, a4, a5, a6, a7, a8, a9, a10, a11, a12, a13, a14, a15, a16)) : wpX_remove post (f1, f2, f3, f4, f5, f6, a1, a2, a3, a4, a5, a6, a7, a8, a9, a10, a11, a12, a13, a14, a15, a16) (nI h) :=
  ma_ew_none hh hne (br_f (by decide) H)
end
/-! the state between the law's calls -/
def ma_Q (lc : Nat) (w : Nat → Nat) (m : Nat) (f1 f2 f3 f4 f5 f6 : Int32) (a1 a2 a3 a4 a5 a6 a7 a8 a9 a10 a11 a12 a13 a14 a15 a16 : Nat → Int32) : Prop :=
  f2 = 5 ∧ ma_TR (ma_al lc) w f3 f4 a8 a9 ∧ ma_GR m f5 f6 a13 a15 a16 ∧ a1 0 = 3201 ∧ a1 1 = 58 ∧ a2 2 = 0 ∧ a3 0 = nI (if lc = 0 then 4 else 3) ∧ a3 1 = 1 ∧ ma_Tb (ma_al lc) w a4 a6 a7 ∧ a4 16 = 4 ∧ (∀ j, 17 ≤ j → j < 32 → a4 j = -1) ∧ (∀ k, k < 4 → a5 k = nI (8 + 32 * (10 * k + 1))) ∧ a5 16 = 4 ∧ a6 16 = ma_key m ∧ a7 16 = ma_msk m
def ma_now (c : Nat) : Nat := if c = 0 then 7 else 10 * (c - 1) + 1
theorem ma_acts : ∀ k, k < 4 → nI (8 + 32 * (10 * k + 1)) &&& 7 = 0 ∧ (nI (8 + 32 * (10 * k + 1)) >>> ((3 : Int32) &&& 31)) &&& 3 = 1 ∧ nI (8 + 32 * (10 * k + 1)) >>> ((5 : Int32) &&& 31) = nI (10 * k + 1) := by decide +kernel
section
variable {f1 f2 f3 f4 f5 f6 : Int32} {a1 a2 a3 a4 a5 a6 a7 a8 a9 a10 a11 a12 a13 a14 a15 a16 : Nat → Int32}
/-- which handles are there -/
theorem ma_Q_h {lc : Nat} {w : Nat → Nat} {m : Nat} (hQ : ma_Q lc w m f1 f2 f3 f4 f5 f6 a1 a2 a3 a4 a5 a6 a7 a8 a9 a10 a11 a12 a13 a14 a15 a16) {h : Nat} (hh : h < 4) : ∀ j, j < 32 → a4 j = nI h → j = h ∧ h + 1 ≠ lc := by
  obtain ⟨q2, qT, qG, q10, q11, q22, q30, q31, qb, q4, q4', q5, q5', q6, q7⟩ := hQ
  intro j hj e
  rcases Nat.lt_or_ge j 16 with z | z
  · rw [qb.1 j z, ← ma_oS, ma_o_eq (by split <;> omega) (by omega)] at e
    split at e
    · rename_i ha
      have := ma_al_iff.mp ha
      omega
    · omega
  · rcases Nat.lt_or_ge j 17 with y | y
    · have : j = 16 := by omega
      subst this
      rw [q4, show (4 : Int32) = nI 4 from rfl, nI_eq (by omega) (by omega)] at e
      omega
    · rw [q4' j y hj, ← ma_o0, ← ma_oS, ma_o_eq (by omega) (by omega)] at e
      omega
theorem ma_Q_4 {lc : Nat} {w : Nat → Nat} {m : Nat} (hQ : ma_Q lc w m f1 f2 f3 f4 f5 f6 a1 a2 a3 a4 a5 a6 a7 a8 a9 a10 a11 a12 a13 a14 a15 a16) : ∀ j, j < 16 → ¬ a4 j = nI 4 := by
  obtain ⟨q2, qT, qG, q10, q11, q22, q30, q31, qb, q4, q4', q5, q5', q6, q7⟩ := hQ
  intro j hj e
  rw [qb.1 j hj, ← ma_oS, ma_o_eq (by split <;> omega) (by omega)] at e
  split at e
  · rename_i ha
    have := ma_al_iff.mp ha
    omega
  · omega
theorem ma_Q_owned {post : Int32 → St2 → Prop} {lc : Nat} {w : Nat → Nat} {m k : Nat} (hQ : ma_Q lc w m f1 f2 f3 f4 f5 f6 a1 a2 a3 a4 a5 a6 a7 a8 a9 a10 a11 a12 a13 a14 a15 a16) (hk : k < 4)
    (H : ∀ (f3 f4 : Int32) (a8 a9 a10 a11 a12 : Nat → Int32), ma_Q lc w m f1 f2 f3 f4 f5 f6 a1 a2 a3 a4 a5 a6 a7 a8 a9 a10 a11 a12 a13 a14 a15 a16 → post (if k + 1 = lc then -3 else nI (ma_c (fun u => decide (ma_f lc w u = k + 1)) 0 256)) (f1, f2, f3, f4, f5, f6, a1, a2, a3, a4, a5, a6, a7, a8, a9, a10, a11, a12, a13, a14, a15, a16)) : wpX_owned post (f1, f2, f3, f4, f5, f6, a1, a2, a3, a4, a5, a6, a7, a8, a9, a10, a11, a12, a13, a14, a15, a16) (nI k) := by
  by_cases e : k + 1 = lc
  · have h := H f3 f4 a8 a9 a10 a11 a12 hQ
    rw [if_pos e] at h
    exact ma_owned_none (by omega) (fun j hj q => (ma_Q_h hQ hk j hj q).2 e) h
  · have hQ' := hQ
    obtain ⟨q2, qT, qG, q10, q11, q22, q30, q31, qb, q4, q4', q5, q5', q6, q7⟩ := hQ'
    refine ma_owned_live qb qT (ma_al_iff.mpr ⟨hk, e⟩) (fun f3 f4 a8 a9 a10 a11 a12 hT => ?_)
    have h := H f3 f4 a8 a9 a10 a11 a12 ⟨q2, hT, qG, q10, q11, q22, q30, q31, qb, q4, q4', q5, q5', q6, q7⟩
    rw [if_neg e] at h
    exact h
theorem ma_Q_owned4 {post : Int32 → St2 → Prop} {lc : Nat} {w : Nat → Nat} {m : Nat} (hQ : ma_Q lc w m f1 f2 f3 f4 f5 f6 a1 a2 a3 a4 a5 a6 a7 a8 a9 a10 a11 a12 a13 a14 a15 a16) (H : post (-3) (f1, f2, f3, f4, f5, f6, a1, a2, a3, a4, a5, a6, a7, a8, a9, a10, a11, a12, a13, a14, a15, a16)) : wpX_owned post (f1, f2, f3, f4, f5, f6, a1, a2, a3, a4, a5, a6, a7, a8, a9, a10, a11, a12, a13, a14, a15, a16) (nI 4) :=
  ma_owned_16 (by omega) (ma_Q_4 hQ) hQ.2.2.2.2.2.2.2.2.2.1 H
theorem ma_Q_lookup {post : Int32 → St2 → Prop} {lc : Nat} {w : Nat → Nat} {m u : Nat} (hQ : ma_Q lc w m f1 f2 f3 f4 f5 f6 a1 a2 a3 a4 a5 a6 a7 a8 a9 a10 a11 a12 a13 a14 a15 a16) (hu : u < 256) (h0 : a2 0 = nI u)
    (H : ∀ (f3 f4 : Int32) (a8 a9 a10 : Nat → Int32), ma_Q lc w m f1 f2 f3 f4 f5 f6 a1 a2 a3 a4 a5 a6 a7 a8 a9 a10 a11 a12 a13 a14 a15 a16 → post (if ma_f lc w u = 0 then -3 else ma_o (ma_f lc w u)) (f1, f2, f3, f4, f5, f6, a1, a2, a3, a4, a5, a6, a7, a8, a9, a10, a11, a12, a13, a14, a15, a16)) : wpX_lookup post (f1, f2, f3, f4, f5, f6, a1, a2, a3, a4, a5, a6, a7, a8, a9, a10, a11, a12, a13, a14, a15, a16) (nI 0) := by
  obtain ⟨q2, qT, qG, q10, q11, q22, q30, q31, qb, q4, q4', q5, q5', q6, q7⟩ := hQ
  refine br_f (by decide) (br_t (by decide) (br_t rfl (ma_longest qb qT hu h0 (fun f3 f4 a8 a9 a10 hT => ?_))))
  have h := H f3 f4 a8 a9 a10 ⟨q2, hT, qG, q10, q11, q22, q30, q31, qb, q4, q4', q5, q5', q6, q7⟩
  have hle := ma_f_le (lc := lc) (w := w) (u := u)
  refine ma_bp (ma_f lc w u) (by omega) (fun k hk => ?_) (fun h0 => ?_)
  · have hs := ma_f_some hk
    rw [if_neg (by omega), hk] at h
    have e : ma_be (ma_E (ma_al lc) w 16) u 9 = k + 1 := hk
    rw [e, ma_oS]
    refine ⟨pk_in k 32 (by omega), ?_⟩
    rw [nI_clamp (by omega), qb.1 k (by omega), if_pos (ma_al_iff.mpr hs)]
    exact h
  · rw [if_pos h0] at h
    exact h
/-- the second half of process -/
theorem ma_p2 {post : Int32 → St2 → Prop} {lc : Nat} {w : Nat → Nat} {m n : Nat} (hm : m < 256) (hn : n < 32) (hQ : ma_Q lc w m f1 f2 f3 f4 f5 f6 a1 a2 a3 a4 a5 a6 a7 a8 a9 a10 a11 a12 a13 a14 a15 a16) (h1 : a2 1 = nI n)
    (H : ∀ (f5 f6 : Int32) (a13 a14 a15 a16 : Nat → Int32), ma_Q lc w m f1 f2 f3 f4 f5 f6 a1 a2 a3 a4 a5 a6 a7 a8 a9 a10 a11 a12 a13 a14 a15 a16 → post (if n &&& m = 11 &&& m then 0 else 1) (f1, f2, f3, f4, f5, f6, a1, if n &&& m = 11 &&& m then a2 else upd a2 3 (nI n), a3, a4, a5, a6, a7, a8, a9, a10, a11, a12, a13, a14, a15, a16)) :
    wpX_greatestPriority (fun r u => match u with | (f1, f2, f3, f4, f5, f6, a1, a2, a3, a4, a5, a6, a7, a8, a9, a10, a11, a12, a13, a14, a15, a16) => ((0 ≤ r → (vp_in r 32 ∧ wX_process_60 post (a5 r.toNatClampNeg) f1 f2 f3 f4 f5 f6 a1 a2 a3 a4 a5 a6 a7 a8 a9 a10 a11 a12 a13 a14 a15 a16)) ∧ (¬ 0 ≤ r → wX_process_60 post (a1 1) f1 f2 f3 f4 f5 f6 a1 a2 a3 a4 a5 a6 a7 a8 a9 a10 a11 a12 a13 a14 a15 a16))) (f1, f2, f3, f4, f5, f6, a1, a2, a3, a4, a5, a6, a7, a8, a9, a10, a11, a12, a13, a14, a15, a16) := by
  obtain ⟨q2, qT, qG, q10, q11, q22, q30, q31, qb, q4, q4', q5, q5', q6, q7⟩ := hQ
  refine ma_great hm hn q4 q4' q6 q7 qG h1 q22 (fun f5 f6 a13 a14 a15 a16 hG => ?_)
  have h := H f5 f6 a13 a14 a15 a16 ⟨q2, qT, hG, q10, q11, q22, q30, q31, qb, q4, q4', q5, q5', q6, q7⟩
  by_cases e : n &&& m = 11 &&& m
  · rw [if_pos e, if_pos e] at h
    rw [if_pos e]
    refine br_t (by decide) ⟨pk_in 16 32 (by omega), ?_⟩
    rw [show (16 : Int32).toNatClampNeg = 16 from rfl, q5']
    exact ma_perf_drop (br_t rfl h)
  · rw [if_neg e, if_neg e] at h
    rw [if_neg e]
    refine br_f (by decide) ?_
    rw [q11]
    refine ma_perf_copy (br_f (by decide) ?_)
    rw [h1]
    exact h
theorem ma_Q_process {post : Int32 → St2 → Prop} {lc : Nat} {w : Nat → Nat} {m u n : Nat} (hm : m < 256) (hu : u < 256) (hQ : ma_Q lc w m f1 f2 f3 f4 f5 f6 a1 a2 a3 a4 a5 a6 a7 a8 a9 a10 a11 a12 a13 a14 a15 a16) (h0 : a2 0 = nI u) (h1 : a2 1 = 7) (h3 : a2 3 = 9) (hn : n = ma_now (ma_f lc w u))
    (H : ∀ (f3 f4 f5 f6 : Int32) (a2 a8 a9 a10 a13 a14 a15 a16 : Nat → Int32), ma_Q lc w m f1 f2 f3 f4 f5 f6 a1 a2 a3 a4 a5 a6 a7 a8 a9 a10 a11 a12 a13 a14 a15 a16 → a2 1 = nI n → a2 3 = (if n &&& m = 11 &&& m then 9 else nI n) → a2 0 = (if ma_f lc w u = 0 then (nI u + 100) &&& 255 else nI u) → post (if n &&& m = 11 &&& m then 0 else 1) (f1, f2, f3, f4, f5, f6, a1, a2, a3, a4, a5, a6, a7, a8, a9, a10, a11, a12, a13, a14, a15, a16)) :
    wpX_process post (f1, f2, f3, f4, f5, f6, a1, a2, a3, a4, a5, a6, a7, a8, a9, a10, a11, a12, a13, a14, a15, a16) := by
  obtain ⟨q2, qT, qG, q10, q11, q22, q30, q31, qb, q4, q4', q5, q5', q6, q7⟩ := hQ
  refine ma_longest qb qT hu h0 (fun f3 f4 a8 a9 a10 hT => ?_)
  have hle := ma_f_le (lc := lc) (w := w) (u := u)
  have fin : ∀ b2 : Nat → Int32, b2 1 = nI n → b2 2 = 0 → b2 3 = 9 → b2 0 = (if ma_f lc w u = 0 then (nI u + 100) &&& 255 else nI u) → wpX_greatestPriority (fun r u => match u with | (f1, f2, f3, f4, f5, f6, a1, a2, a3, a4, a5, a6, a7, a8, a9, a10, a11, a12, a13, a14, a15, a16) => ((0 ≤ r → (vp_in r 32 ∧ wX_process_60 post (a5 r.toNatClampNeg) f1 f2 f3 f4 f5 f6 a1 a2 a3 a4 a5 a6 a7 a8 a9 a10 a11 a12 a13 a14 a15 a16)) ∧ (¬ 0 ≤ r → wX_process_60 post (a1 1) f1 f2 f3 f4 f5 f6 a1 a2 a3 a4 a5 a6 a7 a8 a9 a10 a11 a12 a13 a14 a15 a16))) (f1, f2, f3, f4, f5, f6, a1, b2, a3, a4, a5, a6, a7, a8, a9, a10, a11, a12, a13, a14, a15, a16) := by
    intro b2 g1 g2 g3 g0
    have hn32 : n < 32 := by
      rw [hn]
      unfold ma_now
      split <;> omega
    refine ma_p2 hm hn32 ⟨q2, hT, qG, q10, q11, g2, q30, q31, qb, q4, q4', q5, q5', q6, q7⟩ g1 (fun f5 f6 a13 a14 a15 a16 hq => ?_)
    obtain ⟨p2, pT, pG, p10, p11, p22, p30, p31, pb, p4, p4', p5, p5', p6, p7⟩ := hq
    refine H f3 f4 f5 f6 (if n &&& m = 11 &&& m then b2 else upd b2 3 (nI n)) a8 a9 a10 a13 a14 a15 a16 ⟨p2, pT, pG, p10, p11, ?_, p30, p31, pb, p4, p4', p5, p5', p6, p7⟩ ?_ ?_ ?_
    · split
      · exact g2
      · rw [pk_un (by omega)]
        exact g2
    · split
      · exact g1
      · rw [pk_un (by omega)]
        exact g1
    · split
      · exact g3
      · exact pk_us
    · split
      · exact g0
      · rw [pk_un (by omega)]
        exact g0
  rcases hc : ma_f lc w u with _ | k
  · have e : ma_be (ma_E (ma_al lc) w 16) u 9 = 0 := hc
    rw [hc] at hn fin
    have hn7 : n = 7 := hn
    rw [e]
    refine br_f (by decide) ?_
    rw [q10]
    refine ma_perf_plus (br_f (by decide) (fin _ ?_ ?_ ?_ ?_))
    · rw [pk_un (by omega), h1, hn7]
      rfl
    · rw [pk_un (by omega)]
      exact q22
    · rw [pk_un (by omega)]
      exact h3
    · rw [pk_us, if_pos rfl, h0]
  · have e : ma_be (ma_E (ma_al lc) w 16) u 9 = k + 1 := hc
    rw [hc] at hn fin
    have hn7 : n = 10 * k + 1 := hn
    have hs := ma_f_some hc
    obtain ⟨e1, e2, e3⟩ := ma_acts k hs.1
    rw [e, ma_oS]
    refine br_t (nI_pos' (by omega)) ⟨pk_in k 32 (by omega), ?_⟩
    rw [nI_clamp (by omega), q5 k hs.1]
    refine ma_perf_set e1 e2 e3 (br_f (by decide) (fin _ ?_ ?_ ?_ ?_))
    · rw [pk_us, hn7]
    · rw [pk_un (by omega)]
      exact q22
    · rw [pk_un (by omega)]
      exact h3
    · rw [pk_un (by omega), if_neg (by omega), h0]
theorem ma_Q_gone {w : Nat → Nat} {m g : Nat} (hg : g < 4) (hQ : ma_Q 0 w m f1 f2 f3 f4 f5 f6 a1 a2 a3 a4 a5 a6 a7 a8 a9 a10 a11 a12 a13 a14 a15 a16) : ma_Q (g + 1) w m f1 f2 0 f4 0 f6 a1 a2 (upd a3 0 3) (upd a4 g (-1)) a5 a6 a7 a8 a9 a10 a11 a12 a13 a14 a15 a16 := by
  obtain ⟨q2, qT, qG, q10, q11, q22, q30, q31, qb, q4, q4', q5, q5', q6, q7⟩ := hQ
  refine ⟨q2, Or.inl rfl, Or.inl rfl, q10, q11, q22, ?_, ?_, ⟨fun e he => ?_, fun e he => ?_⟩, ?_, fun j h1 h2 => ?_, q5, q5', q6, q7⟩
  · rw [pk_us, if_neg (by omega)]
    rfl
  · rw [pk_un (by omega)]
    exact q31
  · by_cases z : e = g
    · subst z
      rw [pk_us, if_neg (fun h => (ma_al_iff.mp h).2 rfl)]
      rfl
    · rw [pk_un z, qb.1 e he]
      by_cases y : e < 4
      · rw [if_pos (ma_al_iff.mpr ⟨y, by omega⟩), if_pos (ma_al_iff.mpr ⟨y, by omega⟩)]
      · rw [if_neg (fun h => y (ma_al_iff.mp h).1), if_neg (fun h => y (ma_al_iff.mp h).1)]
  · exact qb.2 e (ma_al_iff.mpr ⟨(ma_al_iff.mp he).1, by omega⟩)
  · rw [pk_un (by omega)]
    exact q4
  · rw [pk_un (by omega)]
    exact q4' j h1 h2
end
end
section
abbrev ma_J : Type := Int32 → Int32 → Int32 → Int32 → Int32 → Int32 → Int32 → (Nat → Int32) → (Nat → Int32) → (Nat → Int32) → (Nat → Int32) → (Nat → Int32) → (Nat → Int32) → (Nat → Int32) → (Nat → Int32) → (Nat → Int32) → (Nat → Int32) → (Nat → Int32) → (Nat → Int32) → (Nat → Int32) → (Nat → Int32) → (Nat → Int32) → (Nat → Int32) → Prop
section
variable {f1 f2 f3 f4 f5 f6 : Int32} {a1 a2 a3 a4 a5 a6 a7 a8 a9 a10 a11 a12 a13 a14 a15 a16 : Nat → Int32}
/-! one round of the law, from its end -/
theorem ma_529 {post : Int32 → St0 → Prop} {mc ms kc ks : Nat} {J : ma_J} {x0 x3 x4 : Int32} {w : Nat → Nat} {m g r : Nat} (hg : g < 4) (hQ : ma_Q (g + 1) w m f1 f2 f3 f4 f5 f6 a1 a2 a3 a4 a5 a6 a7 a8 a9 a10 a11 a12 a13 a14 a15 a16) (HJ : J (nI (r + 1)) f1 f2 f3 f4 f5 f6 a1 a2 a3 a4 a5 a6 a7 a8 a9 a10 a11 a12 a13 a14 a15 a16) :
    wL_lawOf_529 post mc ms J x0 x3 x4 (nI g) (nI r) kc ks f1 f2 f3 f4 f5 f6 a1 a2 a3 a4 a5 a6 a7 a8 a9 a10 a11 a12 a13 a14 a15 a16 :=
  ma_remove_none (by omega) (fun j hj q => (ma_Q_h hQ hg j hj q).2 rfl) (br_t rfl (nm_r (nI_1 r) HJ))
theorem ma_499 {post : Int32 → St0 → Prop} {mc ms kc ks : Nat} {J : ma_J} {x0 x3 x4 z : Int32} {w : Nat → Nat} {lc m g r : Nat} (hg : g < 4) (hr : (r = 0 ∧ lc = 0) ∨ (r = 1 ∧ lc = g + 1)) (hQ : ma_Q lc w m f1 f2 f3 f4 f5 f6 a1 a2 a3 a4 a5 a6 a7 a8 a9 a10 a11 a12 a13 a14 a15 a16)
    (HJ : ∀ (f1 f2 f3 f4 f5 f6 : Int32) (a1 a2 a3 a4 a5 a6 a7 a8 a9 a10 a11 a12 a13 a14 a15 a16 : Nat → Int32), ma_Q (g + 1) w m f1 f2 f3 f4 f5 f6 a1 a2 a3 a4 a5 a6 a7 a8 a9 a10 a11 a12 a13 a14 a15 a16 → J (nI (r + 1)) f1 f2 f3 f4 f5 f6 a1 a2 a3 a4 a5 a6 a7 a8 a9 a10 a11 a12 a13 a14 a15 a16) :
    wL_lawOf_499 post mc ms J x0 x3 x4 (nI g) (nI r) z z kc ks f1 f2 f3 f4 f5 f6 a1 a2 a3 a4 a5 a6 a7 a8 a9 a10 a11 a12 a13 a14 a15 a16 := by
  refine br_t rfl (ma_get (i := 2) (by omega) (br_t hQ.2.2.2.2.2.1 ?_))
  rcases hr with ⟨h1, h2⟩ | ⟨h1, h2⟩
  · subst h1 h2
    have e3 : (a3 0 - 1).toInt8.toInt32 = 3 := by
      rw [hQ.2.2.2.2.2.2.1]
      decide
    refine br_t rfl (ma_remove_some (e := g) (t := 0) (by omega) (by omega) (by omega) (fun j hj q => ?_) ?_ ?_)
    · have := (ma_Q_h hQ hg j (by omega) q).1
      omega
    · rw [hQ.2.2.2.2.2.2.2.2.1.1 g (by omega), if_pos (ma_al_iff.mpr ⟨hg, by omega⟩)]
      rfl
    · rw [e3]
      exact br_t rfl (ma_529 hg (ma_Q_gone hg hQ) (HJ _ _ _ _ _ _ _ _ _ _ _ _ _ _ _ _ _ _ _ _ _ _ (ma_Q_gone hg hQ)))
  · subst h1 h2
    exact br_f (by decide) (ma_529 hg hQ (HJ _ _ _ _ _ _ _ _ _ _ _ _ _ _ _ _ _ _ _ _ _ _ hQ))
theorem ma_394 {post : Int32 → St0 → Prop} {mc ms kc ks : Nat} {J : ma_J} {x0 x3 : Int32} {w : Nat → Nat} {lc m g r u n : Nat} (hm : m < 256) (h3 : x3 &&& 255 = nI m) (hu : u < 256) (hg : g < 4) (hr : (r = 0 ∧ lc = 0) ∨ (r = 1 ∧ lc = g + 1)) (hQ : ma_Q lc w m f1 f2 f3 f4 f5 f6 a1 a2 a3 a4 a5 a6 a7 a8 a9 a10 a11 a12 a13 a14 a15 a16) (h0 : a2 0 = nI u) (h1 : a2 1 = 7) (h9 : a2 3 = 9) (hn : n = ma_now (ma_f lc w u))
    (HJ : ∀ (f1 f2 f3 f4 f5 f6 : Int32) (a1 a2 a3 a4 a5 a6 a7 a8 a9 a10 a11 a12 a13 a14 a15 a16 : Nat → Int32), ma_Q (g + 1) w m f1 f2 f3 f4 f5 f6 a1 a2 a3 a4 a5 a6 a7 a8 a9 a10 a11 a12 a13 a14 a15 a16 → J (nI (r + 1)) f1 f2 f3 f4 f5 f6 a1 a2 a3 a4 a5 a6 a7 a8 a9 a10 a11 a12 a13 a14 a15 a16) :
    wL_lawOf_394 post mc ms J x0 x3 (nI u) (nI g) (nI r) (ma_o (ma_f lc w u)) (nI n) kc ks f1 f2 f3 f4 f5 f6 a1 a2 a3 a4 a5 a6 a7 a8 a9 a10 a11 a12 a13 a14 a15 a16 := by
  have hle := ma_f_le (lc := lc) (w := w) (u := u)
  have hn32 : n < 32 := by
    rw [hn]
    unfold ma_now
    split <;> omega
  have e1 : (nI n &&& x3) &&& 255 = nI (n &&& m) := by
    rw [Int32.and_assoc, h3]
    exact ma_k6 n hn32 m hm
  have e2 : ((11 : Int32) &&& x3) &&& 255 = nI (11 &&& m) := by
    rw [Int32.and_assoc, h3]
    exact ma_k6 11 (by omega) m hm
  have l1 : 11 &&& m ≤ m := Nat.and_le_right
  have l2 : n &&& m ≤ m := Nat.and_le_right
  have fin : ∀ (f1 f2 f3 f4 f5 f6 : Int32) (a1 a2 a3 a4 a5 a6 a7 a8 a9 a10 a11 a12 a13 a14 a15 a16 : Nat → Int32), ma_Q lc w m f1 f2 f3 f4 f5 f6 a1 a2 a3 a4 a5 a6 a7 a8 a9 a10 a11 a12 a13 a14 a15 a16 → ∀ y : Int32, y = (if ma_f lc w u = 0 then (nI u + 100) &&& 255 else nI u) → ((0 ≤ ma_o (ma_f lc w u) → wL_lawOf_499 post mc ms J x0 x3 (nI u) (nI g) (nI r) (nI u) y kc ks f1 f2 f3 f4 f5 f6 a1 a2 a3 a4 a5 a6 a7 a8 a9 a10 a11 a12 a13 a14 a15 a16) ∧ (¬ 0 ≤ ma_o (ma_f lc w u) → wL_lawOf_499 post mc ms J x0 x3 (nI u) (nI g) (nI r) ((nI u + 100) &&& 255) y kc ks f1 f2 f3 f4 f5 f6 a1 a2 a3 a4 a5 a6 a7 a8 a9 a10 a11 a12 a13 a14 a15 a16)) := by
    intro f1 f2 f3 f4 f5 f6 a1 a2 a3 a4 a5 a6 a7 a8 a9 a10 a11 a12 a13 a14 a15 a16 hq y hy
    refine ma_bp (ma_f lc w u) (by omega) (fun k hk => ?_) (fun hk => ?_)
    · rw [if_neg (by omega)] at hy
      subst hy
      exact ma_499 hg hr hq HJ
    · rw [if_pos hk] at hy
      subst hy
      exact ma_499 hg hr hq HJ
  have G : ∀ q : Int32, q = (if n &&& m = 11 &&& m then 1 else 0) → wL_lawOf_420 post mc ms J x0 x3 (nI u) (nI g) (nI r) (ma_o (ma_f lc w u)) (nI n) q kc ks f1 f2 f3 f4 f5 f6 a1 a2 a3 a4 a5 a6 a7 a8 a9 a10 a11 a12 a13 a14 a15 a16 := by
    intro q hq
    refine ma_Q_process hm hu hQ h0 h1 h9 hn (fun f3 f4 f5 f6 a2 a8 a9 a10 a13 a14 a15 a16 hQ' g1 g3 g0 => ?_)
    by_cases e : n &&& m = 11 &&& m
    · rw [if_pos e] at hq g3 ⊢
      subst hq
      exact br_f (by decide) (br_t rfl (ma_get (i := 1) (by omega) (br_t g1 (ma_get (i := 3) (by omega) (br_f (by decide) (br_t g3 (ma_get (i := 0) (by omega) (fin _ _ _ _ _ _ _ _ _ _ _ _ _ _ _ _ _ _ _ _ _ _ hQ' _ g0))))))))
    · rw [if_neg e] at hq g3 ⊢
      subst hq
      exact br_t rfl (br_t rfl (ma_get (i := 1) (by omega) (br_t g1 (ma_get (i := 3) (by omega) (br_t rfl (br_t g3 (ma_get (i := 0) (by omega) (fin _ _ _ _ _ _ _ _ _ _ _ _ _ _ _ _ _ _ _ _ _ _ hQ' _ g0))))))))
  unfold wL_lawOf_394
  rw [e1, e2]
  exact pk_eq (n &&& m) (11 &&& m) (fun z => G 1 (by rw [if_pos z])) (fun z => G 0 (by rw [if_neg z]))
theorem ma_353 {post : Int32 → St0 → Prop} {mc ms kc ks : Nat} {J : ma_J} {x0 x3 z : Int32} {w : Nat → Nat} {lc m g r u s : Nat} (hm : m < 256) (h3 : x3 &&& 255 = nI m) (hu : u < 256) (hg : g < 4) (hr : (r = 0 ∧ lc = 0) ∨ (r = 1 ∧ lc = g + 1)) (hQ : ma_Q lc w m f1 f2 f3 f4 f5 f6 a1 a2 a3 a4 a5 a6 a7 a8 a9 a10 a11 a12 a13 a14 a15 a16) (h0 : a2 0 = nI u) (h1 : a2 1 = 7) (h9 : a2 3 = 9) (hs : s ≤ 256)
    (HJ : ∀ (f1 f2 f3 f4 f5 f6 : Int32) (a1 a2 a3 a4 a5 a6 a7 a8 a9 a10 a11 a12 a13 a14 a15 a16 : Nat → Int32), ma_Q (g + 1) w m f1 f2 f3 f4 f5 f6 a1 a2 a3 a4 a5 a6 a7 a8 a9 a10 a11 a12 a13 a14 a15 a16 → J (nI (r + 1)) f1 f2 f3 f4 f5 f6 a1 a2 a3 a4 a5 a6 a7 a8 a9 a10 a11 a12 a13 a14 a15 a16) :
    wL_lawOf_353 post mc ms J x0 x3 (nI u) (nI g) (nI r) (nI s) (ma_o (ma_f lc w u)) z z kc ks f1 f2 f3 f4 f5 f6 a1 a2 a3 a4 a5 a6 a7 a8 a9 a10 a11 a12 a13 a14 a15 a16 := by
  have hle := ma_f_le (lc := lc) (w := w) (u := u)
  refine br_t rfl (br_f (nI_nlt (a := 256) hs (by omega)) (ma_Q_owned4 hQ (br_t rfl ?_)))
  refine ma_bp (ma_f lc w u) (by omega) (fun k hk => ?_) (fun hk => ?_)
  · have e : (10 : Int32) * ma_o (ma_f lc w u) + 1 = nI (10 * k + 1) := by
      rw [hk, ma_oS, ← nI_1, ← pk_mul]
      rfl
    rw [e]
    exact ma_394 hm h3 hu hg hr hQ h0 h1 h9 (by rw [hk]; rfl) HJ
  · exact ma_394 (n := 7) hm h3 hu hg hr hQ h0 h1 h9 (by rw [hk]; rfl) HJ
theorem ma_c_s (P : Nat → Bool) (i : Nat) : ma_c P 0 (i + 1) = ma_c P 0 i + (if P i = true then 1 else 0) := by
  show ma_c P 0 i + (if P (0 + i) = true then 1 else 0) = _
  rw [Nat.zero_add]
theorem ma_217 {post : Int32 → St0 → Prop} {mc ms kc ks : Nat} {J : ma_J} {x0 x3 : Int32} {lc m g r u : Nat} (hm : m < 256) (h3 : x3 &&& 255 = nI m) (hu : u < 256) (hg : g < 4) (hr : (r = 0 ∧ lc = 0) ∨ (r = 1 ∧ lc = g + 1)) (hlc : lc ≤ 4)
    (HJ : ∀ (f1 f2 f3 f4 f5 f6 : Int32) (a1 a2 a3 a4 a5 a6 a7 a8 a9 a10 a11 a12 a13 a14 a15 a16 : Nat → Int32), ma_Q (g + 1) (ma_w x0) m f1 f2 f3 f4 f5 f6 a1 a2 a3 a4 a5 a6 a7 a8 a9 a10 a11 a12 a13 a14 a15 a16 → J (nI (r + 1)) f1 f2 f3 f4 f5 f6 a1 a2 a3 a4 a5 a6 a7 a8 a9 a10 a11 a12 a13 a14 a15 a16) :
    ∀ j k, k + j = 4 → ∀ (f1 f2 f3 f4 f5 f6 : Int32) (a1 a2 a3 a4 a5 a6 a7 a8 a9 a10 a11 a12 a13 a14 a15 a16 : Nat → Int32), ma_Q lc (ma_w x0) m f1 f2 f3 f4 f5 f6 a1 a2 a3 a4 a5 a6 a7 a8 a9 a10 a11 a12 a13 a14 a15 a16 → wL_lawOf_217 post mc ms J x0 x3 (nI u) (nI g) (nI r) (ma_o lc) kc ks (j + 1) (nI (ma_S (ma_f lc (ma_w x0)) k)) (nI k) f1 f2 f3 f4 f5 f6 a1 a2 a3 a4 a5 a6 a7 a8 a9 a10 a11 a12 a13 a14 a15 a16 := by
  intro j
  induction j with
  | zero =>
    intro k hk f1 f2 f3 f4 f5 f6 a1 a2 a3 a4 a5 a6 a7 a8 a9 a10 a11 a12 a13 a14 a15 a16 hQ
    have e : k = 4 := by omega
    subst e
    have hle := ma_f_le (lc := lc) (w := ma_w x0) (u := u)
    have hQ' : ma_Q lc (ma_w x0) m f1 f2 f3 f4 f5 f6 a1 (upd (upd (upd a2 0 (nI u)) 1 (nI 7)) 3 (nI 9)) a3 a4 a5 a6 a7 a8 a9 a10 a11 a12 a13 a14 a15 a16 := by
      obtain ⟨q2, qT, qG, q10, q11, q22, q30, q31, qb, q4, q4', q5, q5', q6, q7⟩ := hQ
      refine ⟨q2, qT, qG, q10, q11, ?_, q30, q31, qb, q4, q4', q5, q5', q6, q7⟩
      rw [pk_un (by omega), pk_un (by omega), pk_un (by omega)]
      exact q22
    have g0 : upd (upd (upd a2 0 (nI u)) 1 (nI 7)) 3 (nI 9) 0 = nI u := by
      rw [pk_un (by omega), pk_un (by omega)]
      exact pk_us
    have g1 : upd (upd (upd a2 0 (nI u)) 1 (nI 7)) 3 (nI 9) 1 = 7 := by
      rw [pk_un (by omega), pk_us]
      rfl
    have g3 : upd (upd (upd a2 0 (nI u)) 1 (nI 7)) 3 (nI 9) 3 = 9 := by
      rw [pk_us]
      rfl
    refine pk_le 4 4 (fun _ => ma_taken hlc hu (ma_field (i := 0) (by omega) hu (ma_field (i := 1) (v := 7) (by omega) (by omega) (ma_field (i := 3) (v := 9) (by omega) (by omega) (ma_Q_lookup hQ' hu g0 (fun f3 f4 a8 a9 a10 hq => ?_)))))) (fun z => absurd z (by omega))
    refine ma_bp (ma_f lc (ma_w x0) u) (by omega) (fun k hk => ?_) (fun hk => ?_)
    · rw [if_neg (by omega)]
      exact ma_353 hm h3 hu hg hr hq g0 g1 g3 (ma_S_le _ _) HJ
    · rw [if_pos hk]
      exact ma_353 hm h3 hu hg hr hq g0 g1 g3 (ma_S_le _ _) HJ
  | succ j ih =>
    intro k hk f1 f2 f3 f4 f5 f6 a1 a2 a3 a4 a5 a6 a7 a8 a9 a10 a11 a12 a13 a14 a15 a16 hQ
    refine pk_le 4 k (fun z => absurd z (by omega)) (fun _ => ?_)
    refine pk_loop (fun n i (s : Nat) => wL_lawOf_229 post mc ms J (wL_lawOf_217 post mc ms J x0 x3 (nI u) (nI g) (nI r) (ma_o lc) kc ks (j + 1)) x0 x3 (nI u) (nI g) (nI r) (ma_o lc) (nI (ma_S (ma_f lc (ma_w x0)) k)) (nI k) kc ks f1 f2 f3 f4 f5 f6 a1 a2 a3 a4 a5 a6 a7 a8 a9 a10 a11 a12 a13 a14 a15 a16 n (nI s) (nI i)) (fun i s => s = ma_c (fun u => decide (ma_f lc (ma_w x0) u = k + 1)) 0 i) 256 0 0 (by omega) rfl (fun n s h => ?_) (fun n i s hi h hw => ?_)
    · refine pk_le 256 256 (fun _ => ma_Q_owned hQ (by omega) (fun f3 f4 a8 a9 a10 a11 a12 hq => ?_)) (fun z => absurd z (by omega))
      have sum : nI (ma_S (ma_f lc (ma_w x0)) k) + nI s = nI (ma_S (ma_f lc (ma_w x0)) (k + 1)) := by
        rw [nI_add, ma_S_s, ← h]
      refine ma_beq (k + 1) lc (fun e => ?_) (fun e => ?_) rfl rfl
      · rw [if_pos e]
        exact br_t rfl (nm_r sum (nm_r (nI_1 k) (ih (k + 1) (by omega) _ _ _ _ _ _ _ _ _ _ _ _ _ _ _ _ _ _ _ _ _ _ hq)))
      · rw [if_neg e, ← h]
        exact br_t rfl (nm_r sum (nm_r (nI_1 k) (ih (k + 1) (by omega) _ _ _ _ _ _ _ _ _ _ _ _ _ _ _ _ _ _ _ _ _ _ hq)))
    · have hle := ma_f_le (lc := lc) (w := ma_w x0) (u := i)
      refine pk_le 256 i (fun z => absurd z (by omega)) (fun _ => ma_taken hlc hi ?_)
      refine ma_beq (ma_f lc (ma_w x0) i) (k + 1) (fun e => ?_) (fun e => ?_) rfl rfl
      · refine nm_r (nI_1 s) (nm_r (nI_1 i) (hw (s + 1) ?_))
        rw [ma_c_s, if_pos (decide_eq_true e), h]
      · refine nm_r (nI_1 i) (hw s ?_)
        rw [ma_c_s, if_neg (fun z => e (of_decide_eq_true z)), h]
        rfl
/-! the end of the law -/
theorem ma_192e {post : Int32 → St0 → Prop} {mc ms kc ks n : Nat} {x0 x3 x4 x5 : Int32} {w : Nat → Nat} {m g : Nat} (hg : g < 4) (hp : post 1 ()) (hQ : ma_Q (g + 1) w m f1 f2 f3 f4 f5 f6 a1 a2 a3 a4 a5 a6 a7 a8 a9 a10 a11 a12 a13 a14 a15 a16) : wL_lawOf_192 post mc ms x0 x3 x4 x5 kc ks (n + 1) (nI 2) f1 f2 f3 f4 f5 f6 a1 a2 a3 a4 a5 a6 a7 a8 a9 a10 a11 a12 a13 a14 a15 a16 := by
  have hQ' := hQ
  obtain ⟨q2, qT, qG, q10, q11, q22, q30, q31, qb, q4, q4', q5, q5', q6, q7⟩ := hQ'
  subst q2
  have e3 : (a3 0) < 16 := by
    rw [q30, if_neg (by omega)]
    decide
  have hl : ∀ j, j < g → ¬ a4 j < 0 := by
    intro j hj
    rw [qb.1 j (by omega), if_pos (ma_al_iff.mpr ⟨by omega, by omega⟩)]
    exact nI_pos (by omega)
  have hf : a4 g < 0 := by
    rw [qb.1 g (by omega), if_neg (fun h => (ma_al_iff.mp h).2 rfl)]
    decide
  refine pk_le 2 2 (fun _ => ma_addPrefix (e := g) (v := 5) (n := 8) e3 (by omega) (by omega) (by omega) hl hf (br_t (by decide) ?_)) (fun z => absurd z (by omega))
  refine ma_remove_some (h := 4) (e := 16) (t := 1) (by omega) (by omega) (by omega) (fun j hj q => ?_) ?_ ?_
  · by_cases z : j = g
    · subst z
      rw [pk_us] at q
      exact absurd q (by decide)
    · rw [pk_un z] at q
      exact ma_Q_4 hQ j hj q
  · rw [pk_un (by omega)]
    exact q4
  · have e1 : (upd a3 0 ((a3 0 + 1).toInt8.toInt32) 1 - 1).toInt8.toInt32 = 0 := by
      rw [pk_un (by omega), q31]
      decide
    rw [e1]
    refine br_t rfl (br_f (by decide) (br_t (by decide) (br_f (by decide) (ma_makeGroups0 (fun j h1 h2 => ?_) (fun a15 => nm_e ⟨1, br_t (by decide) (br_f (by decide) (br_t rfl (br_f (by decide) (br_f (by decide) (br_t rfl hp)))))⟩)))))
    by_cases z : j = 16
    · subst z
      exact pk_us
    · rw [pk_un z, pk_un (by omega)]
      exact q4' j (by omega) h2
theorem ma_192 {post : Int32 → St0 → Prop} {mc ms kc ks : Nat} {x0 x3 : Int32} {m g u : Nat} (hm : m < 256) (h3 : x3 &&& 255 = nI m) (hu : u < 256) (hg : g < 4) (hp : post 1 ()) (hQ : ma_Q 0 (ma_w x0) m f1 f2 f3 f4 f5 f6 a1 a2 a3 a4 a5 a6 a7 a8 a9 a10 a11 a12 a13 a14 a15 a16) : ∃ n, wL_lawOf_192 post mc ms x0 x3 (nI u) (nI g) kc ks n 0 f1 f2 f3 f4 f5 f6 a1 a2 a3 a4 a5 a6 a7 a8 a9 a10 a11 a12 a13 a14 a15 a16 := by
  have R1 : ∀ (f1 f2 f3 f4 f5 f6 : Int32) (a1 a2 a3 a4 a5 a6 a7 a8 a9 a10 a11 a12 a13 a14 a15 a16 : Nat → Int32), ma_Q (g + 1) (ma_w x0) m f1 f2 f3 f4 f5 f6 a1 a2 a3 a4 a5 a6 a7 a8 a9 a10 a11 a12 a13 a14 a15 a16 → wL_lawOf_192 post mc ms x0 x3 (nI u) (nI g) kc ks 2 (nI 1) f1 f2 f3 f4 f5 f6 a1 a2 a3 a4 a5 a6 a7 a8 a9 a10 a11 a12 a13 a14 a15 a16 := by
    intro f1 f2 f3 f4 f5 f6 a1 a2 a3 a4 a5 a6 a7 a8 a9 a10 a11 a12 a13 a14 a15 a16 hq
    have h := ma_217 (post := post) (mc := mc) (ms := ms) (kc := kc) (ks := ks) (J := wL_lawOf_192 post mc ms x0 x3 (nI u) (nI g) kc ks 1) (r := 1) hm h3 hu hg (Or.inr ⟨rfl, rfl⟩) (by omega) (fun _ _ _ _ _ _ _ _ _ _ _ _ _ _ _ _ _ _ _ _ _ _ hqq => ma_192e hg hp hqq) 4 0 (by omega) _ _ _ _ _ _ _ _ _ _ _ _ _ _ _ _ _ _ _ _ _ _ hq
    rw [ma_S_0] at h
    exact br_f (by decide) (br_f (by decide) ⟨5, h⟩)
  have h := ma_217 (post := post) (mc := mc) (ms := ms) (kc := kc) (ks := ks) (J := wL_lawOf_192 post mc ms x0 x3 (nI u) (nI g) kc ks 2) (r := 0) hm h3 hu hg (Or.inl ⟨rfl, rfl⟩) (by omega) R1 4 0 (by omega) _ _ _ _ _ _ _ _ _ _ _ _ _ _ _ _ _ _ _ _ _ _ hQ
  rw [ma_S_0] at h
  exact ⟨3, br_f (by decide) (br_t rfl ⟨5, h⟩)⟩
/-! the law's beginning -/
def ma_P (w : Nat → Nat) (k : Nat) (f1 f2 f3 f4 f5 f6 : Int32) (a1 a2 a3 a4 a5 a6 a7 a8 a9 a10 a11 a12 a13 a14 a15 a16 : Nat → Int32) : Prop :=
  f2 = nI k ∧ f3 = 0 ∧ f5 = 0 ∧ a2 2 = 0 ∧ a3 0 = nI k ∧ a3 1 = 0 ∧ (∀ j, j < 32 → a4 j = ma_o (if j < k then j + 1 else 0)) ∧ (∀ j, j < k → a5 j = nI (8 + 32 * (10 * j + 1)) ∧ a6 j = nI (ma_v j) ∧ a7 j = nI (w j))
theorem ma_act0 : ∀ k, k < 4 → (¬ (10 * nI k + 1 : Int32) < 0) ∧ (10 * nI k + 1 : Int32) ≤ 255 ∧ ((0 : Int32) ||| ((1 : Int32) <<< ((3 : Int32) &&& 31))) ||| ((10 * nI k + 1) <<< ((5 : Int32) &&& 31)) = nI (8 + 32 * (10 * k + 1)) := by decide +kernel
theorem ma_setDefault {post : Int32 → St2 → Prop} {i : Nat} (hi : i < 2) (H : post 1 (f1, f2, f3, f4, f5, f6, upd a1 i f1, a2, a3, a4, a5, a6, a7, a8, a9, a10, a11, a12, a13, a14, a15, a16)) : wpX_setDefault post (f1, f2, f3, f4, f5, f6, a1, a2, a3, a4, a5, a6, a7, a8, a9, a10, a11, a12, a13, a14, a15, a16) (nI i) :=
  br_f (nI_pos (by omega)) (br_t (nI_le (b := 1) (by omega) (by omega)) ⟨pk_in i 2 hi, nm_r (e' := upd a1 i f1) (by rw [nI_clamp (by omega)]) H⟩)
theorem ma_28e {post : Int32 → St0 → Prop} {mc ms kc ks n : Nat} {x0 x3 : Int32} {m g u : Nat} (hm : m < 256) (h3 : x3 &&& 255 = nI m) (hu : u < 256) (hg : g < 4) (hp : post 1 ()) (hP : ma_P (ma_w x0) 4 f1 f2 f3 f4 f5 f6 a1 a2 a3 a4 a5 a6 a7 a8 a9 a10 a11 a12 a13 a14 a15 a16) : wL_lawOf_28 post mc ms x0 x3 (nI u) (nI g) kc ks (n + 1) (nI 4) f1 f2 f3 f4 f5 f6 a1 a2 a3 a4 a5 a6 a7 a8 a9 a10 a11 a12 a13 a14 a15 a16 := by
  obtain ⟨p2, p3, p5, p22, p30, p31, p4, pk⟩ := hP
  subst p2 p3 p5
  refine pk_le 4 4 (fun _ => ?_) (fun z => absurd z (by omega))
  refine ma_action (d := 58) (by decide) (by decide) (by decide) (by decide) (by decide) (by decide) (by decide) (br_f (by decide) ?_)
  refine ma_setDefault (i := 1) (by omega) (br_f (by decide) ?_)
  refine ma_action (d := 3201) (by decide) (by decide) (by decide) (by decide) (by decide) (by decide) (by decide) (br_f (by decide) ?_)
  refine ma_setDefault (i := 0) (by omega) (br_f (by decide) ?_)
  refine ma_action (d := 4) (by decide) (by decide) (by decide) (by decide) (by decide) (by decide) (by decide) (br_f (by decide) ?_)
  rw [h3]
  refine ma_addMasked (by rw [p31]; decide) hm (by rw [p4 16 (by omega), if_neg (by omega)]; decide) (br_t (by decide) ?_)
  refine br_f (by decide) (br_t (by decide) (br_t rfl (br_f (by decide) (br_f (by decide) (br_t rfl (ma_192 hm h3 hu hg hp ?_))))))
  refine ⟨by decide, Or.inl rfl, Or.inl rfl, pk_us, ?_, p22, ?_, ?_, ⟨fun e he => ?_, fun e he => ?_⟩, ?_, fun j h1 h2 => ?_, fun k hk => ?_, pk_us, pk_us, pk_us⟩
  · rw [pk_un (by omega)]
    exact pk_us
  · rw [pk_un (by omega), p30, if_pos rfl]
  · rw [pk_us, p31]
    decide
  · rw [pk_un (by omega), p4 e (by omega)]
    by_cases y : e < 4
    · rw [if_pos y, if_pos (ma_al_iff.mpr ⟨y, by omega⟩)]
    · rw [if_neg y, if_neg (fun h => y (ma_al_iff.mp h).1)]
  · have h4 := (ma_al_iff.mp he).1
    rw [pk_un (by omega), pk_un (by omega)]
    exact ⟨h4, ma_w_le x0 e, (pk e h4).2.1, (pk e h4).2.2⟩
  · rw [pk_us]
    rfl
  · rw [pk_un (by omega), p4 j h2, if_neg (by omega)]
    rfl
  · rw [pk_un (by omega)]
    exact (pk k hk).1
theorem ma_28 {post : Int32 → St0 → Prop} {mc ms kc ks : Nat} {x0 x3 : Int32} {m g u : Nat} (hm : m < 256) (h3 : x3 &&& 255 = nI m) (hu : u < 256) (hg : g < 4) (hp : post 1 ()) :
    ∀ j k, k + j = 4 → ∀ (f1 f2 f3 f4 f5 f6 : Int32) (a1 a2 a3 a4 a5 a6 a7 a8 a9 a10 a11 a12 a13 a14 a15 a16 : Nat → Int32), ma_P (ma_w x0) k f1 f2 f3 f4 f5 f6 a1 a2 a3 a4 a5 a6 a7 a8 a9 a10 a11 a12 a13 a14 a15 a16 → wL_lawOf_28 post mc ms x0 x3 (nI u) (nI g) kc ks (j + 1) (nI k) f1 f2 f3 f4 f5 f6 a1 a2 a3 a4 a5 a6 a7 a8 a9 a10 a11 a12 a13 a14 a15 a16 := by
  intro j
  induction j with
  | zero =>
    intro k hk f1 f2 f3 f4 f5 f6 a1 a2 a3 a4 a5 a6 a7 a8 a9 a10 a11 a12 a13 a14 a15 a16 hP
    have e : k = 4 := by omega
    subst e
    exact ma_28e hm h3 hu hg hp hP
  | succ j ih =>
    intro k hk f1 f2 f3 f4 f5 f6 a1 a2 a3 a4 a5 a6 a7 a8 a9 a10 a11 a12 a13 a14 a15 a16 hP
    obtain ⟨p2, p3, p5, p22, p30, p31, p4, pk⟩ := hP
    subst p2 p3 p5
    obtain ⟨c1, c2, c3⟩ := ma_act0 k (by omega)
    have ev : (90 : Int32) + 37 * nI k = nI (ma_v k) := by
      unfold ma_v
      rw [← nI_add, ← pk_mul]
      rfl
    have hv : ma_v k < 256 := by
      unfold ma_v
      omega
    refine pk_le 4 k (fun z => absurd z (by omega)) (fun _ => ⟨by decide, nm_r (ma_w_eq x0 k) (ma_action (by decide) (by decide) (by decide) (by decide) c1 c2 c3 (br_f (by decide) ?_))⟩)
    rw [ev]
    refine ma_addPrefix (e := k) (by rw [p30]; exact nI_lt (b := 16) (by omega) (by omega)) hv (ma_w_le x0 k) (by omega) (fun i hi => ?_) ?_ (br_t (by rw [nI_1]; exact nI_pred k) (nm_r (nI_1 k) (ih (k + 1) (by omega) _ _ _ _ _ _ _ _ _ _ _ _ _ _ _ _ _ _ _ _ _ _ ?_)))
    · rw [p4 i (by omega), if_pos hi]
      exact nI_pos (by omega)
    · rw [p4 k (by omega), if_neg (by omega)]
      decide
    · refine ⟨nI_1 k, rfl, rfl, p22, ?_, ?_, fun i hi => ?_, fun i hi => ?_⟩
      · rw [pk_us, p30, nI_1, ma_i8 _ (by omega)]
      · rw [pk_un (by omega)]
        exact p31
      · by_cases e : i = k
        · subst e
          rw [pk_us, if_pos (by omega)]
          rfl
        · rw [pk_un e, p4 i hi]
          by_cases y : i < k
          · rw [if_pos y, if_pos (by omega)]
          · rw [if_neg y, if_neg (by omega)]
      · by_cases e : i = k
        · subst e
          rw [pk_us, pk_us, pk_us]
          exact ⟨rfl, rfl, rfl⟩
        · rw [pk_un e, pk_un e, pk_un e]
          exact pk i (by omega)
theorem ma_init {post : St2 → Prop} {mc ms : Nat} (hc : 16 ≤ mc) (hs : 884 ≤ ms) (H : ∀ (f1 f4 f6 : Int32) (a1 a4 : Nat → Int32), (∀ j, j < 32 → a4 j = -1) → post (f1, 0, 0, f4, 0, f6, a1, (fun _ => 0), (fun _ => 0), a4, (fun _ => 0), (fun _ => 0), (fun _ => 0), (fun _ => 0), (fun _ => 0), (fun _ => 0), (fun _ => 0), (fun _ => 0), (fun _ => 0), (fun _ => 0), (fun _ => 0), (fun _ => 0))) : wpX_init post mc ms (0, 0, 0, 0, 0, 0) := by
  refine ⟨by omega, by omega, by omega, by omega, by omega, by omega, by omega, by omega, by omega, by omega, by omega, by omega, by omega, by omega, by omega, by omega, by omega, by omega, by omega, by omega, by omega, by omega, by omega, by omega, by omega, by omega, by omega, by omega, by omega, by omega, by omega, by omega, nm_e (nm_e ?_)⟩
  refine pk_loop (fun n i (s : Nat → Int32) => wX_init_154 post mc ms 16 884 3 0 0 0 0 0 n (nI i) (upd (upd (fun _ => 0) 0 3) 1 3) (fun _ => 0) (fun _ => 0) s (fun _ => 0) (fun _ => 0) (fun _ => 0) (fun _ => 0) (fun _ => 0) (fun _ => 0) (fun _ => 0) (fun _ => 0) (fun _ => 0) (fun _ => 0) (fun _ => 0) (fun _ => 0)) (fun i s => ∀ j, j < i → s j = -1) 32 0 (fun _ => 0) (by omega) (fun j hj => absurd hj (by omega))
    (fun n s h => pk_le 32 32 (fun _ => H 3 0 0 _ s h) (fun z => absurd z (by omega)))
    (fun n i s hi h hw => pk_le 32 i (fun z => absurd z (by omega)) (fun _ => ⟨pk_in i 32 hi, nm_r (e' := upd s i (-1)) (by rw [nI_clamp (by omega)]) (nm_r (nI_1 i) (hw _ (fun j hj => ?_)))⟩))
  by_cases e : j = i
  · rw [e]
    exact pk_us
  · rw [pk_un e]
    exact h j (by omega)
theorem ma_lawOf {post : Int32 → St0 → Prop} {x0 x1 x2 x3 : Int32} (hp : post 1 ()) : wpL_lawOf post 250 3984 () x0 x1 x2 x3 := by
  obtain ⟨u, hu, eu⟩ := pk_andE x1 (m := 255) 8 (by decide)
  obtain ⟨c, hc, ec⟩ := pk_andE x2 (m := 255) 8 (by decide)
  obtain ⟨m, hm, em⟩ := pk_andE x3 (m := 255) 8 (by decide)
  refine nm_r eu ⟨by decide, nm_r (e' := nI (c % 4)) (by rw [ec]; exact pk_rem (d := 4) (by omega) (by omega) (by omega)) ⟨by omega, by omega, 16, 884, by omega, by omega, ma_init (by omega) (by omega) (fun f1 f4 f6 a1 a4 h4 => ⟨5, ?_⟩)⟩⟩
  refine ma_28 hm em hu (Nat.mod_lt _ (by omega)) hp 4 0 (by omega) _ _ _ _ _ _ _ _ _ _ _ _ _ _ _ _ _ _ _ _ _ _ ⟨rfl, rfl, rfl, rfl, rfl, rfl, fun j hj => ?_, fun j hj => absurd hj (by omega)⟩
  rw [h4 j hj, if_neg (by omega)]
  rfl
theorem ma_cell {post : Int32 → Prop} {L i : Nat} {xs : Nat → Int32} (hL : L ≤ 4) (hi : i < 4) (H : ∀ x, post x) : wpL_cellAt post L xs () (nI i) :=
  pk_le L i (fun _ => H _) (fun z => ⟨pk_in i L z, H _⟩)
end
end
section
theorem i_vc (xs : Nat → Int32) (L : Nat) (hL : L ≤ 4) : wpL_law (fun r => r = 1) L xs :=
  ma_cell (i := 0) hL (by omega) (fun _ => ma_cell (i := 1) hL (by omega) (fun _ => ma_cell (i := 2) hL (by omega) (fun _ => ma_cell (i := 3) hL (by omega) (fun _ => ⟨250, 3984, by omega, by omega, ma_lawOf rfl⟩))))
end
