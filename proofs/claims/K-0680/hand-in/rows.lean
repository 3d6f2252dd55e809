section
/-! rows taken from the kit's PURE-ROWS -/
theorem pk_us {f : Nat → Int32} {k : Nat} {x : Int32} : upd f k x k = x := if_pos rfl
theorem pk_un {f : Nat → Int32} {k j : Nat} {x : Int32} (h : j ≠ k) : upd f k x j = f j := if_neg h
theorem pk_uLs {f : Nat → Int64} {k : Nat} {x : Int64} : vp_updL f k x k = x := if_pos rfl
theorem pk_uLn {f : Nat → Int64} {k j : Nat} {x : Int64} (h : j ≠ k) : vp_updL f k x j = f j := if_neg h
theorem pk_sub {a b : Nat} (h : b ≤ a) : nI a - nI b = nI (a - b) := by
  obtain ⟨c, rfl⟩ : ∃ c, a = c + b := ⟨a - b, by omega⟩
  rw [← nI_add, Int32.add_sub_cancel, Nat.add_sub_cancel]
theorem pk_m1 (n : Nat) : nI (n + 1) + (-1) = nI n := by
  rw [← nI_1, Int32.add_assoc, show (1 : Int32) + (-1) = 0 from rfl, Int32.add_zero]
/-! the mathematics: X's order against Y's order -/
/-- the sum of the first i gaps -/
def dq_S (g : Nat → Nat) : Nat → Nat
  | 0 => 0
  | i + 1 => dq_S g i + g i
theorem dq_Ss (g : Nat → Nat) (i : Nat) : dq_S g (i + 1) = dq_S g i + g i := rfl
theorem dq_S0 (g : Nat → Nat) : dq_S g 0 = 0 := rfl
theorem dq_S1 (g : Nat → Nat) : dq_S g 1 = g 0 := Nat.zero_add _
theorem dq_Sle (g : Nat → Nat) {i j : Nat} (h : i ≤ j) : dq_S g i ≤ dq_S g j := by
  induction h with
  | refl => exact Nat.le_refl _
  | step _ ih => exact Nat.le_trans ih (Nat.le_add_right _ _)
theorem dq_Scg {g g' : Nat → Nat} {i : Nat} (h : ∀ j, j < i → g' j = g j) : dq_S g' i = dq_S g i := by
  induction i with
  | zero => rfl
  | succ i ih => rw [dq_Ss, dq_Ss, ih (fun j hj => h j (by omega)), h i (by omega)]
/-- p i is the place, in Y's order of arming, of X's i-th entry; d is the time left -/
def dq_P (n : Nat) (g d : Nat → Nat) (A J : Nat → Int32) (p : Nat → Nat) : Prop :=
  (∀ i, i < n → p i < n) ∧ (∀ i, i < n → A i = J (p i)) ∧ (∀ i, i < n → dq_S g (i + 1) = d (p i)) ∧
  (∀ i j, i < j → j < n → d (p i) < d (p j) ∨ (d (p i) = d (p j) ∧ p i < p j)) ∧
  (∀ q, q < n → ∃ i, i < n ∧ p i = q) ∧ (∀ q, q < n → d q ≤ 1000)
theorem dq_cg {n : Nat} {g d : Nat → Nat} {A J A' J' : Nat → Int32} {p : Nat → Nat} (h : dq_P n g d A J p) (hA : ∀ j, j < n → A' j = A j) (hJ : ∀ j, j < n → J' j = J j) : dq_P n g d A' J' p := by
  obtain ⟨h1, h2, h3, h4, h5, h6⟩ := h
  exact ⟨h1, fun i hi => by rw [hA i hi, hJ _ (h1 i hi), h2 i hi], h3, h4, h5, h6⟩
theorem dq_inj {n : Nat} {g d : Nat → Nat} {A J : Nat → Int32} {p : Nat → Nat} (h : dq_P n g d A J p) {a b : Nat} (ha : a < n) (hb : b < n) (hab : a ≠ b) : p a ≠ p b := by
  obtain ⟨-, -, -, h4, -, -⟩ := h
  intro e
  rcases Nat.lt_or_gt_of_ne hab with z | z
  · have := h4 a b z hb; rw [e] at this; omega
  · have := h4 b a z ha; rw [e] at this; omega
/-- the first match in X's order is the earliest match in Y's -/
theorem dq_min {n : Nat} {g d : Nat → Nat} {A J : Nat → Int32} {p : Nat → Nat} (h : dq_P n g d A J p) (M : Int32 → Prop) {i q : Nat} (hi : i < n) (hq : q < n) (hMi : M (A i)) (hMq : M (J q)) (hx : ∀ j, j < i → ¬ M (A j))
    (hy : ∀ q', q' < n → M (J q') → d q < d q' ∨ (d q = d q' ∧ q ≤ q')) : q = p i := by
  obtain ⟨h1, h2, h3, h4, h5, h6⟩ := h
  obtain ⟨j, hj, rfl⟩ := h5 q hq
  rw [← h2 j hj] at hMq
  have hji : ¬ j < i := fun z => hx j z hMq
  by_cases e : j = i
  · rw [e]
  · have a := h4 i j (by omega) hj
    have b := hy (p i) (h1 i hi) (by rw [← h2 i hi]; exact hMi)
    omega
/-! a tick of the clock -/
def dq_tg (g : Nat → Nat) : Nat → Nat := fun j => if j = 0 then g 0 - 1 else g j
theorem dq_tS (g : Nat → Nat) (h0 : 0 < g 0) : ∀ i : Nat, dq_S (dq_tg g) (i + 1) + 1 = dq_S g (i + 1) := by
  intro i
  induction i with
  | zero => rw [dq_S1, dq_S1]; show (if (0 : Nat) = 0 then g 0 - 1 else g 0) + 1 = g 0; rw [if_pos rfl]; omega
  | succ i ih =>
    rw [dq_Ss _ (i + 1), dq_Ss _ (i + 1)]
    have e : dq_tg g (i + 1) = g (i + 1) := if_neg (by omega)
    omega
theorem dq_age {n : Nat} {g d : Nat → Nat} {A J : Nat → Int32} {p : Nat → Nat} (h : dq_P n g d A J p) (h0 : 0 < g 0) : dq_P n (dq_tg g) (fun q => d q - 1) A J p ∧ ∀ q, q < n → 0 < d q := by
  obtain ⟨h1, h2, h3, h4, h5, h6⟩ := h
  have hS : ∀ i, i < n → 0 < d (p i) := by
    intro i hi
    have a := dq_Sle g (i := 1) (j := i + 1) (by omega)
    rw [dq_S1, h3 i hi] at a
    omega
  refine ⟨⟨h1, h2, ?_, ?_, h5, ?_⟩, ?_⟩
  · intro i hi
    have a := dq_tS g h0 i
    have b := h3 i hi
    show dq_S (dq_tg g) (i + 1) = d (p i) - 1
    omega
  · intro i j hij hj
    have a := hS i (by omega)
    have b := hS j hj
    have c := h4 i j hij hj
    show d (p i) - 1 < d (p j) - 1 ∨ (d (p i) - 1 = d (p j) - 1 ∧ p i < p j)
    omega
  · intro q hq
    have a := h6 q hq
    show d q - 1 ≤ 1000
    omega
  · intro q hq
    obtain ⟨i, hi, rfl⟩ := h5 q hq
    exact hS i hi
/-! an entry goes -/
def dq_up (k q : Nat) : Nat := if q < k then q else q + 1
def dq_dn (k q : Nat) : Nat := if q < k then q else q - 1
theorem dq_upl {k q : Nat} (h : q < k) : dq_up k q = q := if_pos h
theorem dq_upg {k q : Nat} (h : k ≤ q) : dq_up k q = q + 1 := if_neg (by omega)
theorem dq_dnl {k q : Nat} (h : q < k) : dq_dn k q = q := if_pos h
theorem dq_dng {k q : Nat} (h : k ≤ q) : dq_dn k q = q - 1 := if_neg (by omega)
theorem dq_up_lt {k q n : Nat} (h : q < n) : dq_up k q < n + 1 := by unfold dq_up; split <;> omega
theorem dq_up_ne (k q : Nat) : dq_up k q ≠ k := by unfold dq_up; split <;> omega
theorem dq_up_mono {k a b : Nat} (h : a < b) : dq_up k a < dq_up k b := by unfold dq_up; split <;> split <;> omega
theorem dq_dn_mono {k a b : Nat} (ha : a ≠ k) (hb : b ≠ k) (h : a < b) : dq_dn k a < dq_dn k b := by unfold dq_dn; split <;> split <;> omega
theorem dq_dn_lt {k q n : Nat} (hk : k < n + 1) (h : q < n + 1) (hq : q ≠ k) : dq_dn k q < n := by unfold dq_dn; split <;> omega
theorem dq_updn {k q : Nat} (hq : q ≠ k) : dq_up k (dq_dn k q) = q := by
  by_cases h : q < k
  · rw [dq_dnl h, dq_upl h]
  · rw [dq_dng (by omega), dq_upg (by omega)]; omega
theorem dq_dnup (k q : Nat) : dq_dn k (dq_up k q) = q := by
  by_cases h : q < k
  · rw [dq_upl h, dq_dnl h]
  · rw [dq_upg (by omega), dq_dng (by omega)]; omega
def dq_dg (g : Nat → Nat) (i : Nat) : Nat → Nat := fun j => if j < i then g j else if j = i then g i + g (i + 1) else g (j + 1)
theorem dq_dSl (g : Nat → Nat) (i j : Nat) (h : j ≤ i) : dq_S (dq_dg g i) j = dq_S g j := dq_Scg fun a ha => if_pos (by omega)
theorem dq_dSg (g : Nat → Nat) (i : Nat) : ∀ m : Nat, dq_S (dq_dg g i) (i + m + 1) = dq_S g (i + m + 2) := by
  intro m
  induction m with
  | zero =>
    have e : dq_dg g i i = g i + g (i + 1) := (if_neg (by omega)).trans (if_pos rfl)
    show dq_S (dq_dg g i) i + dq_dg g i i = dq_S g i + g i + g (i + 1)
    rw [dq_dSl g i i (Nat.le_refl _), e]
    omega
  | succ m ih =>
    have e : dq_dg g i (i + m + 1) = g (i + m + 2) := (if_neg (by omega)).trans (if_neg (by omega))
    show dq_S (dq_dg g i) (i + m + 1) + dq_dg g i (i + m + 1) = dq_S g (i + m + 2) + g (i + m + 2)
    rw [ih, e]
theorem dq_dS (g : Nat → Nat) (i j : Nat) : dq_S (dq_dg g i) (j + 1) = dq_S g (dq_up i j + 1) := by
  by_cases h : j < i
  · rw [dq_upl h, dq_dSl g i (j + 1) h]
  · obtain ⟨m, rfl⟩ : ∃ m, j = i + m := ⟨j - i, by omega⟩
    rw [dq_upg (by omega), dq_dSg]
theorem dq_del {n : Nat} {g d : Nat → Nat} {A J : Nat → Int32} {p : Nat → Nat} (h : dq_P (n + 1) g d A J p) {i : Nat} (hi : i < n + 1) :
    dq_P n (dq_dg g i) (fun q => d (dq_up (p i) q)) (fun j => A (dq_up i j)) (fun q => J (dq_up (p i) q)) (fun j => dq_dn (p i) (p (dq_up i j))) := by
  have inj := fun j (hj : j < n) => dq_inj h (dq_up_lt hj) hi (dq_up_ne i j)
  obtain ⟨h1, h2, h3, h4, h5, h6⟩ := h
  refine ⟨?_, ?_, ?_, ?_, ?_, ?_⟩
  · intro j hj
    exact dq_dn_lt (h1 i hi) (h1 _ (dq_up_lt hj)) (inj j hj)
  · intro j hj
    show A (dq_up i j) = J (dq_up (p i) (dq_dn (p i) (p (dq_up i j))))
    rw [dq_updn (inj j hj)]
    exact h2 _ (dq_up_lt hj)
  · intro j hj
    show dq_S (dq_dg g i) (j + 1) = d (dq_up (p i) (dq_dn (p i) (p (dq_up i j))))
    rw [dq_updn (inj j hj), dq_dS]
    exact h3 _ (dq_up_lt hj)
  · intro a b hab hb
    have ha : a < n := by omega
    show d (dq_up (p i) (dq_dn (p i) (p (dq_up i a)))) < d (dq_up (p i) (dq_dn (p i) (p (dq_up i b)))) ∨ (d (dq_up (p i) (dq_dn (p i) (p (dq_up i a)))) = d (dq_up (p i) (dq_dn (p i) (p (dq_up i b)))) ∧ dq_dn (p i) (p (dq_up i a)) < dq_dn (p i) (p (dq_up i b)))
    rw [dq_updn (inj a ha), dq_updn (inj b hb)]
    rcases h4 _ _ (dq_up_mono (k := i) hab) (dq_up_lt hb) with z | ⟨z, z'⟩
    · exact Or.inl z
    · exact Or.inr ⟨z, dq_dn_mono (inj a ha) (inj b hb) z'⟩
  · intro q hq
    obtain ⟨i0, h0, e⟩ := h5 (dq_up (p i) q) (dq_up_lt hq)
    have hne : i0 ≠ i := by
      intro z
      rw [z] at e
      exact dq_up_ne (p i) q e.symm
    refine ⟨dq_dn i i0, dq_dn_lt hi h0 hne, ?_⟩
    show dq_dn (p i) (p (dq_up i (dq_dn i i0))) = q
    rw [dq_updn hne, e, dq_dnup]
  · intro q hq
    exact h6 _ (dq_up_lt hq)
/-! an entry comes -/
def dq_ig (g : Nat → Nat) (pos r : Nat) : Nat → Nat := fun j => if j < pos then g j else if j = pos then r else if j = pos + 1 then g pos - r else g (j - 1)
def dq_ia (A : Nat → Int32) (pos : Nat) (x : Int32) : Nat → Int32 := fun j => if j < pos then A j else if j = pos then x else A (j - 1)
def dq_ip (p : Nat → Nat) (pos n : Nat) : Nat → Nat := fun j => if j < pos then p j else if j = pos then n else p (j - 1)
theorem dq_iSl (g : Nat → Nat) (pos r j : Nat) (h : j ≤ pos) : dq_S (dq_ig g pos r) j = dq_S g j := dq_Scg fun a ha => if_pos (by omega)
theorem dq_iSe (g : Nat → Nat) (pos r : Nat) : dq_S (dq_ig g pos r) (pos + 1) = dq_S g pos + r := by
  have e : dq_ig g pos r pos = r := (if_neg (by omega)).trans (if_pos rfl)
  rw [dq_Ss, dq_iSl g pos r pos (Nat.le_refl _), e]
theorem dq_iSg (g : Nat → Nat) (pos r : Nat) (h : r ≤ g pos) : ∀ m : Nat, dq_S (dq_ig g pos r) (pos + m + 2) = dq_S g (pos + m + 1) := by
  intro m
  induction m with
  | zero =>
    have e : dq_ig g pos r (pos + 1) = g pos - r := (if_neg (by omega)).trans ((if_neg (by omega)).trans (if_pos rfl))
    show dq_S (dq_ig g pos r) (pos + 1) + dq_ig g pos r (pos + 1) = dq_S g pos + g pos
    rw [dq_iSe, e]
    omega
  | succ m ih =>
    have e : dq_ig g pos r (pos + m + 2) = g (pos + m + 1) := (if_neg (by omega)).trans ((if_neg (by omega)).trans (if_neg (by omega)))
    show dq_S (dq_ig g pos r) (pos + m + 2) + dq_ig g pos r (pos + m + 2) = dq_S g (pos + m + 1) + g (pos + m + 1)
    rw [ih, e]
theorem dq_ins {n : Nat} {g d : Nat → Nat} {A J : Nat → Int32} {p : Nat → Nat} (h : dq_P n g d A J p) {pos w : Nat} (hp : pos ≤ n) (hlo : dq_S g pos ≤ w) (hhi : pos < n → w < dq_S g (pos + 1)) (hw : w ≤ 1000) (x : Int32) :
    dq_P (n + 1) (dq_ig g pos (w - dq_S g pos)) (fun q => if q = n then w else d q) (dq_ia A pos x) (fun q => if q = n then x else J q) (dq_ip p pos n) := by
  obtain ⟨h1, h2, h3, h4, h5, h6⟩ := h
  have dp : ∀ i, i < n → (fun q => if q = n then w else d q) (p i) = d (p i) := fun i hi => if_neg (Nat.ne_of_lt (h1 i hi))
  have dn : (fun q => if q = n then w else d q) n = w := if_pos rfl
  have Jp : ∀ i, i < n → (fun q => if q = n then x else J q) (p i) = J (p i) := fun i hi => if_neg (Nat.ne_of_lt (h1 i hi))
  have Jn : (fun q => if q = n then x else J q) n = x := if_pos rfl
  have ipl : ∀ j, j < pos → dq_ip p pos n j = p j := fun j hj => if_pos hj
  have ipe : dq_ip p pos n pos = n := (if_neg (by omega)).trans (if_pos rfl)
  have ipg : ∀ m, pos ≤ m → dq_ip p pos n (m + 1) = p m := fun m hm => (if_neg (by omega)).trans (if_neg (by omega))
  have ial : ∀ j, j < pos → dq_ia A pos x j = A j := fun j hj => if_pos hj
  have iae : dq_ia A pos x pos = x := (if_neg (by omega)).trans (if_pos rfl)
  have iag : ∀ m, pos ≤ m → dq_ia A pos x (m + 1) = A m := fun m hm => (if_neg (by omega)).trans (if_neg (by omega))
  have lo : ∀ i, i < pos → d (p i) ≤ w := by
    intro i hi
    have a := dq_Sle g (i := i + 1) (j := pos) hi
    rw [h3 i (by omega)] at a
    omega
  have hi' : ∀ m, pos ≤ m → m < n → w < d (p m) := by
    intro m hm hn
    have a := dq_Sle g (i := pos + 1) (j := m + 1) (by omega)
    rw [h3 m hn] at a
    have b := hhi (by omega)
    omega
  have tri : ∀ j, j < n + 1 → j < pos ∨ j = pos ∨ ∃ m, pos ≤ m ∧ m < n ∧ j = m + 1 := by
    intro j hj
    by_cases a : j < pos
    · exact Or.inl a
    · by_cases b : j = pos
      · exact Or.inr (Or.inl b)
      · exact Or.inr (Or.inr ⟨j - 1, by omega, by omega, by omega⟩)
  refine ⟨?_, ?_, ?_, ?_, ?_, ?_⟩
  · intro j hj
    rcases tri j hj with a | rfl | ⟨m, a, b, rfl⟩
    · rw [ipl j a]; have := h1 j (by omega); omega
    · rw [ipe]; omega
    · rw [ipg m a]; have := h1 m b; omega
  · intro j hj
    rcases tri j hj with a | rfl | ⟨m, a, b, rfl⟩
    · rw [ipl j a, ial j a, Jp j (by omega)]; exact h2 j (by omega)
    · rw [ipe, iae, Jn]
    · rw [ipg m a, iag m a, Jp m b]; exact h2 m b
  · intro j hj
    rcases tri j hj with a | rfl | ⟨m, a, b, rfl⟩
    · rw [ipl j a, dp j (by omega), dq_iSl _ _ _ _ (by omega)]; exact h3 j (by omega)
    · rw [ipe, dn, dq_iSe]; omega
    · obtain ⟨c, rfl⟩ : ∃ c, m = pos + c := ⟨m - pos, by omega⟩
      have z := hhi (by omega)
      rw [dq_Ss] at z
      rw [ipg _ a, dp _ b, dq_iSg g pos _ (by omega)]
      exact h3 _ b
  · intro i j hij hj
    rcases tri i (by omega) with a | rfl | ⟨m, a, b, rfl⟩
    · rcases tri j hj with a' | rfl | ⟨m', a', b', rfl⟩
      · rw [ipl i a, ipl j a', dp i (by omega), dp j (by omega)]; exact h4 i j hij (by omega)
      · rw [ipl i a, ipe, dp i (by omega), dn]
        have u := lo i a
        have v := h1 i (by omega)
        omega
      · rw [ipl i a, ipg m' a', dp i (by omega), dp m' b']; exact h4 i m' (by omega) b'
    · rcases tri j hj with a' | e | ⟨m', a', b', rfl⟩
      · omega
      · omega
      · rw [ipe, ipg m' a', dn, dp m' b']; exact Or.inl (hi' m' a' b')
    · rcases tri j hj with a' | e | ⟨m', a', b', rfl⟩
      · omega
      · omega
      · rw [ipg m a, ipg m' a', dp m b, dp m' b']; exact h4 m m' (by omega) b'
  · intro q hq
    by_cases e : q = n
    · exact ⟨pos, by omega, by rw [ipe, e]⟩
    · obtain ⟨i, hi, rfl⟩ := h5 q (by omega)
      by_cases a : i < pos
      · exact ⟨i, by omega, ipl i a⟩
      · exact ⟨i + 1, by omega, ipg i (by omega)⟩
  · intro q hq
    show (if q = n then w else d q) ≤ 1000
    by_cases e : q = n
    · rw [if_pos e]; exact hw
    · rw [if_neg e]; exact h6 q (by omega)
/-! numbers -/
theorem dq_sn {a : Nat} (h : a ≤ 32767) : vp_nar .short (nI a) = nI a := by
  rw [vp_nar_short]
  exact lg_i2s_small (by rw [nI_toInt (by omega)]; omega) (by rw [nI_toInt (by omega)]; omega)
theorem dq_sh {a : Nat} (h : a ≤ 32767) : vp_nar .short (nI a).toInt16.toInt32 = nI a := by
  have e : (nI a).toInt16.toInt32 = nI a := lg_i2s_small (by rw [nI_toInt (by omega)]; omega) (by rw [nI_toInt (by omega)]; omega)
  rw [e, dq_sn h]
theorem dq_in {i : Nat} (h : i < 4) : vp_in (nI i) 4 := vp_in_nI h (by decide)
end
section
/-! each loop once, with a general post -/
/-- Y's search: what its best so far is, of the first i entries that match M -/
def dq_B (M : Int32 → Prop) (d : Nat → Nat) (J : Nat → Int32) (i : Nat) (b : Int32) : Prop :=
  (b = -1 ∧ ∀ q, q < i → ¬ M (J q)) ∨ ∃ q, q < i ∧ b = nI q ∧ M (J q) ∧ ∀ q', q' < i → M (J q') → d q < d q' ∨ (d q = d q' ∧ q ≤ q')
theorem dq_Bno {M : Int32 → Prop} {d : Nat → Nat} {J : Nat → Int32} {i : Nat} {b : Int32} (h : dq_B M d J i b) (hm : ¬ M (J i)) : dq_B M d J (i + 1) b := by
  rcases h with ⟨e, h⟩ | ⟨q, hq, e, hM, h⟩
  · refine Or.inl ⟨e, fun q hq z => ?_⟩
    by_cases c : q = i
    · exact hm (c ▸ z)
    · exact h q (by omega) z
  · refine Or.inr ⟨q, by omega, e, hM, fun q' hq' z => ?_⟩
    by_cases c : q' = i
    · exact absurd (c ▸ z) hm
    · exact h q' (by omega) z
theorem dq_26 {M : Int32 → Prop} {n t : Nat} {d : Nat → Nat} {D : Nat → Int64} {J : Nat → Int32} (hn : n ≤ 4) (ht : t ≤ 1536) (hD : ∀ q, q < n → D q = lN (t + d q)) (hd : ∀ q, q < n → d q ≤ 1000)
    (post : Int32 → Prop) (J4 : Int32 → Int32 → Prop) (x1 : Int32) {i : Nat} {b : Int32} (hi : i < n) (hB : dq_B M d J i b) (hM : M (J i)) (K : ∀ b', dq_B M d J (i + 1) b' → J4 b' (nI (i + 1))) :
    wY_find_26 post J4 x1 b (nI i) (nI n) (lN t) D J := by
  have new : (∀ q', q' < i → M (J q') → d i < d q' ∨ (d i = d q' ∧ i ≤ q')) → dq_B M d J (i + 1) (nI i) := by
    intro h
    refine Or.inr ⟨i, by omega, rfl, hM, fun q' hq' z => ?_⟩
    by_cases c : q' = i
    · rw [c]; omega
    · exact h q' (by omega) z
  rcases hB with ⟨rfl, h⟩ | ⟨q, hq, rfl, hMq, h⟩
  · exact br_t (by decide) (nm_r (nI_1 i) (K _ (new fun q' hq' z => absurd z (h q' hq'))))
  · have eq : D (nI q).toNatClampNeg = lN (t + d q) := by rw [nI_clamp (by omega)]; exact hD q (by omega)
    have ei : D (nI i).toNatClampNeg = lN (t + d i) := by rw [nI_clamp (by omega)]; exact hD i hi
    have b1 := hd q (by omega)
    have b2 := hd i hi
    refine br_f (nI_pos (by omega)) ⟨dq_in (by omega), dq_in (by omega), ?_⟩
    rw [eq, ei, lN_le (by omega) (by omega)]
    refine br_c (fun c => nm_r (nI_1 i) (K _ ?_)) (fun c => nm_r (nI_1 i) (K _ (new ?_)))
    · refine Or.inr ⟨q, by omega, rfl, hMq, fun q' hq' z => ?_⟩
      by_cases e : q' = i
      · rw [e]; omega
      · exact h q' (by omega) z
    · intro q' hq' z
      have := h q' hq' z
      omega
theorem dq_f4 {n t : Nat} {d : Nat → Nat} {D : Nat → Int64} {J : Nat → Int32} (hn : n ≤ 4) (ht : t ≤ 1536) (hD : ∀ q, q < n → D q = lN (t + d q)) (hd : ∀ q, q < n → d q ≤ 1000)
    (post : Int32 → Prop) (x1 : Int32) (K : ∀ b, dq_B (fun z => x1 < 0 ∨ z = x1) d J n b → post b) :
    ∀ (m i : Nat) (b : Int32), i + m = n → dq_B (fun z => x1 < 0 ∨ z = x1) d J i b → wY_find_4 post x1 (nI n) (lN t) D J (m + 1) b (nI i) := by
  intro m
  induction m with
  | zero =>
    intro i b hi hB
    have e : i = n := by omega
    subst e
    exact br_t (nI_le (Nat.le_refl _) (by omega)) (K b hB)
  | succ m ih =>
    intro i b hi hB
    refine br_f (nI_ge (by omega) (by omega)) ?_
    by_cases hx : x1 < 0
    · exact br_t hx (dq_26 hn ht hD hd post _ x1 (by omega) hB (Or.inl hx) fun b' h' => ih (i + 1) b' (by omega) h')
    · refine br_f hx ⟨dq_in (by omega), ?_⟩
      have ei : J (nI i).toNatClampNeg = J i := by rw [nI_clamp (by omega)]
      rw [ei]
      by_cases hj : J i = x1
      · exact br_t hj (dq_26 hn ht hD hd post _ x1 (by omega) hB (Or.inr hj) fun b' h' => ih (i + 1) b' (by omega) h')
      · refine br_f hj (nm_r (nI_1 i) (ih (i + 1) b (by omega) (dq_Bno hB ?_)))
        intro z
        rcases z with z | z
        · exact hx z
        · exact hj z
theorem dq_find {n t : Nat} {d : Nat → Nat} {D : Nat → Int64} {J : Nat → Int32} (hn : n ≤ 4) (ht : t ≤ 1536) (hD : ∀ q, q < n → D q = lN (t + d q)) (hd : ∀ q, q < n → d q ≤ 1000)
    (post : Int32 → Prop) (x1 : Int32) (h0 : (∀ q, q < n → ¬ (x1 < 0 ∨ J q = x1)) → post (-1))
    (h1 : ∀ q, q < n → (x1 < 0 ∨ J q = x1) → (∀ q', q' < n → (x1 < 0 ∨ J q' = x1) → d q < d q' ∨ (d q = d q' ∧ q ≤ q')) → post (nI q)) : wpY_find post (nI n, lN t, D, J) x1 := by
  refine ⟨n + 1, dq_f4 hn ht hD hd post x1 ?_ n 0 (-1) (by omega) (Or.inl ⟨rfl, fun q hq => absurd hq (by omega)⟩)⟩
  intro b hB
  rcases hB with ⟨rfl, h⟩ | ⟨q, hq, rfl, hM, h⟩
  · exact h0 h
  · exact h1 q hq hM h
/-- Y's drop -/
theorem dq_y12 {N : Nat} (hn : N < 4) (T : Int64) (post : SY → Prop) : ∀ (m i : Nat) (D : Nat → Int64) (J : Nat → Int32), i + m = N → (∀ j, j < N + 1 → vp_nar .short (J j) = J j) →
    (∀ (D' : Nat → Int64) (J' : Nat → Int32), (∀ j, j < N → D' j = D (dq_up i j)) → (∀ j, j < N → J' j = J (dq_up i j)) → post (nI N, T, D', J')) →
    wY_drop_12 post (nI N) T (m + 1) (nI i) D J := by
  intro m
  induction m with
  | zero =>
    intro i D J hi hJ K
    have e : i = N := by omega
    subst e
    exact br_t (nI_le (Nat.le_refl _) (by omega)) (K D J (fun j hj => by rw [dq_upl hj]) (fun j hj => by rw [dq_upl hj]))
  | succ m ih =>
    intro i D J hi hJ K
    have e1 : vp_updL D (nI i).toNatClampNeg (D (nI i + 1).toNatClampNeg) = vp_updL D i (D (i + 1)) := by rw [nI_1, nI_clamp (by omega), nI_clamp (by omega)]
    have e2 : upd J (nI i).toNatClampNeg (vp_nar .short (J (nI i + 1).toNatClampNeg)) = upd J i (J (i + 1)) := by rw [nI_1, nI_clamp (by omega), nI_clamp (by omega), hJ _ (by omega)]
    have v1 : vp_in (nI i + 1) 4 := by rw [nI_1]; exact dq_in (by omega)
    have v2 : vp_in (nI i) 4 := dq_in (by omega)
    refine br_f (nI_ge (by omega) (by omega)) ⟨v1, v2, nm_r e1 ⟨v1, v2, nm_r e2 (nm_r (nI_1 i) (ih (i + 1) _ _ (by omega) ?_ ?_))⟩⟩
    · intro j hj
      by_cases c : j = i
      · rw [c, pk_us, hJ _ (by omega)]
      · rw [pk_un c, hJ _ hj]
    · intro D' J' hD' hJ'
      refine K D' J' (fun j hj => ?_) (fun j hj => ?_)
      · rw [hD' j hj]
        by_cases c : j < i
        · rw [dq_upl c, dq_upl (by omega), pk_uLn (by omega)]
        · by_cases c' : j = i
          · rw [c', dq_upl (by omega), dq_upg (by omega), pk_uLs]
          · rw [dq_upg (by omega), dq_upg (by omega), pk_uLn (by omega)]
      · rw [hJ' j hj]
        by_cases c : j < i
        · rw [dq_upl c, dq_upl (by omega), pk_un (by omega)]
        · by_cases c' : j = i
          · rw [c', dq_upl (by omega), dq_upg (by omega), pk_us]
          · rw [dq_upg (by omega), dq_upg (by omega), pk_un (by omega)]
theorem dq_yd {N : Nat} (hn : N < 4) (T : Int64) (D : Nat → Int64) (J : Nat → Int32) (hJ : ∀ j, j < N + 1 → vp_nar .short (J j) = J j) (q : Nat) (hq : q < N + 1) (post : SY → Prop)
    (K : ∀ (D' : Nat → Int64) (J' : Nat → Int32), (∀ j, j < N → D' j = D (dq_up q j)) → (∀ j, j < N → J' j = J (dq_up q j)) → post (nI N, T, D', J')) : wpY_drop post (nI (N + 1), T, D, J) (nI q) := by
  unfold wpY_drop
  exact nm_r (nI_pred N) ⟨N - q + 1, dq_y12 hn T post (N - q) q D J (by omega) hJ K⟩
theorem dq_y49 {N : Nat} (hn : N < 4) (T : Int64) (D : Nat → Int64) (J : Nat → Int32) (hJ : ∀ j, j < N + 1 → vp_nar .short (J j) = J j) (q : Nat) (hq : q < N + 1) (post : Int32 → SY → Prop)
    (K : ∀ (D' : Nat → Int64) (J' : Nat → Int32), (∀ j, j < N → D' j = D (dq_up q j)) → (∀ j, j < N → J' j = J (dq_up q j)) → post (J q) (nI N, T, D', J')) : wY_tick_49 post (nI q) (nI (N + 1)) T D J := by
  have e : J (nI q).toNatClampNeg = J q := by rw [nI_clamp (by omega)]
  refine ⟨dq_in (by omega), nm_r e ?_⟩
  exact dq_yd hn T D J hJ q hq _ K
/-! X's shift to the left, tick's and cancel's -/
theorem dq_x52 {N : Nat} (hn : N < 4) (post : Int32 → SX → Prop) (r : Int32) : ∀ (m i : Nat) (G A : Nat → Int32), i + m = N → (∀ j, j < N + 1 → vp_nar .short (A j) = A j) →
    (∀ (G' A' : Nat → Int32), (∀ j, j < N → G' j = G (dq_up i j)) → (∀ j, j < N → A' j = A (dq_up i j)) → post r (nI N, G', A')) →
    wX_tick_52 post r (nI (N + 1)) (m + 1) (nI i) G A := by
  intro m
  induction m with
  | zero =>
    intro i G A hi hA K
    have e : i = N := by omega
    subst e
    have e1 : upd G (nI i).toNatClampNeg 0 = upd G i 0 := by rw [nI_clamp (by omega)]
    have e2 : upd A (nI i).toNatClampNeg (vp_nar .short 0) = upd A i 0 := by rw [nI_clamp (by omega)]; exact congrArg (upd A i) (dq_sn (a := 0) (by decide))
    have c : nI (i + 1) ≤ nI i + 1 := by rw [nI_1]; exact nI_le (Nat.le_refl _) (by omega)
    exact br_t c (nm_r (nI_pred i) ⟨dq_in (by omega), nm_r e1 ⟨dq_in (by omega), nm_r e2 (K _ _ (fun j hj => by rw [dq_upl hj, pk_un (by omega)]) (fun j hj => by rw [dq_upl hj, pk_un (by omega)]))⟩⟩)
  | succ m ih =>
    intro i G A hi hA K
    have e1 : upd G (nI i).toNatClampNeg (G (nI i + 1).toNatClampNeg) = upd G i (G (i + 1)) := by rw [nI_1, nI_clamp (by omega), nI_clamp (by omega)]
    have e2 : upd A (nI i).toNatClampNeg (vp_nar .short (A (nI i + 1).toNatClampNeg)) = upd A i (A (i + 1)) := by rw [nI_1, nI_clamp (by omega), nI_clamp (by omega), hA _ (by omega)]
    have v1 : vp_in (nI i + 1) 4 := by rw [nI_1]; exact dq_in (by omega)
    have v2 : vp_in (nI i) 4 := dq_in (by omega)
    have c : ¬ nI (N + 1) ≤ nI i + 1 := by rw [nI_1]; exact nI_ge (by omega) (by omega)
    refine br_f c ⟨v1, v2, nm_r e1 ⟨v1, v2, nm_r e2 (nm_r (nI_1 i) (ih (i + 1) _ _ (by omega) ?_ ?_))⟩⟩
    · intro j hj
      by_cases c : j = i
      · rw [c, pk_us, hA _ (by omega)]
      · rw [pk_un c, hA _ hj]
    · intro G' A' hG' hA'
      refine K G' A' (fun j hj => ?_) (fun j hj => ?_)
      · rw [hG' j hj]
        by_cases c : j < i
        · rw [dq_upl c, dq_upl (by omega), pk_un (by omega)]
        · by_cases c' : j = i
          · rw [c', dq_upl (by omega), dq_upg (by omega), pk_us]
          · rw [dq_upg (by omega), dq_upg (by omega), pk_un (by omega)]
      · rw [hA' j hj]
        by_cases c : j < i
        · rw [dq_upl c, dq_upl (by omega), pk_un (by omega)]
        · by_cases c' : j = i
          · rw [c', dq_upl (by omega), dq_upg (by omega), pk_us]
          · rw [dq_upg (by omega), dq_upg (by omega), pk_un (by omega)]
theorem dq_x80 {N : Nat} (hn : N < 4) (post : Int32 → SX → Prop) (r : Int32) : ∀ (m i : Nat) (G A : Nat → Int32), i + m = N → (∀ j, j < N + 1 → vp_nar .short (A j) = A j) →
    (∀ (G' A' : Nat → Int32), (∀ j, j < N → G' j = G (dq_up i j)) → (∀ j, j < N → A' j = A (dq_up i j)) → post r (nI N, G', A')) →
    wX_cancel_80 post r (nI (N + 1)) (m + 1) (nI i) G A := by
  intro m
  induction m with
  | zero =>
    intro i G A hi hA K
    have e : i = N := by omega
    subst e
    have e1 : upd G (nI i).toNatClampNeg 0 = upd G i 0 := by rw [nI_clamp (by omega)]
    have e2 : upd A (nI i).toNatClampNeg (vp_nar .short 0) = upd A i 0 := by rw [nI_clamp (by omega)]; exact congrArg (upd A i) (dq_sn (a := 0) (by decide))
    have c : nI (i + 1) ≤ nI i + 1 := by rw [nI_1]; exact nI_le (Nat.le_refl _) (by omega)
    exact br_t c (nm_r (nI_pred i) ⟨dq_in (by omega), nm_r e1 ⟨dq_in (by omega), nm_r e2 (K _ _ (fun j hj => by rw [dq_upl hj, pk_un (by omega)]) (fun j hj => by rw [dq_upl hj, pk_un (by omega)]))⟩⟩)
  | succ m ih =>
    intro i G A hi hA K
    have e1 : upd G (nI i).toNatClampNeg (G (nI i + 1).toNatClampNeg) = upd G i (G (i + 1)) := by rw [nI_1, nI_clamp (by omega), nI_clamp (by omega)]
    have e2 : upd A (nI i).toNatClampNeg (vp_nar .short (A (nI i + 1).toNatClampNeg)) = upd A i (A (i + 1)) := by rw [nI_1, nI_clamp (by omega), nI_clamp (by omega), hA _ (by omega)]
    have v1 : vp_in (nI i + 1) 4 := by rw [nI_1]; exact dq_in (by omega)
    have v2 : vp_in (nI i) 4 := dq_in (by omega)
    have c : ¬ nI (N + 1) ≤ nI i + 1 := by rw [nI_1]; exact nI_ge (by omega) (by omega)
    refine br_f c ⟨v1, v2, nm_r e1 ⟨v1, v2, nm_r e2 (nm_r (nI_1 i) (ih (i + 1) _ _ (by omega) ?_ ?_))⟩⟩
    · intro j hj
      by_cases c : j = i
      · rw [c, pk_us, hA _ (by omega)]
      · rw [pk_un c, hA _ hj]
    · intro G' A' hG' hA'
      refine K G' A' (fun j hj => ?_) (fun j hj => ?_)
      · rw [hG' j hj]
        by_cases c : j < i
        · rw [dq_upl c, dq_upl (by omega), pk_un (by omega)]
        · by_cases c' : j = i
          · rw [c', dq_upl (by omega), dq_upg (by omega), pk_us]
          · rw [dq_upg (by omega), dq_upg (by omega), pk_un (by omega)]
      · rw [hA' j hj]
        by_cases c : j < i
        · rw [dq_upl c, dq_upl (by omega), pk_un (by omega)]
        · by_cases c' : j = i
          · rw [c', dq_upl (by omega), dq_upg (by omega), pk_us]
          · rw [dq_upg (by omega), dq_upg (by omega), pk_un (by omega)]
/-! X's arm: the shift to the right, and the search for the place -/
theorem dq_x87 {n pos : Nat} (hn : n < 4) (hp : pos ≤ n) (post : Int32 → SX → Prop) (x y : Int32) (hx : vp_nar .short x.toInt16.toInt32 = x) (G0 A0 : Nat → Int32) (hA0 : ∀ j, j < n → vp_nar .short (A0 j) = A0 j)
    (K : ∀ (G' A' : Nat → Int32), (∀ j, j < pos → G' j = G0 j) → G' pos = y → (pos < n → G' (pos + 1) = G0 pos - y) → (∀ j, pos + 1 < j → j < n + 1 → G' j = G0 (j - 1)) → (∀ j, j < n + 1 → A' j = dq_ia A0 pos x j) → post 0 (nI (n + 1), G', A')) :
    ∀ (m j : Nat) (G A : Nat → Int32), pos + m = j → j ≤ n → (∀ a, a < j → G a = G0 a) → (∀ a, j < a → a ≤ n → G a = G0 (a - 1)) → (∀ a, a < j → A a = A0 a) → (∀ a, j < a → a ≤ n → A a = A0 (a - 1)) →
    wX_arm_87 post x (nI pos) y (nI n) (m + 1) (nI j) G A := by
  intro m
  induction m with
  | zero =>
    intro j G A hj hjn g1 g2 a1 a2
    have e : pos = j := by omega
    subst e
    have e1 : upd G (nI pos).toNatClampNeg y = upd G pos y := by rw [nI_clamp (by omega)]
    have e2 : upd A (nI pos).toNatClampNeg (vp_nar .short x.toInt16.toInt32) = upd A pos x := by rw [nI_clamp (by omega), hx]
    have hA' : ∀ j, j < n + 1 → upd A pos x j = dq_ia A0 pos x j := by
      intro j hj
      by_cases c : j < pos
      · rw [pk_un (by omega), a1 j c]; exact (if_pos c).symm
      · by_cases c' : j = pos
        · rw [c', pk_us]; exact ((if_neg (by omega)).trans (if_pos rfl)).symm
        · rw [pk_un c', a2 j (by omega) (by omega)]; exact ((if_neg c).trans (if_neg c')).symm
    refine br_t (nI_le (Nat.le_refl _) (by omega)) ⟨dq_in (by omega), nm_r e1 ⟨dq_in (by omega), nm_r e2 (nm_r (nI_1 n) ?_)⟩⟩
    rw [nI_1 pos, nI_leI (by omega) (by omega), nI_clamp (by omega)]
    refine br_c (fun c => ?_) (fun c => ⟨dq_in (by omega), dq_in (by omega), nm_e ?_⟩)
    · refine K _ _ (fun j hj => ?_) pk_us (fun z => absurd z (by omega)) (fun j z z' => absurd z (by omega)) hA'
      rw [pk_un (by omega), g1 j hj]
    · refine K _ _ (fun j hj => ?_) ?_ (fun z => ?_) (fun j z z' => ?_) hA'
      · rw [pk_un (by omega), pk_un (by omega), g1 j hj]
      · rw [pk_un (by omega), pk_us]
      · rw [pk_us, pk_un (by omega), g2 (pos + 1) (by omega) (by omega), Nat.add_sub_cancel]
      · rw [pk_un (by omega), pk_un (by omega), g2 j (by omega) (by omega)]
  | succ m ih =>
    intro j G A hj hjn g1 g2 a1 a2
    obtain ⟨i, rfl⟩ : ∃ i, j = i + 1 := ⟨j - 1, by omega⟩
    have e1 : upd G (nI (i + 1)).toNatClampNeg (G (nI (i + 1) - 1).toNatClampNeg) = upd G (i + 1) (G0 i) := by rw [nI_pred, nI_clamp (by omega), nI_clamp (by omega), g1 i (by omega)]
    have e2 : upd A (nI (i + 1)).toNatClampNeg (vp_nar .short (A (nI (i + 1) - 1).toNatClampNeg)) = upd A (i + 1) (A0 i) := by rw [nI_pred, nI_clamp (by omega), nI_clamp (by omega), a1 i (by omega), hA0 i (by omega)]
    have v1 : vp_in (nI (i + 1) - 1) 4 := by rw [nI_pred]; exact dq_in (by omega)
    have v2 : vp_in (nI (i + 1)) 4 := dq_in (by omega)
    refine br_f (nI_ge (by omega) (by omega)) ⟨v1, v2, nm_r e1 ⟨v1, v2, nm_r e2 (nm_r (pk_m1 i) (ih i _ _ (by omega) (by omega) ?_ ?_ ?_ ?_))⟩⟩
    · intro a ha
      rw [pk_un (by omega), g1 a (by omega)]
    · intro a ha ha'
      by_cases c : a = i + 1
      · rw [c, pk_us, Nat.add_sub_cancel]
      · rw [pk_un c, g2 a (by omega) ha']
    · intro a ha
      rw [pk_un (by omega), a1 a (by omega)]
    · intro a ha ha'
      by_cases c : a = i + 1
      · rw [c, pk_us, Nat.add_sub_cancel]
      · rw [pk_un c, a2 a (by omega) ha']
theorem dq_x44 {n : Nat} (hn : n < 4) (G A : Nat → Int32) (g : Nat → Nat) (hG : ∀ j, j < n → G j = nI (g j)) (hb : ∀ j, j < n → g j ≤ 1000) (w : Nat) (hw : w ≤ 1000) (post : Int32 → SX → Prop) (x : Int32)
    (K : ∀ pos, pos ≤ n → dq_S g pos ≤ w → (pos < n → w < dq_S g (pos + 1)) → ∃ n87 : Nat, wX_arm_87 post x (nI pos) (nI (w - dq_S g pos)) (nI n) n87 (nI n) G A) :
    ∀ m i : Nat, i + m = n → dq_S g i ≤ w → wX_arm_44 post x (nI n) G A (m + 1) (nI i) (nI (w - dq_S g i)) := by
  intro m
  induction m with
  | zero =>
    intro i hi hS
    have e : i = n := by omega
    subst e
    exact br_t (nI_le (Nat.le_refl _) (by omega)) (K i (Nat.le_refl _) hS fun z => absurd z (by omega))
  | succ m ih =>
    intro i hi hS
    have ei : G (nI i).toNatClampNeg = nI (g i) := by rw [nI_clamp (by omega)]; exact hG i (by omega)
    have hbi := hb i (by omega)
    refine br_f (nI_ge (by omega) (by omega)) ⟨dq_in (by omega), ?_⟩
    rw [ei, nI_ltI (by omega) (by omega)]
    refine br_c (fun c => K i (by omega) hS fun _ => by rw [dq_Ss]; omega) (fun c => ⟨dq_in (by omega), ?_⟩)
    have e : nI (w - dq_S g i) - nI (g i) = nI (w - dq_S g (i + 1)) := by
      rw [pk_sub (by omega), dq_Ss, Nat.sub_sub]
    exact nm_r e (nm_r (nI_1 i) (ih (i + 1) (by omega) (by rw [dq_Ss]; omega)))
/-- X's search in cancel -/
theorem dq_x17 {n : Nat} (hn : n ≤ 4) (G A : Nat → Int32) (g : Nat → Nat) (hG : ∀ j, j < n → G j = nI (g j)) (post : Int32 → SX → Prop) (x : Int32) (K0 : (∀ j, j < n → ¬ A j = x) → post (-1) (nI n, G, A))
    (K1 : ∀ i, i < n → A i = x → (∀ j, j < i → ¬ A j = x) → ∀ G' : Nat → Int32, (∀ j, j < n → ¬ j = i + 1 → G' j = G j) → (i + 1 < n → G' (i + 1) = G (i + 1) + G i) → ∃ n80 : Nat, wX_cancel_80 post (nI (dq_S g (i + 1))) (nI n) n80 (nI i) G' A) :
    ∀ m i : Nat, i + m = n → (∀ j, j < i → ¬ A j = x) → wX_cancel_17 post x (nI n) G A (m + 1) (nI (dq_S g i)) (nI i) := by
  intro m
  induction m with
  | zero =>
    intro i hi hA
    have e : i = n := by omega
    subst e
    exact br_t (nI_le (Nat.le_refl _) (by omega)) (K0 hA)
  | succ m ih =>
    intro i hi hA
    have ei : nI (dq_S g i) + G (nI i).toNatClampNeg = nI (dq_S g (i + 1)) := by rw [nI_clamp (by omega), hG i (by omega), nI_add, dq_Ss]
    have ea : A (nI i).toNatClampNeg = A i := by rw [nI_clamp (by omega)]
    refine br_f (nI_ge (by omega) (by omega)) ⟨dq_in (by omega), nm_r ei ⟨dq_in (by omega), ?_⟩⟩
    rw [ea]
    refine br_c (fun c => ?_) (fun c => nm_r (nI_1 i) (ih (i + 1) (by omega) ?_))
    · have e1 : upd G (nI i + 1).toNatClampNeg (G (nI i + 1).toNatClampNeg + G (nI i).toNatClampNeg) = upd G (i + 1) (G (i + 1) + G i) := by rw [nI_1, nI_clamp (by omega), nI_clamp (by omega)]
      by_cases z : i + 1 < n
      · have c1 : ¬ nI n ≤ nI i + 1 := by rw [nI_1]; exact nI_ge (by omega) (by omega)
        have v1 : vp_in (nI i + 1) 4 := by rw [nI_1]; exact dq_in (by omega)
        refine br_f c1 ⟨v1, dq_in (by omega), v1, nm_r e1 (K1 i (by omega) c hA _ (fun j hj hne => pk_un hne) (fun _ => pk_us))⟩
      · have c1 : nI n ≤ nI i + 1 := by rw [nI_1]; exact nI_le (by omega) (by omega)
        exact br_t c1 (K1 i (by omega) c hA G (fun _ _ _ => rfl) (fun h => absurd h z))
    · intro j hj
      by_cases z : j = i
      · rw [z]; exact c
      · exact hA j (by omega)
/-- X's tick behind its decrement, at a head that is due -/
theorem dq_x32 {N : Nat} (hn : N < 4) (G A : Nat → Int32) (hA : ∀ j, j < N + 1 → vp_nar .short (A j) = A j) (h0 : G 0 = 0) (post : Int32 → SX → Prop)
    (K : ∀ (G' A' : Nat → Int32), (∀ j, j < N → G' j = G (dq_up 0 j)) → (∀ j, j < N → A' j = A (dq_up 0 j)) → post (A 0) (nI N, G', A')) : wX_tick_32 post (nI (N + 1)) G A :=
  br_t h0 (nm_e ⟨N + 1, dq_x52 hn post (A 0) N 0 G A (by omega) hA K⟩)
end
section
/-- X's gaps g and Y's times left d (Y's due less now) describe one queue; p is the place in Y's order of X's i-th entry -/
def i_Rel (k : Nat) (u : SX) (v : SY) : Prop :=
  ∃ (n t : Nat) (g d p : Nat → Nat) (G A : Nat → Int32) (D : Nat → Int64) (J : Nat → Int32), u = (nI n, G, A) ∧ v = (nI n, lN t, D, J) ∧ n ≤ 4 ∧ t ≤ k ∧
    (∀ j, j < n → G j = nI (g j)) ∧ (∀ q, q < n → D q = lN (t + d q)) ∧ (∀ q, q < n → ∃ m, m ≤ 32767 ∧ J q = nI m) ∧ dq_P n g d A J p
theorem i_up {k : Nat} {u : SX} {v : SY} (h : i_Rel k u v) : i_Rel (k + 3) u v := by
  obtain ⟨n, t, g, d, p, G, A, D, J, e1, e2, hn, ht, h⟩ := h
  exact ⟨n, t, g, d, p, G, A, D, J, e1, e2, hn, by omega, h⟩
theorem i_vc0 : wpX_init (fun u => wpY_init (fun v => i_Rel 0 u v)) := by
  refine ⟨0, 0, fun _ => 0, fun _ => 0, fun _ => 0, fun _ => 0, fun _ => 0, fun _ => 0, fun _ => 0, rfl, rfl, by omega, by omega, ?_, ?_, ?_, ?_⟩
  · intro j hj; omega
  · intro j hj; omega
  · intro j hj; omega
  · refine ⟨?_, ?_, ?_, ?_, ?_, ?_⟩
    · intro j hj; omega
    · intro j hj; omega
    · intro j hj; omega
    · intro i j hi hj; omega
    · intro j hj; omega
    · intro j hj; omega
/-- ids are shorts, on both sides -/
theorem dq_shJ {n : Nat} {J : Nat → Int32} (hJ : ∀ q, q < n → ∃ m, m ≤ 32767 ∧ J q = nI m) : ∀ q, q < n → vp_nar .short (J q) = J q := by
  intro q hq
  obtain ⟨m, hm, e⟩ := hJ q hq
  rw [e, dq_sn hm]
theorem dq_shA {n : Nat} {g d p : Nat → Nat} {A J : Nat → Int32} (hJ : ∀ q, q < n → ∃ m, m ≤ 32767 ∧ J q = nI m) (h : dq_P n g d A J p) : ∀ q, q < n → vp_nar .short (A q) = A q := by
  intro q hq
  rw [h.2.1 q hq, dq_shJ hJ _ (h.1 q hq)]
/-- every gap is at most 1000 -/
theorem dq_gb {n : Nat} {g d p : Nat → Nat} {A J : Nat → Int32} (h : dq_P n g d A J p) : ∀ j, j < n → dq_S g (j + 1) ≤ 1000 := by
  intro j hj
  rw [h.2.2.1 j hj]
  exact h.2.2.2.2.2 _ (h.1 j hj)
/-- the states behind a dropped entry are related again -/
theorem dq_pop {k N t : Nat} {g d p : Nat → Nat} {A J : Nat → Int32} {D : Nat → Int64} (hn : N + 1 ≤ 4) (ht : t ≤ k) (hD : ∀ q, q < N + 1 → D q = lN (t + d q)) (hJ : ∀ q, q < N + 1 → ∃ m, m ≤ 32767 ∧ J q = nI m) (h : dq_P (N + 1) g d A J p)
    {i : Nat} (hi : i < N + 1) {G' A' J' : Nat → Int32} {D' : Nat → Int64} (hG' : ∀ j, j < N → G' j = nI (dq_dg g i j)) (hA' : ∀ j, j < N → A' j = A (dq_up i j)) (hD' : ∀ j, j < N → D' j = D (dq_up (p i) j)) (hJ' : ∀ j, j < N → J' j = J (dq_up (p i) j)) :
    i_Rel k (nI N, G', A') (nI N, lN t, D', J') := by
  refine ⟨N, t, _, _, _, G', A', D', J', rfl, rfl, by omega, ht, hG', ?_, ?_, dq_cg (dq_del h hi) hA' hJ'⟩
  · intro q hq
    rw [hD' q hq]
    exact hD _ (dq_up_lt hq)
  · intro q hq
    rw [hJ' q hq]
    exact hJ _ (dq_up_lt hq)
theorem i_vc_arm {k : Nat} {u : SX} {v : SY} (I : i_Rel k u v) (hk : k + 3 ≤ 1536) (v1 : Int32) (v2 : Int32) : wpX_arm (fun r u' => wpY_arm (fun r' v' => r' = r ∧ i_Rel (k + 3) u' v') v v1 v2) u v1 v2 := by
  have I' := i_up I
  obtain ⟨n, t, g, d, p, G, A, D, J, rfl, rfl, hn, ht, hG, hD, hJ, hP⟩ := I
  by_cases h1 : v1 < 0
  · exact br_t h1 (br_t h1 ⟨rfl, I'⟩)
  by_cases h2 : v1 ≤ 32767
  · by_cases h3 : v2 < 1
    · exact br_f h1 (br_t h2 (br_t h3 (br_f h1 (br_t h2 (br_t h3 ⟨rfl, I'⟩)))))
    by_cases h4 : v2 ≤ 1000
    · by_cases hn4 : n < 4
      · have h5 : nI n < 4 := nI_lt (b := 4) hn4 (by decide)
        have h3' : ¬ v2 < 0 := fun z => h3 (Int32.lt_trans z (by decide))
        obtain ⟨a, ha, rfl⟩ := nI_of2 (M := 32767) (n := 32767) (by decide) h1 h2
        obtain ⟨w, hw, rfl⟩ := nI_of2 (M := 1000) (n := 1000) (by decide) h3' h4
        refine br_f h1 (br_t h2 (br_f h3 (br_t h4 (br_t h5 ⟨n + 1, ?_⟩))))
        have gb : ∀ j, j < n → g j ≤ 1000 := fun j hj => by
          have := dq_gb hP j hj
          rw [dq_Ss] at this
          omega
        refine dq_x44 hn4 G A g hG gb w hw _ (nI a) (fun pos hp hlo hhi => ⟨n - pos + 1, ?_⟩) n 0 (by omega) (by rw [dq_S0]; omega)
        refine dq_x87 hn4 hp _ (nI a) _ (dq_sh ha) G A (dq_shA hJ hP) ?_ (n - pos) n G A (by omega) (Nat.le_refl _) (fun _ _ => rfl) (fun _ _ _ => by omega) (fun _ _ => rfl) (fun _ _ _ => by omega)
        intro G' A' g1 g2 g3 g4 hA'
        have eD : vp_updL D (nI n).toNatClampNeg (lN t + (nI w).toInt64) = vp_updL D n (lN (t + w)) := by rw [nI_clamp (by omega), nI_l (by omega), lN_add]
        have eJ : upd J (nI n).toNatClampNeg (vp_nar .short (nI a).toInt16.toInt32) = upd J n (nI a) := by rw [nI_clamp (by omega), dq_sh ha]
        refine br_f h1 (br_t h2 (br_f h3 (br_t h4 (br_t h5 ⟨dq_in hn4, nm_r eD (nm_r (nI_1 n) ⟨dq_in hn4, nm_r eJ ⟨rfl, ?_⟩⟩)⟩))))
        refine ⟨n + 1, t, _, _, _, G', A', _, _, rfl, rfl, by omega, by omega, ?_, ?_, ?_, dq_cg (dq_ins hP hp hlo hhi hw (nI a)) hA' (fun j hj => ?_)⟩
        · intro j hj
          by_cases c : j < pos
          · rw [g1 j c, hG j (by omega)]; exact congrArg nI (if_pos c).symm
          by_cases c1 : j = pos
          · rw [c1, g2]; exact congrArg nI ((if_neg (by omega)).trans (if_pos rfl)).symm
          by_cases c2 : j = pos + 1
          · have z := hhi (by omega)
            rw [dq_Ss] at z
            rw [c2, g3 (by omega), hG pos (by omega), pk_sub (by omega)]
            exact congrArg nI ((if_neg (by omega)).trans ((if_neg (by omega)).trans (if_pos rfl))).symm
          · rw [g4 j (by omega) hj, hG (j - 1) (by omega)]
            exact congrArg nI ((if_neg c).trans ((if_neg c1).trans (if_neg c2))).symm
        · intro q hq
          show vp_updL D n (lN (t + w)) q = lN (t + (if q = n then w else d q))
          by_cases c : q = n
          · rw [c, pk_uLs, if_pos rfl]
          · rw [pk_uLn c, if_neg c, hD q (by omega)]
        · intro q hq
          by_cases c : q = n
          · exact ⟨a, ha, by rw [c, pk_us]⟩
          · rw [pk_un c]; exact hJ q (by omega)
        · rfl
      · have h5 : ¬ nI n < 4 := nI_nlt (b := 4) (by omega) (by omega)
        exact br_f h1 (br_t h2 (br_f h3 (br_t h4 (br_f h5 (br_f h1 (br_t h2 (br_f h3 (br_t h4 (br_f h5 ⟨rfl, I'⟩)))))))))
    · exact br_f h1 (br_t h2 (br_f h3 (br_f h4 (br_f h1 (br_t h2 (br_f h3 (br_f h4 ⟨rfl, I'⟩)))))))
  · exact br_f h1 (br_f h2 (br_f h1 (br_f h2 ⟨rfl, I'⟩)))
theorem i_vc_tick {k : Nat} {u : SX} {v : SY} (I : i_Rel k u v) (hk : k + 3 ≤ 1536) : wpX_tick (fun r u' => wpY_tick (fun r' v' => r' = r ∧ i_Rel (k + 3) u' v') v) u := by
  have I' := i_up I
  obtain ⟨n, t, g, d, p, G, A, D, J, rfl, rfl, hn, ht, hG, hD, hJ, hP⟩ := I
  have hd := hP.2.2.2.2.2
  cases n with
  | zero =>
    refine br_f (c := (0 : Int32) < nI 0) (by decide) ?_
    unfold wpY_tick
    refine dq_find hn (by omega) hD hd _ (-1) (fun _ => ?_) (fun q hq => absurd hq (by omega))
    exact br_f (by decide) ⟨rfl, I'⟩
  | succ N =>
    have hsA := dq_shA hJ hP
    have hsJ := dq_shJ hJ
    have hp0 : p 0 < N + 1 := hP.1 0 (by omega)
    have hA0 : A 0 = J (p 0) := hP.2.1 0 (by omega)
    have hg0 : g 0 = d (p 0) := by rw [← dq_S1 g]; exact hP.2.2.1 0 (by omega)
    have hgb : g 0 ≤ 1000 := by rw [hg0]; exact hd _ hp0
    have hG0 : G 0 = nI (g 0) := hG 0 (by omega)
    have eD : D (nI (p 0)).toNatClampNeg = lN (t + g 0) := by rw [nI_clamp (by omega), hD _ hp0, hg0]
    -- Y's search finds X's head
    have Y : ∀ post : Int32 → SY → Prop, ((0 ≤ nI (p 0) → (vp_in (nI (p 0)) 4 ∧ (((D (nI (p 0)).toNatClampNeg ≤ lN t → wY_tick_49 post (nI (p 0)) (nI (N + 1)) (lN t) D J) ∧ (¬ D (nI (p 0)).toNatClampNeg ≤ lN t → (∀ T : Int64, T = lN t + 1 → (vp_in (nI (p 0)) 4 ∧ ((D (nI (p 0)).toNatClampNeg ≤ (lN t + 1) → wY_tick_49 post (nI (p 0)) (nI (N + 1)) T D J) ∧ (¬ D (nI (p 0)).toNatClampNeg ≤ (lN t + 1) → post (-1) (nI (N + 1), T, D, J)))))))))) ∧ (¬ 0 ≤ nI (p 0) → post (-1) (nI (N + 1), lN t, D, J))) → wpY_tick post (nI (N + 1), lN t, D, J) := by
      intro post h
      unfold wpY_tick
      refine dq_find hn (by omega) hD hd _ (-1) (fun z => absurd (Or.inl (by decide)) (z 0 (by omega))) (fun q hq _ hq' => ?_)
      have e : q = p 0 := dq_min hP (fun _ => True) (by omega) hq trivial trivial (fun j hj => absurd hj (by omega)) (fun q' h' _ => hq' q' h' (Or.inl (by decide)))
      subst e
      exact h
    have hpos : (0 : Int32) < nI (N + 1) := nI_lt (a := 0) (by omega) (by omega)
    have hq0 : (0 : Int32) ≤ nI (p 0) := nI_pos' (by omega)
    refine br_t hpos ?_
    by_cases hz : g 0 = 0
    · -- the head was due already
      have hGz : G 0 = 0 := by rw [hG0, hz, nI_0]
      refine br_t (by rw [hGz]; decide) (dq_x32 (by omega) G A hsA hGz _ ?_)
      intro G' A' hG' hA'
      refine Y _ (br_t hq0 ⟨dq_in (by omega), ?_⟩)
      rw [eD, lN_le (by omega) (by omega)]
      refine br_t (by omega) (dq_y49 (by omega) _ D J hsJ (p 0) hp0 _ ?_)
      intro D' J' hD' hJ'
      refine ⟨hA0.symm, dq_pop hn (by omega) hD hJ hP (i := 0) (by omega) (fun j hj => ?_) hA' hD' hJ'⟩
      rw [hG' j hj, dq_upg (by omega), hG _ (by omega)]
      unfold dq_dg
      by_cases c : j = 0
      · subst c
        simp only [Nat.lt_irrefl, if_false, if_true]
        rw [hz]
        exact congrArg nI (Nat.zero_add _).symm
      · rw [if_neg (by omega), if_neg c]
    · have hP1 := (dq_age hP (by omega)).1
      have hdp := (dq_age hP (by omega)).2
      have hD1 : ∀ q, q < N + 1 → D q = lN (t + 1 + (fun q => d q - 1) q) := by
        intro q hq
        have a := hdp q hq
        have e : t + 1 + (d q - 1) = t + d q := by omega
        show D q = lN (t + 1 + (d q - 1))
        rw [e, hD q hq]
      have hGn : ¬ G 0 ≤ 0 := by rw [hG0]; exact nI_nle (by omega) (by omega)
      have eG : upd G 0 (G 0 - 1) = upd G 0 (nI (g 0 - 1)) := by
        rw [hG0]
        obtain ⟨c, hc⟩ : ∃ c, g 0 = c + 1 := ⟨g 0 - 1, by omega⟩
        rw [hc, nI_pred, Nat.add_sub_cancel]
      have hG1 : ∀ j, j < N + 1 → upd G 0 (nI (g 0 - 1)) j = nI (dq_tg g j) := by
        intro j hj
        by_cases c : j = 0
        · rw [c, pk_us]; exact congrArg nI (if_pos rfl).symm
        · rw [pk_un c, hG j hj]; exact congrArg nI (if_neg c).symm
      refine br_f hGn (nm_r eG ?_)
      by_cases h1 : g 0 = 1
      · refine dq_x32 (by omega) _ A hsA ?_ _ ?_
        · rw [pk_us, h1]; exact nI_0
        intro G' A' hG' hA'
        refine Y _ (br_t hq0 ⟨dq_in (by omega), ?_⟩)
        rw [eD, lN_le (by omega) (by omega)]
        refine br_f (by omega) (nm_r (lN_1 t) ⟨dq_in (by omega), ?_⟩)
        rw [lN_1, lN_le (by omega) (by omega)]
        refine br_t (by omega) (dq_y49 (by omega) _ D J hsJ (p 0) hp0 _ ?_)
        intro D' J' hD' hJ'
        refine ⟨hA0.symm, dq_pop hn (by omega) hD1 hJ hP1 (i := 0) (by omega) (fun j hj => ?_) hA' hD' hJ'⟩
        rw [hG' j hj, dq_upg (by omega), hG1 _ (by omega)]
        have t0 : dq_tg g 0 = 0 := (if_pos rfl).trans (by omega)
        unfold dq_dg
        by_cases c : j = 0
        · subst c
          simp only [Nat.lt_irrefl, if_false, if_true]
          rw [t0]
          exact congrArg nI (Nat.zero_add _).symm
        · rw [if_neg (by omega), if_neg c]
      · refine br_f ?_ ?_
        · rw [pk_us]; exact nI_ne0 (by omega) (by omega)
        refine Y _ (br_t hq0 ⟨dq_in (by omega), ?_⟩)
        rw [eD, lN_le (by omega) (by omega)]
        refine br_f (by omega) (nm_r (lN_1 t) ⟨dq_in (by omega), ?_⟩)
        rw [lN_1, lN_le (by omega) (by omega)]
        exact br_f (by omega) ⟨rfl, N + 1, t + 1, _, _, p, _, A, D, J, rfl, rfl, hn, by omega, hG1, hD1, hJ, hP1⟩
theorem dq_32767 : (32767 : Int32).toInt = ((32767 : Nat) : Int) := by decide
theorem i_vc_cancel {k : Nat} {u : SX} {v : SY} (I : i_Rel k u v) (hk : k + 3 ≤ 1536) (v1 : Int32) : wpX_cancel (fun r u' => wpY_cancel (fun r' v' => r' = r ∧ i_Rel (k + 3) u' v') v v1) u v1 := by
  have I' := i_up I
  obtain ⟨n, t, g, d, p, G, A, D, J, rfl, rfl, hn, ht, hG, hD, hJ, hP⟩ := I
  have hd := hP.2.2.2.2.2
  by_cases h1 : v1 < 0
  · exact br_t h1 (br_f (Int32.not_le.mpr h1) ⟨rfl, I'⟩)
  have h0 : 0 ≤ v1 := Int32.not_lt.mp h1
  by_cases h2 : v1 ≤ 32767
  · refine br_f h1 (br_t h2 ⟨n + 1, dq_x17 hn G A g hG _ v1 (fun hno => ?_) (fun i hi hAi hbe G' g1 g2 => ?_) n 0 (by omega) (fun j hj => absurd hj (by omega))⟩)
    · refine br_t h0 (dq_find hn (by omega) hD hd _ v1 (fun _ => ?_) (fun q hq hM _ => ?_))
      · exact br_f (by decide) ⟨rfl, I'⟩
      · obtain ⟨i, hi, rfl⟩ := hP.2.2.2.2.1 q hq
        rcases hM with z | z
        · exact absurd z h1
        · exact absurd ((hP.2.1 i hi).trans z) (hno i hi)
    · obtain ⟨N, rfl⟩ : ∃ N, n = N + 1 := ⟨n - 1, by omega⟩
      refine ⟨N - i + 1, dq_x80 (by omega) _ _ (N - i) i G' A (by omega) (dq_shA hJ hP) ?_⟩
      intro G2 A2 hG2 hA2
      have hpi : p i < N + 1 := hP.1 i hi
      have hAJ : A i = J (p i) := hP.2.1 i hi
      refine br_t h0 (dq_find hn (by omega) hD hd _ v1 (fun z => absurd (Or.inr (hAJ.symm.trans hAi)) (z (p i) hpi)) (fun q hq hM hq' => ?_))
      have e : q = p i := dq_min hP (fun z => v1 < 0 ∨ z = v1) hi hq (Or.inr hAi) hM (fun j hj z => z.elim h1 (hbe j hj)) hq'
      subst e
      have eD : (D (nI (p i)).toNatClampNeg - lN t).toInt32 = nI (dq_S g (i + 1)) := by
        rw [nI_clamp (by omega), hD _ hpi, lN_sub (by omega), lN_i, hP.2.2.1 i hi, Nat.add_sub_cancel_left]
      refine br_t (nI_pos' (by omega)) ⟨dq_in (by omega), nm_r eD (dq_yd (by omega) _ D J (dq_shJ hJ) (p i) hpi _ ?_)⟩
      intro D' J' hD' hJ'
      refine ⟨rfl, dq_pop hn (by omega) hD hJ hP hi (fun j hj => ?_) hA2 hD' hJ'⟩
      rw [hG2 j hj]
      by_cases c : j < i
      · rw [dq_upl c, g1 j (by omega) (by omega), hG j (by omega)]; exact congrArg nI (if_pos c).symm
      · by_cases c' : j = i
        · rw [c', dq_upg (Nat.le_refl _), g2 (by omega), hG _ (by omega), hG _ (by omega), nI_add, Nat.add_comm]
          exact congrArg nI ((if_neg (by omega)).trans (if_pos rfl)).symm
        · rw [dq_upg (by omega), g1 (j + 1) (by omega) (by omega), hG _ (by omega)]
          exact congrArg nI ((if_neg c).trans (if_neg c')).symm
  · refine br_f h1 (br_f h2 (br_t h0 (dq_find hn (by omega) hD hd _ v1 (fun _ => ?_) (fun q hq hM _ => ?_))))
    · exact br_f (by decide) ⟨rfl, I'⟩
    · rcases hM with z | z
      · exact absurd z h1
      · obtain ⟨m, hm, e⟩ := hJ q hq
        refine absurd ?_ h2
        rw [← z, e, Int32.le_iff_toInt_le, nI_toInt (by omega), dq_32767]
        omega
theorem i_vc_next {k : Nat} {u : SX} {v : SY} (I : i_Rel k u v) (hk : k + 3 ≤ 1536) : wpX_next (fun r => wpY_next (fun r' => r' = r ∧ i_Rel (k + 3) u v) v) u := by
  have I' := i_up I
  obtain ⟨n, t, g, d, p, G, A, D, J, rfl, rfl, hn, ht, hG, hD, hJ, hP⟩ := I
  have hd := hP.2.2.2.2.2
  cases n with
  | zero =>
    refine br_f (c := (0 : Int32) < nI 0) (by decide) ?_
    unfold wpY_next
    refine dq_find hn (by omega) hD hd _ (-1) (fun _ => ?_) (fun q hq => absurd hq (by omega))
    exact br_f (by decide) ⟨rfl, I'⟩
  | succ N =>
    have hp0 : p 0 < N + 1 := hP.1 0 (by omega)
    refine br_t (nI_lt (a := 0) (by omega) (by omega)) ?_
    unfold wpY_next
    refine dq_find hn (by omega) hD hd _ (-1) (fun z => absurd (Or.inl (by decide)) (z 0 (by omega))) (fun q hq _ hq' => ?_)
    have e : q = p 0 := dq_min hP (fun _ => True) (by omega) hq trivial trivial (fun j hj => absurd hj (by omega)) (fun q' h' _ => hq' q' h' (Or.inl (by decide)))
    subst e
    refine br_t (nI_pos' (by omega)) ⟨dq_in (by omega), ?_, I'⟩
    rw [nI_clamp (by omega), hD _ hp0, lN_sub (by omega), lN_i, hG 0 (by omega), ← hP.2.2.1 0 (by omega), dq_S1, Nat.add_sub_cancel_left]
end
