section
/-! numbers and stores: rows of kit/rows (pk_), then lists in arrays -/
theorem pk_us {f : Nat → Int32} {k : Nat} {x : Int32} : upd f k x k = x := if_pos rfl
theorem pk_un {f : Nat → Int32} {k j : Nat} {x : Int32} (h : j ≠ k) : upd f k x j = f j := if_neg h
theorem pk_sub {a b : Nat} (h : b ≤ a) : nI a - nI b = nI (a - b) := by
  obtain ⟨c, rfl⟩ : ∃ c, a = c + b := ⟨a - b, by omega⟩
  rw [← nI_add, Int32.add_sub_cancel, Nat.add_sub_cancel]
theorem pk_mul (a b : Nat) : nI a * nI b = nI (a * b) := (Int32.ofNat_mul a b).symm
theorem pk_sub_toInt {a b : Nat} (ha : a < 2 ^ 30) (hb : b < 2 ^ 30) : (nI a - nI b).toInt = (a : Int) - b := by
  rw [Int32.toInt_sub, nI_toInt (by omega), nI_toInt (by omega)]
  exact Int.bmod_eq_of_le (by omega) (by omega)
theorem pk_ix (x : Int32) {n : Nat} (hn : n < 2 ^ 31) : x < 0 ∨ nI n ≤ x ∨ ∃ j : Nat, j < n ∧ x = nI j := by
  by_cases h : x < 0
  · exact Or.inl h
  · obtain ⟨j, hj, rfl⟩ := nI_of h
    by_cases h2 : j < n
    · exact Or.inr (Or.inr ⟨j, h2, rfl⟩)
    · exact Or.inr (Or.inl (nI_le (by omega) hj))
theorem pk_le {x y : Int32} {A B : Prop} (a b : Nat) (f : a ≤ b → A) (g : b < a → B) (hx : x = nI a := by rfl) (hy : y = nI b := by rfl) (ha : a < 2 ^ 31 := by omega) (hb : b < 2 ^ 31 := by omega) : (x ≤ y → A) ∧ (¬ x ≤ y → B) := by
  subst hx hy
  rw [nI_leI ha hb]
  exact ⟨f, fun z => g (by omega)⟩
theorem pk_lt {x y : Int32} {A B : Prop} (a b : Nat) (f : a < b → A) (g : b ≤ a → B) (hx : x = nI a := by rfl) (hy : y = nI b := by rfl) (ha : a < 2 ^ 31 := by omega) (hb : b < 2 ^ 31 := by omega) : (x < y → A) ∧ (¬ x < y → B) := by
  subst hx hy
  rw [nI_ltI ha hb]
  exact ⟨f, fun z => g (by omega)⟩
theorem pk_eq {x y : Int32} {A B : Prop} (a b : Nat) (f : a = b → A) (g : a ≠ b → B) (hx : x = nI a := by rfl) (hy : y = nI b := by rfl) (ha : a < 2 ^ 31 := by omega) (hb : b < 2 ^ 31 := by omega) : (x = y → A) ∧ (¬ x = y → B) := by
  subst hx hy
  rw [nI_eq ha hb]
  exact ⟨f, g⟩
theorem pk_in {x : Int32} (n N : Nat) (h : n < N) (hx : x = nI n := by rfl) (hN : N < 2 ^ 31 := by omega) : vp_in x N := by
  subst hx
  exact vp_in_nI h hN
theorem pk_cl {x : Int32} (n : Nat) (hx : x = nI n := by rfl) (h : n < 2 ^ 31 := by omega) : x.toNatClampNeg = n := by
  subst hx
  exact nI_clamp h

theorem td_64 (d n : Nat) : nI d * 64 + nI n = nI (d * 64 + n) := by
  rw [show (64 : Int32) = nI 64 from rfl, pk_mul, nI_add]
theorem td_40 (d n : Nat) : nI d * 40 + nI n = nI (d * 40 + n) := by
  rw [show (40 : Int32) = nI 40 from rfl, pk_mul, nI_add]
theorem td_m64 (d : Nat) : nI d * 64 = nI (d * 64) := by
  rw [show (64 : Int32) = nI 64 from rfl, pk_mul]
theorem td_m40 (d : Nat) : nI d * 40 = nI (d * 40) := by
  rw [show (40 : Int32) = nI 40 from rfl, pk_mul]
theorem td_10 (n : Nat) : (10 : Int32) + nI n = nI (10 + n) := nI_add 10 n
theorem td_s10 {n : Nat} (h : 10 ≤ n) : nI n - 10 = nI (n - 10) := pk_sub (b := 10) h

/-- the list l lies in the array a from b on -/
def td_AL (a : Nat → Int32) : Nat → List Nat → Prop
  | _, [] => True
  | b, c :: l => a b = nI c ∧ td_AL a (b + 1) l
theorem td_AL_c {a : Nat → Int32} {b c : Nat} {l : List Nat} : td_AL a b (c :: l) ↔ a b = nI c ∧ td_AL a (b + 1) l := Iff.rfl
theorem td_AL_ap {a : Nat → Int32} {m : List Nat} : ∀ {l : List Nat} {b : Nat}, td_AL a b (l ++ m) ↔ td_AL a b l ∧ td_AL a (b + l.length) m := by
  intro l
  induction l with
  | nil => intro b; exact ⟨fun h => ⟨trivial, h⟩, fun h => h.2⟩
  | cons c l ih =>
    intro b
    rw [List.cons_append, td_AL_c, td_AL_c, ih, List.length_cons, and_assoc, show b + (l.length + 1) = b + 1 + l.length by omega]
theorem td_AL_sn {a : Nat → Int32} {l : List Nat} {b c : Nat} : td_AL a b (l ++ [c]) ↔ td_AL a b l ∧ a (b + l.length) = nI c := by
  rw [td_AL_ap]
  exact ⟨fun h => ⟨h.1, h.2.1⟩, fun h => ⟨h.1, h.2, trivial⟩⟩
theorem td_AL_fr {a a' : Nat → Int32} : ∀ {l : List Nat} {b : Nat}, (∀ j, b ≤ j → j < b + l.length → a' j = a j) → td_AL a b l → td_AL a' b l := by
  intro l
  induction l with
  | nil => intro b _ _; trivial
  | cons c l ih =>
    intro b h hl
    rw [List.length_cons] at h
    exact ⟨(h b (by omega) (by omega)).trans hl.1, ih (fun j h1 h2 => h j (by omega) (by omega)) hl.2⟩
theorem td_AL_get {a : Nat → Int32} : ∀ {l : List Nat} {b i : Nat}, td_AL a b l → i < l.length → a (b + i) = nI (l.getD i 0) := by
  intro l
  induction l with
  | nil => intro b i _ hi; exact absurd hi (Nat.not_lt_zero i)
  | cons c l ih =>
    intro b i h hi
    cases i with
    | zero => exact h.1
    | succ i =>
      rw [List.length_cons] at hi
      have := ih (i := i) h.2 (by omega)
      rw [show b + (i + 1) = b + 1 + i by omega, this]
      rfl
theorem td_AL_of {a : Nat → Int32} : ∀ {l : List Nat} {b : Nat}, (∀ i, i < l.length → a (b + i) = nI (l.getD i 0)) → td_AL a b l := by
  intro l
  induction l with
  | nil => intro b _; trivial
  | cons c l ih =>
    intro b h
    refine ⟨h 0 (by simp), ih fun i hi => ?_⟩
    have := h (i + 1) (by simp only [List.length_cons]; omega)
    rw [show b + 1 + i = b + (i + 1) by omega, this]
    rfl

/-- array a with i cells of b from s on written over its cells from t on -/
def td_cp (a b : Nat → Int32) (s t i : Nat) : Nat → Int32 := fun j => if t ≤ j ∧ j < t + i then b (s + (j - t)) else a j
theorem td_cp_0 {a b : Nat → Int32} {s t : Nat} : td_cp a b s t 0 = a := by
  funext j
  exact if_neg (by omega)
theorem td_cp_s {a b : Nat → Int32} {s t i : Nat} : upd (td_cp a b s t i) (t + i) (b (s + i)) = td_cp a b s t (i + 1) := by
  funext j
  by_cases e : j = t + i
  · subst e
    rw [pk_us]
    exact ((if_pos (by omega)).trans (congrArg b (by omega))).symm
  · rw [pk_un e]
    by_cases h : t ≤ j ∧ j < t + i
    · exact (if_pos h).trans (if_pos (by omega)).symm
    · exact (if_neg h).trans (if_neg (by omega)).symm
theorem td_cp_o {a b : Nat → Int32} {s t i j : Nat} (h : j < t ∨ t + i ≤ j) : td_cp a b s t i j = a j := if_neg (by omega)
theorem td_cp_i {a b : Nat → Int32} {s t i j : Nat} (h : j < i) : td_cp a b s t i (t + j) = b (s + j) := (if_pos (by omega)).trans (congrArg b (by omega))
theorem td_cp_AL {a b : Nat → Int32} {s t : Nat} {l : List Nat} (h : td_AL b s l) {i : Nat} (hi : l.length ≤ i) : td_AL (td_cp a b s t i) t l :=
  td_AL_of fun j hj => (td_cp_i (Nat.lt_of_lt_of_le hj hi)).trans (td_AL_get h hj)

/-- the numbers s, s + 1 .. (k of them) -/
def td_rg : Nat → Nat → List Nat
  | _, 0 => []
  | s, k + 1 => s :: td_rg (s + 1) k
theorem td_rg_l : ∀ {k s : Nat}, (td_rg s k).length = k := by
  intro k
  induction k with
  | zero => intro s; rfl
  | succ k ih => intro s; rw [td_rg, List.length_cons, ih]
theorem td_rg_ap : ∀ {a s b : Nat}, td_rg s (a + b) = td_rg s a ++ td_rg (s + a) b := by
  intro a
  induction a with
  | zero => intro s b; rw [Nat.zero_add, Nat.add_zero]; rfl
  | succ a ih =>
    intro s b
    rw [show a + 1 + b = (a + b) + 1 by omega, td_rg, ih, td_rg, List.cons_append, show s + 1 + a = s + (a + 1) by omega]
theorem td_rg_m : ∀ {k s x : Nat}, x ∈ td_rg s k ↔ s ≤ x ∧ x < s + k := by
  intro k
  induction k with
  | zero => intro s x; simp only [td_rg, List.not_mem_nil, false_iff]; omega
  | succ k ih => intro s x; simp only [td_rg, List.mem_cons, ih]; omega
theorem td_rg_g : ∀ {k s i : Nat}, i < k → (td_rg s k).getD i 0 = s + i := by
  intro k
  induction k with
  | zero => intro s i h; omega
  | succ k ih =>
    intro s i h
    cases i with
    | zero => rfl
    | succ i =>
      show (td_rg (s + 1) k).getD i 0 = s + (i + 1)
      rw [ih (by omega)]; omega
theorem td_snoc {α : Type} (l : List α) : l = [] ∨ ∃ m x, l = m ++ [x] := by
  induction l with
  | nil => exact Or.inl rfl
  | cons c l ih =>
    refine Or.inr ?_
    rcases ih with rfl | ⟨m, x, rfl⟩
    · exact ⟨[], c, rfl⟩
    · exact ⟨c :: m, x, rfl⟩
theorem td_gD_l {l m : List Nat} {i : Nat} (h : i < l.length) : (l ++ m).getD i 0 = l.getD i 0 := by
  rw [List.getD_eq_getElem?_getD, List.getD_eq_getElem?_getD, List.getElem?_append_left h]
theorem td_gD_r {l m : List Nat} {i : Nat} (h : l.length ≤ i) : (l ++ m).getD i 0 = m.getD (i - l.length) 0 := by
  rw [List.getD_eq_getElem?_getD, List.getD_eq_getElem?_getD, List.getElem?_append_right h]
theorem td_gD_m {l : List Nat} {i : Nat} (h : i < l.length) : l.getD i 0 ∈ l := by
  rw [List.getD_eq_getElem?_getD, List.getElem?_eq_getElem h]
  exact List.getElem_mem h
theorem td_gD_e {l m : List Nat} (hl : l.length = m.length) (h : ∀ i, i < l.length → l.getD i 0 = m.getD i 0) : l = m := by
  refine List.ext_getElem hl fun i h1 h2 => ?_
  have := h i h1
  rw [List.getD_eq_getElem?_getD, List.getD_eq_getElem?_getD, List.getElem?_eq_getElem h1, List.getElem?_eq_getElem h2] at this
  exact this
theorem td_gD_map {f : Nat → Nat} {l : List Nat} {i : Nat} (h : i < l.length) : (l.map f).getD i 0 = f (l.getD i 0) := by
  rw [List.getD_eq_getElem?_getD, List.getD_eq_getElem?_getD, List.getElem?_map, List.getElem?_eq_getElem h]
  rfl
end
section
/-! runs of a delta, pure: (kind, steps); kinds 1 keep, 2 drop, 3 (or any other) add -/
/-- k steps of a kind at the end of the runs, joined to the last if alike -/
def td_gr : List (Nat × Nat) → Nat → Nat → List (Nat × Nat)
  | [], c, k => [(c, k)]
  | [(x, n)], c, k => if x = c then [(x, n + k)] else [(x, n), (c, k)]
  | x :: y :: t, c, k => x :: td_gr (y :: t) c k
def td_g0 (R : List (Nat × Nat)) (c k : Nat) : List (Nat × Nat) := if k = 0 then R else td_gr R c k
/-- the last run's kind, p if there is none -/
def td_lk : Nat → List (Nat × Nat) → Nat
  | p, [] => p
  | _, x :: t => td_lk x.1 t
/-- alternating runs of at least one step, no new letters behind a drop; p: the kind ahead -/
def td_nm : Nat → List (Nat × Nat) → Prop
  | _, [] => True
  | p, x :: t => x.1 ≠ p ∧ ¬ (p = 2 ∧ x.1 = 3) ∧ 1 ≤ x.1 ∧ x.1 ≤ 3 ∧ 1 ≤ x.2 ∧ td_nm x.1 t
/-- old places used -/
def td_iR : List (Nat × Nat) → Nat
  | [] => 0
  | x :: t => (if x.1 = 1 then x.2 else if x.1 = 2 then x.2 else 0) + td_iR t
/-- new letters -/
def td_aR : List (Nat × Nat) → Nat
  | [] => 0
  | x :: t => (if x.1 = 1 then 0 else if x.1 = 2 then 0 else x.2) + td_aR t
/-- the out list of runs with the letters F from old place p on -/
def td_oR : List (Nat × Nat) → List Nat → Nat → List Nat
  | [], _, _ => []
  | x :: t, F, p => if x.1 = 1 then td_rg (10 + p) x.2 ++ td_oR t F (p + x.2) else if x.1 = 2 then td_oR t F (p + x.2) else F.take x.2 ++ td_oR t (F.drop x.2) p
theorem td_oR_1 {n p : Nat} {t : List (Nat × Nat)} {F : List Nat} : td_oR ((1, n) :: t) F p = td_rg (10 + p) n ++ td_oR t F (p + n) := rfl
theorem td_oR_2 {n p : Nat} {t : List (Nat × Nat)} {F : List Nat} : td_oR ((2, n) :: t) F p = td_oR t F (p + n) := rfl
theorem td_oR_3 {n p : Nat} {t : List (Nat × Nat)} {F : List Nat} : td_oR ((3, n) :: t) F p = F.take n ++ td_oR t (F.drop n) p := rfl
theorem td_gr_sn : ∀ (R : List (Nat × Nat)) (x n c k : Nat), td_gr (R ++ [(x, n)]) c k = if x = c then R ++ [(x, n + k)] else R ++ [(x, n), (c, k)] := by
  intro R
  induction R with
  | nil => intro x n c k; rfl
  | cons a R ih =>
    intro x n c k
    cases R with
    | nil =>
      show a :: td_gr [(x, n)] c k = _
      rw [td_gr]
      split <;> rfl
    | cons b R =>
      show a :: td_gr (b :: R ++ [(x, n)]) c k = _
      rw [ih]
      split <;> rfl
theorem td_lk_ap : ∀ (R T : List (Nat × Nat)) (p : Nat), td_lk p (R ++ T) = td_lk (td_lk p R) T := by
  intro R
  induction R with
  | nil => intro T p; rfl
  | cons a R ih => intro T p; exact ih T a.1
theorem td_lk_sn (R : List (Nat × Nat)) (x n p : Nat) : td_lk p (R ++ [(x, n)]) = x := td_lk_ap R [(x, n)] p
theorem td_nm_ap : ∀ (R T : List (Nat × Nat)) (p : Nat), td_nm p (R ++ T) ↔ td_nm p R ∧ td_nm (td_lk p R) T := by
  intro R
  induction R with
  | nil => intro T p; exact ⟨fun h => ⟨trivial, h⟩, fun h => h.2⟩
  | cons a R ih =>
    intro T p
    constructor
    · rintro ⟨h1, h2, h3, h4, h5, h6⟩
      have := (ih T a.1).mp h6
      exact ⟨⟨h1, h2, h3, h4, h5, this.1⟩, this.2⟩
    · rintro ⟨⟨h1, h2, h3, h4, h5, h6⟩, h7⟩
      exact ⟨h1, h2, h3, h4, h5, (ih T a.1).mpr ⟨h6, h7⟩⟩
theorem td_iR_ap : ∀ (R T : List (Nat × Nat)), td_iR (R ++ T) = td_iR R + td_iR T := by
  intro R T
  induction R with
  | nil => exact (Nat.zero_add _).symm
  | cons a R ih => rw [List.cons_append, td_iR, td_iR, ih, Nat.add_assoc]
theorem td_aR_ap : ∀ (R T : List (Nat × Nat)), td_aR (R ++ T) = td_aR R + td_aR T := by
  intro R T
  induction R with
  | nil => exact (Nat.zero_add _).symm
  | cons a R ih => rw [List.cons_append, td_aR, td_aR, ih, Nat.add_assoc]
theorem td_oR_ap (T : List (Nat × Nat)) (G : List Nat) : ∀ (R : List (Nat × Nat)) (F : List Nat) (p : Nat), td_aR R = F.length → td_oR (R ++ T) (F ++ G) p = td_oR R F p ++ td_oR T G (p + td_iR R) := by
  intro R
  induction R with
  | nil =>
    intro F p h
    have : F = [] := List.length_eq_zero_iff.mp h.symm
    subst this
    rfl
  | cons a R ih =>
    intro F p h
    obtain ⟨x, n⟩ := a
    rw [List.cons_append, td_oR, td_oR, td_iR]
    rw [td_aR] at h
    dsimp only at h ⊢
    by_cases h1 : x = 1
    · rw [if_pos h1] at h
      rw [if_pos h1, if_pos h1, if_pos h1, ih F (p + n) (by omega), List.append_assoc, Nat.add_assoc]
    · rw [if_neg h1] at h
      rw [if_neg h1, if_neg h1, if_neg h1]
      by_cases h2 : x = 2
      · rw [if_pos h2] at h
        rw [if_pos h2, if_pos h2, if_pos h2, ih F (p + n) (by omega), Nat.add_assoc]
      · rw [if_neg h2] at h
        rw [if_neg h2, if_neg h2, if_neg h2, List.take_append_of_le_length (by omega), List.drop_append_of_le_length (by omega), ih (F.drop n) p (by rw [List.length_drop]; omega), List.append_assoc, Nat.zero_add]
/-- one run lengthened is two runs of that kind -/
theorem td_oR_j {c n k p : Nat} {F G : List Nat} (h : td_aR [(c, n)] = F.length) : td_oR [(c, n + k)] (F ++ G) p = td_oR [(c, n)] F p ++ td_oR [(c, k)] G (p + td_iR [(c, n)]) := by
  rw [td_oR, td_oR, td_oR, td_iR]
  rw [td_aR] at h
  dsimp only [td_oR, td_iR, td_aR] at h ⊢
  by_cases h1 : c = 1
  · rw [if_pos h1, if_pos h1, if_pos h1, if_pos h1, List.append_nil, List.append_nil, List.append_nil, td_rg_ap, Nat.add_zero, Nat.add_assoc]
  · rw [if_neg h1] at h
    simp only [if_neg h1]
    by_cases h2 : c = 2
    · simp only [if_pos h2, List.append_nil]
    · rw [if_neg h2] at h
      simp only [if_neg h2, List.append_nil]
      have e : F.length = n := by omega
      subst e
      rw [List.take_length_add_append, List.take_length]
theorem td_gr_c (R : List (Nat × Nat)) (c k : Nat) : td_gr R c k = R ++ [(c, k)] ∨ ∃ T n, R = T ++ [(c, n)] ∧ td_gr R c k = T ++ [(c, n + k)] := by
  rcases td_snoc R with rfl | ⟨T, ⟨x, n⟩, rfl⟩
  · exact Or.inl rfl
  · by_cases e : x = c
    · subst e
      exact Or.inr ⟨T, n, rfl, by rw [td_gr_sn, if_pos rfl]⟩
    · refine Or.inl ?_
      rw [td_gr_sn, if_neg e, List.append_assoc]; rfl
theorem td_gr_ne {R : List (Nat × Nat)} {c k : Nat} (h : td_lk 0 R ≠ c) : td_gr R c k = R ++ [(c, k)] := by
  rcases td_gr_c R c k with e | ⟨T, n, rfl, _⟩
  · exact e
  · exact absurd (td_lk_sn T c n 0) h
theorem td_gr_eq {R : List (Nat × Nat)} {c n k : Nat} : td_gr (R ++ [(c, n)]) c k = R ++ [(c, n + k)] := by
  rw [td_gr_sn, if_pos rfl]
theorem td_lk_gr (R : List (Nat × Nat)) (c k p : Nat) : td_lk p (td_gr R c k) = c := by
  rcases td_gr_c R c k with e | ⟨T, n, rfl, e⟩
  · rw [e, td_lk_sn]
  · rw [e, td_lk_sn]
theorem td_iR_j {c n k : Nat} : td_iR [(c, n + k)] = td_iR [(c, n)] + td_iR [(c, k)] := by
  simp only [td_iR]
  split
  · omega
  · split <;> omega
theorem td_aR_j {c n k : Nat} : td_aR [(c, n + k)] = td_aR [(c, n)] + td_aR [(c, k)] := by
  simp only [td_aR]
  split
  · omega
  · split <;> omega
theorem td_iR_gr (R : List (Nat × Nat)) (c k : Nat) : td_iR (td_gr R c k) = td_iR R + td_iR [(c, k)] := by
  rcases td_gr_c R c k with e | ⟨T, n, rfl, e⟩
  · rw [e, td_iR_ap]
  · rw [e, td_iR_ap, td_iR_ap, td_iR_j, Nat.add_assoc]
theorem td_aR_gr (R : List (Nat × Nat)) (c k : Nat) : td_aR (td_gr R c k) = td_aR R + td_aR [(c, k)] := by
  rcases td_gr_c R c k with e | ⟨T, n, rfl, e⟩
  · rw [e, td_aR_ap]
  · rw [e, td_aR_ap, td_aR_ap, td_aR_j, Nat.add_assoc]
theorem td_oR_gr {R : List (Nat × Nat)} {F : List Nat} (c k : Nat) (G : List Nat) (p : Nat) (h : td_aR R = F.length) : td_oR (td_gr R c k) (F ++ G) p = td_oR R F p ++ td_oR [(c, k)] G (p + td_iR R) := by
  rcases td_gr_c R c k with e | ⟨T, n, rfl, e⟩
  · rw [e, td_oR_ap _ _ _ _ _ h]
  · rw [e]
    rw [td_aR_ap] at h
    have hl : td_aR T = (F.take (td_aR T)).length := by rw [List.length_take]; omega
    have hd : td_aR [(c, n)] = (F.drop (td_aR T)).length := by rw [List.length_drop]; omega
    have e1 : F = F.take (td_aR T) ++ F.drop (td_aR T) := (List.take_append_drop _ _).symm
    have A := td_oR_ap [(c, n + k)] (F.drop (td_aR T) ++ G) T (F.take (td_aR T)) p hl
    have B := td_oR_ap [(c, n)] (F.drop (td_aR T)) T (F.take (td_aR T)) p hl
    rw [← List.append_assoc, ← e1] at A
    rw [← e1] at B
    rw [A, B, td_oR_j hd, List.append_assoc, td_iR_ap, Nat.add_assoc]
theorem td_nm_gr {R : List (Nat × Nat)} {c k : Nat} (h : td_nm 0 R) (h1 : 1 ≤ c) (h3 : c ≤ 3) (hk : 1 ≤ k) (hd : ¬ (td_lk 0 R = 2 ∧ c = 3)) : td_nm 0 (td_gr R c k) := by
  by_cases e : td_lk 0 R = c
  · rcases td_gr_c R c k with e1 | ⟨T, n, rfl, e1⟩
    · exfalso
      rcases td_snoc R with rfl | ⟨T, ⟨x, n⟩, rfl⟩
      · rw [td_lk] at e; omega
      · rw [td_lk_sn] at e
        subst e
        rw [td_gr_eq] at e1
        have := congrArg List.length e1
        simp only [List.length_append, List.length_cons, List.length_nil] at this
        omega
    · rw [e1, td_nm_ap]
      rw [td_nm_ap] at h
      obtain ⟨a, b1, b2, b3, b4, b5, b6⟩ := h
      exact ⟨a, b1, b2, b3, b4, Nat.le_trans b5 (Nat.le_add_right _ _), trivial⟩
  · rw [td_gr_ne e, td_nm_ap]
    exact ⟨h, fun z => e z.symm, hd, h1, h3, hk, trivial⟩
theorem td_gr_gr (R : List (Nat × Nat)) (c a b : Nat) : td_gr (td_gr R c a) c b = td_gr R c (a + b) := by
  rcases td_snoc R with rfl | ⟨T, ⟨x, n⟩, rfl⟩
  · show td_gr [(c, a)] c b = [(c, a + b)]
    rw [td_gr, if_pos rfl]
  · by_cases e : x = c
    · subst e
      rw [td_gr_eq, td_gr_eq, td_gr_eq, Nat.add_assoc]
    · have hl : td_lk 0 (T ++ [(x, n)]) ≠ c := by rw [td_lk_sn]; exact e
      rw [td_gr_ne hl, td_gr_ne hl, td_gr_eq]
theorem td_gr_l (R : List (Nat × Nat)) (c k : Nat) : (td_gr R c k).length ≤ R.length + 1 ∧ R.length ≤ (td_gr R c k).length := by
  rcases td_gr_c R c k with e | ⟨T, n, rfl, e⟩
  · rw [e]; simp only [List.length_append, List.length_cons, List.length_nil]; omega
  · rw [e]; simp only [List.length_append, List.length_cons, List.length_nil]; omega

/-! the runs of an out list o with u old places used -/
def td_sf (s : List (Nat × Nat) × Nat) (c : Nat) : List (Nat × Nat) × Nat := if c < 10 then (td_gr s.1 3 1, s.2) else (td_gr (td_g0 s.1 2 (c - 10 - s.2)) 1 1, c - 10 + 1)
def td_co (o : List Nat) : List (Nat × Nat) × Nat := o.foldl td_sf ([], 0)
def td_rn (o : List Nat) (u : Nat) : List (Nat × Nat) := td_g0 (td_co o).1 2 (u - (td_co o).2)
/-- the new letters -/
def td_lt (o : List Nat) : List Nat := o.filter (fun c => decide (c < 10))
theorem td_lt_ap (o m : List Nat) : td_lt (o ++ m) = td_lt o ++ td_lt m := List.filter_append o m
theorem td_lt_10 {c : Nat} (h : c < 10) : td_lt [c] = [c] := by
  simp [td_lt, h]
theorem td_lt_ge {c : Nat} (h : 10 ≤ c) : td_lt [c] = [] := by
  simp [td_lt, h]
theorem td_lt_le (o : List Nat) : (td_lt o).length ≤ o.length := List.length_filter_le _ _
theorem td_lt_m {o : List Nat} {c : Nat} (h : c ∈ td_lt o) : c < 10 := by
  simp only [td_lt, List.mem_filter, decide_eq_true_eq] at h
  exact h.2
theorem td_lt_all : ∀ {G : List Nat}, (∀ c, c ∈ G → c < 10) → td_lt G = G := by
  intro G h
  exact List.filter_eq_self.mpr fun c hc => decide_eq_true (h c hc)
theorem td_lt_rg : ∀ {k s : Nat}, 10 ≤ s → td_lt (td_rg s k) = [] := by
  intro k s h
  refine List.filter_eq_nil_iff.mpr fun c hc => ?_
  have := td_rg_m.mp hc
  simp only [decide_eq_true_eq]
  omega
theorem td_co_sn (o : List Nat) (c : Nat) : td_co (o ++ [c]) = td_sf (td_co o) c := by
  simp only [td_co, List.foldl_append, List.foldl_cons, List.foldl_nil]
def td_OK (o : List Nat) (u : Nat) : Prop :=
  (td_co o).2 ≤ u ∧ td_lk 0 (td_co o).1 ≠ 2 ∧ td_nm 0 (td_co o).1 ∧ td_oR (td_co o).1 (td_lt o) 0 = o ∧ td_iR (td_co o).1 = (td_co o).2 ∧ td_aR (td_co o).1 = (td_lt o).length
theorem td_OK_0 : td_OK [] 0 := ⟨Nat.le_refl _, by decide, trivial, rfl, rfl, rfl⟩
theorem td_rn_0 : td_rn [] 0 = [] := rfl
theorem td_OK_D {o : List Nat} {u : Nat} (k : Nat) (h : td_OK o u) : td_OK o (u + k) := ⟨Nat.le_trans h.1 (Nat.le_add_right _ _), h.2⟩
theorem td_rn_D {o : List Nat} {u k : Nat} (h : td_OK o u) (hk : 1 ≤ k) : td_rn o (u + k) = td_gr (td_rn o u) 2 k := by
  have h1 := h.1
  unfold td_rn td_g0
  rw [if_neg (show ¬ u + k - (td_co o).2 = 0 by omega)]
  by_cases e : u - (td_co o).2 = 0
  · rw [if_pos e, show u + k - (td_co o).2 = k by omega]
  · rw [if_neg e, td_gr_gr, show u + k - (td_co o).2 = u - (td_co o).2 + k by omega]
theorem td_rn_nm {o : List Nat} {u : Nat} (h : td_OK o u) : td_nm 0 (td_rn o u) := by
  unfold td_rn td_g0
  by_cases e : u - (td_co o).2 = 0
  · rw [if_pos e]; exact h.2.2.1
  · rw [if_neg e]; exact td_nm_gr h.2.2.1 (by omega) (by omega) (by omega) (by omega)
theorem td_rn_oR {o : List Nat} {u : Nat} (h : td_OK o u) : td_oR (td_rn o u) (td_lt o) 0 = o := by
  unfold td_rn td_g0
  by_cases e : u - (td_co o).2 = 0
  · rw [if_pos e]; exact h.2.2.2.1
  · rw [if_neg e]
    have A := td_oR_gr 2 (u - (td_co o).2) [] 0 h.2.2.2.2.2
    rw [List.append_nil, h.2.2.2.1] at A
    rw [A]
    exact List.append_nil o
theorem td_rn_iR {o : List Nat} {u : Nat} (h : td_OK o u) : td_iR (td_rn o u) = u := by
  have h1 := h.1
  have h5 := h.2.2.2.2.1
  unfold td_rn td_g0
  by_cases e : u - (td_co o).2 = 0
  · rw [if_pos e]; omega
  · rw [if_neg e, td_iR_gr, h5]
    show (td_co o).2 + (u - (td_co o).2 + 0) = u
    omega
theorem td_rn_aR {o : List Nat} {u : Nat} (h : td_OK o u) : td_aR (td_rn o u) = (td_lt o).length := by
  have h6 := h.2.2.2.2.2
  unfold td_rn td_g0
  by_cases e : u - (td_co o).2 = 0
  · rw [if_pos e]; exact h6
  · rw [if_neg e, td_aR_gr, h6]; rfl
theorem td_co_K {o : List Nat} {u : Nat} : td_co (o ++ [10 + u]) = (td_gr (td_rn o u) 1 1, u + 1) := by
  rw [td_co_sn, td_sf, if_neg (by omega), show 10 + u - 10 = u by omega]
  rfl
theorem td_rn_K1 {o : List Nat} {u : Nat} : td_rn (o ++ [10 + u]) (u + 1) = td_gr (td_rn o u) 1 1 := by
  rw [td_rn, td_co_K]
  show td_g0 _ 2 (u + 1 - (u + 1)) = _
  rw [Nat.sub_self]
  rfl
theorem td_OK_K1 {o : List Nat} {u : Nat} (h : td_OK o u) : td_OK (o ++ [10 + u]) (u + 1) := by
  have hl : td_lt (o ++ [10 + u]) = td_lt o := by rw [td_lt_ap, td_lt_ge (by omega), List.append_nil]
  unfold td_OK
  rw [td_co_K, hl]
  dsimp only
  refine ⟨Nat.le_refl _, by rw [td_lk_gr]; omega, td_nm_gr (td_rn_nm h) (by omega) (by omega) (by omega) (by omega), ?_, ?_, ?_⟩
  · have A := td_oR_gr 1 1 [] 0 (td_rn_aR h)
    rw [List.append_nil, td_rn_oR h, td_rn_iR h, Nat.zero_add] at A
    exact A
  · rw [td_iR_gr, td_rn_iR h]; rfl
  · rw [td_aR_gr, td_rn_aR h]; rfl
theorem td_K (k : Nat) : ∀ {o : List Nat} {u : Nat}, td_OK o u → td_OK (o ++ td_rg (10 + u) (k + 1)) (u + (k + 1)) ∧ td_rn (o ++ td_rg (10 + u) (k + 1)) (u + (k + 1)) = td_gr (td_rn o u) 1 (k + 1) := by
  induction k with
  | zero => intro o u h; exact ⟨td_OK_K1 h, td_rn_K1⟩
  | succ k ih =>
    intro o u h
    obtain ⟨a, b⟩ := ih (td_OK_K1 h)
    have e : o ++ td_rg (10 + u) (k + 1 + 1) = (o ++ [10 + u]) ++ td_rg (10 + (u + 1)) (k + 1) := by
      rw [List.append_assoc]; rfl
    rw [e, show u + (k + 1 + 1) = u + 1 + (k + 1) by omega]
    refine ⟨a, ?_⟩
    rw [b, td_rn_K1, td_gr_gr, show 1 + (k + 1) = k + 1 + 1 by omega]
theorem td_co_A {o : List Nat} {c : Nat} (h : c < 10) : td_co (o ++ [c]) = (td_gr (td_co o).1 3 1, (td_co o).2) := by
  rw [td_co_sn, td_sf, if_pos h]
theorem td_OK_A {o : List Nat} {u c : Nat} (h : td_OK o u) (hc : c < 10) : td_OK (o ++ [c]) u := by
  have hl : td_lt (o ++ [c]) = td_lt o ++ [c] := by rw [td_lt_ap, td_lt_10 hc]
  obtain ⟨h1, h2, h3, h4, h5, h6⟩ := h
  unfold td_OK
  rw [td_co_A hc, hl]
  dsimp only
  refine ⟨h1, by rw [td_lk_gr]; omega, td_nm_gr h3 (by omega) (by omega) (by omega) (fun z => h2 z.1), ?_, ?_, ?_⟩
  · rw [td_oR_gr 3 1 [c] 0 h6, h4]; rfl
  · rw [td_iR_gr, h5]; rfl
  · rw [td_aR_gr, h6, List.length_append]; rfl
/-- what a new letter does: ahead of a drop that ends the runs -/
theorem td_rn_A0 {o : List Nat} {u c : Nat} (hc : c < 10) (e : td_lk 0 (td_rn o u) ≠ 2) : td_rn (o ++ [c]) u = td_gr (td_rn o u) 3 1 := by
  unfold td_rn td_g0 at *
  rw [td_co_A hc]
  dsimp only
  by_cases z : u - (td_co o).2 = 0
  · rw [if_pos z, if_pos z]
  · rw [if_neg z, td_lk_gr] at e
    exact absurd rfl e
theorem td_rn_A2 {o : List Nat} {u c : Nat} (h : td_OK o u) (hc : c < 10) (e : td_lk 0 (td_rn o u) = 2) : ∃ T n, 1 ≤ n ∧ td_rn o u = T ++ [(2, n)] ∧ td_rn (o ++ [c]) u = td_gr (td_gr T 3 1) 2 n := by
  have h2 := h.2.1
  unfold td_rn td_g0 at *
  rw [td_co_A hc]
  dsimp only
  by_cases z : u - (td_co o).2 = 0
  · rw [if_pos z] at e
    exact absurd e h2
  · rw [if_neg z, if_neg z, td_gr_ne h2]
    exact ⟨_, _, by omega, rfl, rfl⟩

/-! how many runs -/
theorem td_cnt : ∀ (R : List (Nat × Nat)) (p : Nat) (F : List Nat) (q : Nat), td_nm p R → td_aR R ≤ F.length → ∃ k d a K D A : Nat, R.length = k + d + a ∧ k ≤ K ∧ d ≤ D ∧ a ≤ A ∧ td_iR R = K + D ∧ td_aR R = A ∧ (td_oR R F q).length = K + A ∧ a ≤ k + 1 ∧ d ≤ k + 1 ∧ (p = 2 → a ≤ k ∧ d ≤ k) ∧ (p = 3 → a ≤ k) := by
  intro R
  induction R with
  | nil => intro p F q _ _; exact ⟨0, 0, 0, 0, 0, 0, rfl, by omega, by omega, by omega, rfl, rfl, rfl, by omega, by omega, by omega, by omega⟩
  | cons x R ih =>
    obtain ⟨c, n⟩ := x
    intro p F q h hF
    obtain ⟨h1, h2, h3, h4, h5, h6⟩ := h
    dsimp only at h1 h2 h3 h4 h5 h6
    rw [td_aR] at hF
    dsimp only at hF
    rw [List.length_cons, td_iR, td_aR, td_oR]
    dsimp only
    by_cases e1 : c = 1
    · subst e1
      rw [if_pos rfl] at hF
      obtain ⟨k, d, a, K, D, A, g⟩ := ih 1 F (q + n) h6 (by omega)
      rw [if_pos rfl, if_pos rfl, if_pos rfl, List.length_append, td_rg_l]
      exact ⟨k + 1, d, a, K + n, D, A, by omega, by omega, by omega, by omega, by omega, by omega, by omega, by omega, by omega, by omega, by omega⟩
    · rw [if_neg e1] at hF
      rw [if_neg e1, if_neg e1, if_neg e1]
      by_cases e2 : c = 2
      · subst e2
        rw [if_pos rfl] at hF
        obtain ⟨k, d, a, K, D, A, g⟩ := ih 2 F (q + n) h6 (by omega)
        rw [if_pos rfl, if_pos rfl, if_pos rfl]
        exact ⟨k, d + 1, a, K, D + n, A, by omega, by omega, by omega, by omega, by omega, by omega, by omega, by omega, by omega, by omega, by omega⟩
      · rw [if_neg e2] at hF
        have e3 : c = 3 := by omega
        subst e3
        obtain ⟨k, d, a, K, D, A, g⟩ := ih 3 (F.drop n) q h6 (by rw [List.length_drop]; omega)
        rw [if_neg e2, if_neg e2, if_neg e2, List.length_append, List.length_take]
        have hm : min n F.length = n := by omega
        exact ⟨k, d, a + 1, K, D, A + n, by omega, by omega, by omega, by omega, by omega, by omega, by omega, by omega, by omega, by omega, by omega⟩
theorem td_rn_l {o : List Nat} {u : Nat} (h : td_OK o u) : (td_rn o u).length ≤ u + (td_lt o).length := by
  obtain ⟨k, d, a, K, D, A, g⟩ := td_cnt (td_rn o u) 0 (td_lt o) 0 (td_rn_nm h) (Nat.le_of_eq (td_rn_aR h))
  have e1 := td_rn_iR h
  have e2 := td_rn_aR h
  omega
theorem td_rn_60 {o : List Nat} {u : Nat} (h : td_OK o u) (hu : u ≤ 40) (ho : o.length ≤ 40) : (td_rn o u).length ≤ 60 := by
  obtain ⟨k, d, a, K, D, A, g⟩ := td_cnt (td_rn o u) 0 (td_lt o) 0 (td_rn_nm h) (Nat.le_of_eq (td_rn_aR h))
  have e1 := td_rn_iR h
  have e2 := td_rn_aR h
  rw [td_rn_oR h] at g
  omega
end
section
/-! the component's tables, and what its own writers do to them -/
def td_TR (rc kd st : Nat → Int32) (d : Nat) (R : List (Nat × Nat)) : Prop :=
  rc d = nI R.length ∧ td_AL kd (d * 64) (R.map Prod.fst) ∧ td_AL st (d * 64) (R.map Prod.snd)
/-- delta d has m old places, out list o with u old places used -/
def td_TB (il ol rc fc kd st fr : Nat → Int32) (d m : Nat) (o : List Nat) (u : Nat) : Prop :=
  il d = nI m ∧ ol d = nI o.length ∧ fc d = nI (td_lt o).length ∧ td_AL fr (d * 40) (td_lt o) ∧ td_OK o u ∧ td_TR rc kd st d (td_rn o u)
/-- below delta d the arrays are as they were -/
def td_BS (il0 ol0 rc0 fc0 kd0 st0 fr0 il ol rc fc kd st fr : Nat → Int32) (d m : Nat) (o : List Nat) (u : Nat) : Prop :=
  (∀ e, e < d → il e = il0 e ∧ ol e = ol0 e ∧ rc e = rc0 e ∧ fc e = fc0 e) ∧ (∀ j, j < d * 64 → kd j = kd0 j ∧ st j = st0 j) ∧ (∀ j, j < d * 40 → fr j = fr0 j) ∧ td_TB il ol rc fc kd st fr d m o u
section XPUT
variable {xu xl aD aR aL aF bD bR bL bF : Int32} {il ol rc fc kd st fr tx nx : Nat → Int32} {il0 ol0 rc0 fc0 kd0 st0 fr0 : Nat → Int32}
theorem xl_last {post : Int32 → Prop} {d : Nat} {R : List (Nat × Nat)} (hd : d < 6) (hr : rc d = nI R.length) (hk : td_AL kd (d * 64) (R.map Prod.fst)) (hl : d * 64 + R.length ≤ 448) (h : post (nI (td_lk 0 R))) : wpX_lastKind post (xu, xl, aD, aR, aL, aF, bD, bR, bL, bF, il, ol, rc, fc, kd, st, fr, tx, nx) (nI d) := by
  have c : (nI d).toNatClampNeg = d := nI_clamp (by omega)
  have v : vp_in (nI d) 6 := vp_in_nI hd (by omega)
  unfold wpX_lastKind
  dsimp only
  rw [c, hr]
  rcases td_snoc R with rfl | ⟨T, ⟨x, n⟩, rfl⟩
  · exact ⟨v, br_t rfl h⟩
  · have e0 : (T ++ [(x, n)]).length = T.length + 1 := by simp only [List.length_append, List.length_cons, List.length_nil]
    rw [e0] at hl
    have e : nI d * 64 + nI (T.length + 1) - 1 = nI (d * 64 + T.length) := by
      rw [td_64, ← Nat.add_assoc, nI_pred]
    simp only [List.map_append, List.map_cons, List.map_nil] at hk
    have hx := (td_AL_sn.mp hk).2
    rw [List.length_map] at hx
    rw [e0, e, nI_clamp (show d * 64 + T.length < 2 ^ 31 by omega), hx]
    rw [td_lk_sn] at h
    exact ⟨v, br_f (nI_ne0 (by omega) (by omega)) ⟨v, vp_in_nI (by omega) (by omega), h⟩⟩
theorem xg_61 {post : SX → Prop} {d : Nat} {T : List (Nat × Nat)} {x n k : Nat} (hd : d < 6) (hT : td_TR rc kd st d (T ++ [(x, n)])) (hl : d * 64 + T.length < 448) (K : ∀ st' : Nat → Int32, td_TR rc kd st' d (T ++ [(x, n + k)]) → (∀ j, j < d * 64 → st' j = st j) → post (xu, xl, aD, aR, aL, aF, bD, bR, bL, bF, il, ol, rc, fc, kd, st', fr, tx, nx)) : wX_grow_61 post (nI d) (nI k) xu xl aD aR aL aF bD bR bL bF il ol rc fc kd st fr tx nx := by
  obtain ⟨h1, h2, h3⟩ := hT
  have c : (nI d).toNatClampNeg = d := nI_clamp (by omega)
  have v : vp_in (nI d) 6 := vp_in_nI hd (by omega)
  have e0 : (T ++ [(x, n)]).length = T.length + 1 := by simp only [List.length_append, List.length_cons, List.length_nil]
  have e2 : (T ++ [(x, n + k)]).length = T.length + 1 := by simp only [List.length_append, List.length_cons, List.length_nil]
  have e : nI d * 64 + rc d - 1 = nI (d * 64 + T.length) := by rw [h1, e0, td_64, ← Nat.add_assoc, nI_pred]
  have c2 : (nI (d * 64 + T.length)).toNatClampNeg = d * 64 + T.length := nI_clamp (by omega)
  have w : vp_in (nI (d * 64 + T.length)) 448 := vp_in_nI hl (by omega)
  simp only [List.map_append, List.map_cons, List.map_nil] at h2 h3
  have hs := td_AL_sn.mp h3
  rw [List.length_map] at hs
  unfold wX_grow_61
  rw [c, e]
  refine ⟨v, fun y ey => ?_⟩
  subst ey
  rw [c2, hs.2, nI_add]
  refine ⟨w, w, fun s es => ?_⟩
  subst es
  refine K _ ⟨?_, ?_, ?_⟩ fun j hj => pk_un (by omega)
  · rw [h1, e0, e2]
  · simp only [List.map_append, List.map_cons, List.map_nil]; exact h2
  · simp only [List.map_append, List.map_cons, List.map_nil]
    refine td_AL_sn.mpr ⟨td_AL_fr (fun j _ h => pk_un ?_) hs.1, ?_⟩
    · rw [List.length_map] at h; omega
    · rw [List.length_map]; exact pk_us
theorem td_nm_lk : ∀ {R : List (Nat × Nat)} {p : Nat}, td_nm p R → p ≤ 3 → td_lk p R ≤ 3 := by
  intro R
  induction R with
  | nil => intro p _ h; exact h
  | cons x R ih => intro p h _; exact ih h.2.2.2.2.2 h.2.2.2.1
theorem xg_grow {post : SX → Prop} {d : Nat} {R : List (Nat × Nat)} {x k : Nat} (hd : d < 6) (hx : 1 ≤ x) (hx3 : x ≤ 3) (hq : td_lk 0 R ≤ 3) (hT : td_TR rc kd st d R) (hl : d * 64 + R.length < 448) (K : ∀ rc' kd' st' : Nat → Int32, td_TR rc' kd' st' d (td_gr R x k) → (∀ e, e ≠ d → rc' e = rc e) → (∀ j, j < d * 64 → kd' j = kd j ∧ st' j = st j) → post (xu, xl, aD, aR, aL, aF, bD, bR, bL, bF, il, ol, rc', fc, kd', st', fr, tx, nx)) : wpX_grow post (xu, xl, aD, aR, aL, aF, bD, bR, bL, bF, il, ol, rc, fc, kd, st, fr, tx, nx) (nI d) (nI x) (nI k) := by
  have c : (nI d).toNatClampNeg = d := nI_clamp (by omega)
  have v : vp_in (nI d) 6 := vp_in_nI hd (by omega)
  unfold wpX_grow
  dsimp only
  refine xl_last hd hT.1 hT.2.1 (by omega) ?_
  by_cases e : td_lk 0 R = x
  · rcases td_snoc R with rfl | ⟨T, ⟨y, n⟩, rfl⟩
    · rw [td_lk] at e; omega
    · rw [td_lk_sn] at e
      subst e
      have e0 : (T ++ [(y, n)]).length = T.length + 1 := by simp only [List.length_append, List.length_cons, List.length_nil]
      refine br_t (congrArg nI (td_lk_sn T y n 0)) (xg_61 hd hT (by omega) fun st' h1 h2 => K rc kd st' ?_ (fun _ _ => rfl) (fun j hj => ⟨rfl, h2 j hj⟩))
      rw [td_gr_eq]; exact h1
  · refine br_f (fun z => e ((nI_eq (by omega) (by omega)).mp z)) ?_
    have e1 : nI d * 64 + rc d = nI (d * 64 + R.length) := by rw [hT.1, td_64]
    have c2 : (nI (d * 64 + R.length)).toNatClampNeg = d * 64 + R.length := nI_clamp (by omega)
    have w : vp_in (nI (d * 64 + R.length)) 448 := vp_in_nI hl (by omega)
    rw [c, e1, c2]
    refine ⟨v, w, fun kd' ek => ⟨v, w, fun st' es => ⟨v, v, fun rc' er => ?_⟩⟩⟩
    subst ek es er
    refine xg_61 (T := R) (x := x) (n := 0) hd ⟨?_, ?_, ?_⟩ hl fun st2 g1 g2 => K _ _ _ ?_ (fun e' he => pk_un he) (fun j hj => ⟨pk_un (by omega), (g2 j hj).trans (pk_un (by omega))⟩)
    · rw [pk_us, hT.1, nI_1, List.length_append]; rfl
    · simp only [List.map_append, List.map_cons, List.map_nil]
      refine td_AL_sn.mpr ⟨td_AL_fr (fun j _ h => pk_un ?_) hT.2.1, ?_⟩
      · rw [List.length_map] at h; omega
      · rw [List.length_map]; exact pk_us
    · simp only [List.map_append, List.map_cons, List.map_nil]
      refine td_AL_sn.mpr ⟨td_AL_fr (fun j _ h => pk_un ?_) hT.2.2, ?_⟩
      · rw [List.length_map] at h; omega
      · rw [List.length_map]; exact pk_us
    · rw [td_gr_ne e]; rw [Nat.zero_add] at g1; exact g1
theorem xp_keep {post : SX → Prop} {d m u k : Nat} {o : List Nat} (hd : d < 6) (hB : td_BS il0 ol0 rc0 fc0 kd0 st0 fr0 il ol rc fc kd st fr d m o u) (hu : d * 64 + (u + (td_lt o).length) < 448) (hk : k < 2 ^ 31)
    (K : ∀ ol' rc' kd' st' : Nat → Int32, td_BS il0 ol0 rc0 fc0 kd0 st0 fr0 il ol' rc' fc kd' st' fr d m (o ++ td_rg (10 + u) k) (u + k) → post (xu, xl, aD, aR, aL, aF, bD, bR, bL, bF, il, ol', rc', fc, kd', st', fr, tx, nx)) : wpX_putKeep post (xu, xl, aD, aR, aL, aF, bD, bR, bL, bF, il, ol, rc, fc, kd, st, fr, tx, nx) (nI d) (nI k) := by
  cases k with
  | zero =>
    refine br_t (nI_le (a := 0) (b := 0) (by omega) (by omega)) (K ol rc kd st ?_)
    rw [td_rg, List.append_nil]; exact hB
  | succ k =>
    have c : (nI d).toNatClampNeg = d := nI_clamp (by omega)
    have v : vp_in (nI d) 6 := vp_in_nI hd (by omega)
    obtain ⟨b1, b2, b3, t1, t2, t3, t4, t5, t6⟩ := hB
    have hr := td_rn_l t5
    obtain ⟨q1, q2⟩ := td_K k t5
    have ql : td_lt (o ++ td_rg (10 + u) (k + 1)) = td_lt o := by rw [td_lt_ap, td_lt_rg (by omega), List.append_nil]
    refine br_f (nI_nle (by omega) (by omega)) (xg_grow (x := 1) hd (by omega) (by omega) (td_nm_lk (td_rn_nm t5) (by omega)) t6 (by omega) fun rc' kd' st' g1 g2 g3 => ?_)
    rw [← q2] at g1
    show vp_in (nI d) 6 ∧ (vp_in (nI d) 6 ∧ ∀ ol' : Nat → Int32, ol' = upd ol (nI d).toNatClampNeg (ol (nI d).toNatClampNeg + nI (k + 1)) → _)
    rw [c, t2, nI_add]
    refine ⟨v, v, fun ol' eo => ?_⟩
    subst eo
    refine K _ _ _ _ ⟨fun e he => ?_, fun j hj => ?_, b3, t1, ?_, ?_, ?_, q1, g1⟩
    · obtain ⟨a1, a2, a3, a4⟩ := b1 e he
      exact ⟨a1, (pk_un (by omega)).trans a2, (g2 e (by omega)).trans a3, a4⟩
    · exact ⟨(g3 j hj).1.trans (b2 j hj).1, (g3 j hj).2.trans (b2 j hj).2⟩
    · rw [pk_us, List.length_append, td_rg_l]
    · rw [ql]; exact t3
    · rw [ql]; exact t4
theorem xp_drop {post : SX → Prop} {d m u k : Nat} {o : List Nat} (hd : d < 6) (hB : td_BS il0 ol0 rc0 fc0 kd0 st0 fr0 il ol rc fc kd st fr d m o u) (hu : d * 64 + (u + (td_lt o).length) < 448) (hk : k < 2 ^ 31)
    (K : ∀ rc' kd' st' : Nat → Int32, td_BS il0 ol0 rc0 fc0 kd0 st0 fr0 il ol rc' fc kd' st' fr d m o (u + k) → post (xu, xl, aD, aR, aL, aF, bD, bR, bL, bF, il, ol, rc', fc, kd', st', fr, tx, nx)) : wpX_putDrop post (xu, xl, aD, aR, aL, aF, bD, bR, bL, bF, il, ol, rc, fc, kd, st, fr, tx, nx) (nI d) (nI k) := by
  cases k with
  | zero => exact br_t (nI_le (a := 0) (b := 0) (by omega) (by omega)) (K rc kd st hB)
  | succ k =>
    obtain ⟨b1, b2, b3, t1, t2, t3, t4, t5, t6⟩ := hB
    have hr := td_rn_l t5
    refine br_f (nI_nle (by omega) (by omega)) (xg_grow (x := 2) hd (by omega) (by omega) (td_nm_lk (td_rn_nm t5) (by omega)) t6 (by omega) fun rc' kd' st' g1 g2 g3 => ?_)
    rw [← td_rn_D t5 (by omega)] at g1
    refine K _ _ _ ⟨fun e he => ?_, fun j hj => ?_, b3, t1, t2, t3, t4, td_OK_D _ t5, g1⟩
    · obtain ⟨a1, a2, a3, a4⟩ := b1 e he
      exact ⟨a1, a2, (g2 e (by omega)).trans a3, a4⟩
    · exact ⟨(g3 j hj).1.trans (b2 j hj).1, (g3 j hj).2.trans (b2 j hj).2⟩
theorem xa_74 {post : SX → Prop} {d n l c : Nat} (hd : d < 6) (hf : fc d = nI n) (ho : ol d = nI l) (hn : d * 40 + n < 240) (h : post (xu, xl, aD, aR, aL, aF, bD, bR, bL, bF, il, upd ol d (nI (l + 1)), rc, upd fc d (nI (n + 1)), kd, st, upd fr (d * 40 + n) (nI c), tx, nx)) : wX_putAdd_74 post (nI d) (nI c) xu xl aD aR aL aF bD bR bL bF il ol rc fc kd st fr tx nx := by
  have e : (nI d).toNatClampNeg = d := nI_clamp (by omega)
  have v : vp_in (nI d) 6 := vp_in_nI hd (by omega)
  have c2 : (nI (d * 40 + n)).toNatClampNeg = d * 40 + n := nI_clamp (by omega)
  have w : vp_in (nI (d * 40 + n)) 240 := vp_in_nI hn (by omega)
  unfold wX_putAdd_74
  rw [e, hf, ho, td_40, c2, nI_1 n, nI_1 l]
  refine ⟨v, w, fun f ef => ⟨v, v, fun g eg => ⟨v, v, fun q eq => ?_⟩⟩⟩
  subst ef eg eq
  exact h
theorem td_BS_A {d m u c : Nat} {o : List Nat} {rc' kd' st' : Nat → Int32} (hB : td_BS il0 ol0 rc0 fc0 kd0 st0 fr0 il ol rc fc kd st fr d m o u) (hc : c < 10) (g1 : td_TR rc' kd' st' d (td_rn (o ++ [c]) u)) (g2 : ∀ e, e ≠ d → rc' e = rc e) (g3 : ∀ j, j < d * 64 → kd' j = kd j ∧ st' j = st j) :
    td_BS il0 ol0 rc0 fc0 kd0 st0 fr0 il (upd ol d (nI (o.length + 1))) rc' (upd fc d (nI ((td_lt o).length + 1))) kd' st' (upd fr (d * 40 + (td_lt o).length) (nI c)) d m (o ++ [c]) u := by
  obtain ⟨b1, b2, b3, t1, t2, t3, t4, t5, t6⟩ := hB
  have ql : td_lt (o ++ [c]) = td_lt o ++ [c] := by rw [td_lt_ap, td_lt_10 hc]
  refine ⟨fun e he => ?_, fun j hj => ?_, fun j hj => ?_, t1, ?_, ?_, ?_, td_OK_A t5 hc, g1⟩
  · obtain ⟨a1, a2, a3, a4⟩ := b1 e he
    exact ⟨a1, (pk_un (by omega)).trans a2, (g2 e (by omega)).trans a3, (pk_un (by omega)).trans a4⟩
  · exact ⟨(g3 j hj).1.trans (b2 j hj).1, (g3 j hj).2.trans (b2 j hj).2⟩
  · exact (pk_un (by omega)).trans (b3 j hj)
  · rw [pk_us, List.length_append]; rfl
  · rw [ql, pk_us, List.length_append]; rfl
  · rw [ql]
    exact td_AL_sn.mpr ⟨td_AL_fr (fun j _ h => pk_un (by omega)) t4, pk_us⟩
theorem xp_add {post : SX → Prop} {d m u c : Nat} {o : List Nat} (hd : d < 6) (hc : c < 10) (hB : td_BS il0 ol0 rc0 fc0 kd0 st0 fr0 il ol rc fc kd st fr d m o u) (hu : d * 64 + (u + (td_lt o).length) < 448) (hf : (td_lt o).length < 40)
    (K : ∀ ol' rc' fc' kd' st' fr' : Nat → Int32, td_BS il0 ol0 rc0 fc0 kd0 st0 fr0 il ol' rc' fc' kd' st' fr' d m (o ++ [c]) u → post (xu, xl, aD, aR, aL, aF, bD, bR, bL, bF, il, ol', rc', fc', kd', st', fr', tx, nx)) : wpX_putAdd post (xu, xl, aD, aR, aL, aF, bD, bR, bL, bF, il, ol, rc, fc, kd, st, fr, tx, nx) (nI d) (nI c) := by
  have ec : (nI d).toNatClampNeg = d := nI_clamp (by omega)
  have v : vp_in (nI d) 6 := vp_in_nI hd (by omega)
  have hB' := hB
  obtain ⟨b1, b2, b3, t1, t2, t3, t4, t5, t6⟩ := hB
  have hr := td_rn_l t5
  have hlk := td_nm_lk (td_rn_nm t5) (by omega)
  unfold wpX_putAdd
  dsimp only
  refine xl_last hd t6.1 t6.2.1 (by omega) ?_
  by_cases e : td_lk 0 (td_rn o u) = 2
  · obtain ⟨T, n, hn, eR, eN⟩ := td_rn_A2 t5 hc e
    have hnm := td_rn_nm t5
    rw [eR] at t6 hr hnm
    have e0 : (T ++ [(2, n)]).length = T.length + 1 := by simp only [List.length_append, List.length_cons, List.length_nil]
    rw [e0] at hr
    have hT3 : td_lk 0 T ≤ 3 := td_nm_lk ((td_nm_ap T _ 0).mp hnm).1 (by omega)
    obtain ⟨g1, g2, g3⟩ := t6
    simp only [List.map_append, List.map_cons, List.map_nil] at g2 g3
    have s2 := td_AL_sn.mp g2
    have s3 := td_AL_sn.mp g3
    rw [List.length_map] at s2 s3
    have e1 : nI d * 64 + rc d - 1 = nI (d * 64 + T.length) := by rw [g1, e0, td_64, ← Nat.add_assoc, nI_pred]
    have c2 : (nI (d * 64 + T.length)).toNatClampNeg = d * 64 + T.length := nI_clamp (by omega)
    have w : vp_in (nI (d * 64 + T.length)) 448 := vp_in_nI (by omega) (by omega)
    have e2 : rc d - 1 = nI T.length := by rw [g1, e0, nI_pred]
    refine br_t (congrArg nI e) ?_
    rw [ec, e1, e2]
    refine ⟨v, fun y ey => ?_⟩
    subst ey
    rw [c2, s3.2]
    refine ⟨w, fun z ez => ⟨v, v, fun rc' er => ?_⟩⟩
    subst ez er
    refine xg_grow (R := T) (x := 3) (k := 1) hd (by omega) (by omega) hT3 ⟨pk_us, s2.1, s3.1⟩ (by omega) fun rc1 kd1 st1 p1 p2 p3 => ?_
    have hg := td_gr_l T 3 1
    refine xg_grow (R := td_gr T 3 1) (x := 2) (k := n) hd (by omega) (by omega) (by rw [td_lk_gr]; omega) p1 (by omega) fun rc2 kd2 st2 r1 r2 r3 => ?_
    rw [← eN] at r1
    exact xa_74 hd t3 t2 (by omega) (K _ _ _ _ _ _ (td_BS_A hB' hc r1 (fun e' he => (r2 e' he).trans ((p2 e' he).trans (pk_un he))) (fun j hj => ⟨(r3 j hj).1.trans (p3 j hj).1, (r3 j hj).2.trans (p3 j hj).2⟩)))
  · refine br_f (fun z => e ((nI_eq (b := 2) (by omega) (by omega)).mp z)) ?_
    refine xg_grow (x := 3) (k := 1) hd (by omega) (by omega) hlk t6 (by omega) fun rc1 kd1 st1 p1 p2 p3 => ?_
    rw [← td_rn_A0 hc e] at p1
    exact xa_74 hd t3 t2 (by omega) (K _ _ _ _ _ _ (td_BS_A hB' hc p1 p2 p3))
theorem xw_wipe {post : SX → Prop} {d m : Nat} (hd : d < 6) (K : ∀ il' ol' rc' fc' : Nat → Int32, td_BS il ol rc fc kd st fr il' ol' rc' fc' kd st fr d m [] 0 → post (xu, xl, aD, aR, aL, aF, bD, bR, bL, bF, il', ol', rc', fc', kd, st, fr, tx, nx)) : wpX_wipe post (xu, xl, aD, aR, aL, aF, bD, bR, bL, bF, il, ol, rc, fc, kd, st, fr, tx, nx) (nI d) (nI m) := by
  have c : (nI d).toNatClampNeg = d := nI_clamp (by omega)
  have v : vp_in (nI d) 6 := vp_in_nI hd (by omega)
  unfold wpX_wipe
  dsimp only
  rw [c]
  refine ⟨v, fun a1 e1 => ⟨v, fun a2 e2 => ⟨v, fun a3 e3 => ⟨v, fun a4 e4 => ?_⟩⟩⟩⟩
  subst e1 e2 e3 e4
  exact K _ _ _ _ ⟨fun e he => ⟨pk_un (by omega), pk_un (by omega), pk_un (by omega), pk_un (by omega)⟩, fun _ _ => ⟨rfl, rfl⟩, fun _ _ => rfl, pk_us, pk_us, pk_us, trivial, td_OK_0, pk_us, trivial, trivial⟩
theorem xc_112 {post : SX → Prop} {f t n : Nat} (hf : f < 6) (ht : t < 6) (hft : f ≠ t) (hn : n ≤ 40) (hfc : fc f = nI n) (K : post (xu, xl, aD, aR, aL, aF, bD, bR, bL, bF, il, ol, rc, fc, kd, st, td_cp fr fr (f * 40) (t * 40) n, tx, nx)) : ∀ N i : Nat, n < N + i → i ≤ n → wX_copy_112 post (nI f) (nI t) xu xl aD aR aL aF bD bR bL bF N (nI i) il ol rc fc kd st (td_cp fr fr (f * 40) (t * 40) i) tx nx := by
  have c : (nI f).toNatClampNeg = f := nI_clamp (by omega)
  have v : vp_in (nI f) 6 := vp_in_nI hf (by omega)
  intro N
  induction N with
  | zero => intro i h1 h2; omega
  | succ N ih =>
    intro i h1 h2
    rw [wX_copy_112]
    dsimp only
    rw [c, hfc]
    refine ⟨v, pk_le n i (fun h => ?_) (fun h => ?_)⟩
    · have e : i = n := by omega
      subst e
      exact K
    · have c1 : (nI (f * 40 + i)).toNatClampNeg = f * 40 + i := nI_clamp (by omega)
      have c2 : (nI (t * 40 + i)).toNatClampNeg = t * 40 + i := nI_clamp (by omega)
      have hr : td_cp fr fr (f * 40) (t * 40) i (f * 40 + i) = fr (f * 40 + i) := td_cp_o (by omega)
      rw [td_40, td_40, c1, c2, hr, td_cp_s]
      refine ⟨vp_in_nI (by omega) (by omega), vp_in_nI (by omega) (by omega), fun a ea => fun y ey => ?_⟩
      subst ea ey
      rw [nI_1]
      exact ih (i + 1) (by omega) (by omega)
theorem xc_50 {post : SX → Prop} {f t n m : Nat} (hf : f < 6) (ht : t < 6) (hft : f ≠ t) (hn : n ≤ 64) (hm : m ≤ 40) (hrc : rc f = nI n) (hfc : fc f = nI m) (K : post (xu, xl, aD, aR, aL, aF, bD, bR, bL, bF, il, ol, rc, fc, td_cp kd kd (f * 64) (t * 64) n, td_cp st st (f * 64) (t * 64) n, td_cp fr fr (f * 40) (t * 40) m, tx, nx)) : ∀ N i : Nat, n < N + i → i ≤ n → wX_copy_50 post (nI f) (nI t) xu xl aD aR aL aF bD bR bL bF N (nI i) il ol rc fc (td_cp kd kd (f * 64) (t * 64) i) (td_cp st st (f * 64) (t * 64) i) fr tx nx := by
  have c : (nI f).toNatClampNeg = f := nI_clamp (by omega)
  have v : vp_in (nI f) 6 := vp_in_nI hf (by omega)
  intro N
  induction N with
  | zero => intro i h1 h2; omega
  | succ N ih =>
    intro i h1 h2
    rw [wX_copy_50]
    dsimp only
    rw [c, hrc]
    refine ⟨v, pk_le n i (fun h => ?_) (fun h => ?_)⟩
    · have e : i = n := by omega
      subst e
      refine ⟨m + 1, ?_⟩
      have := xc_112 (kd := td_cp kd kd (f * 64) (t * 64) i) (st := td_cp st st (f * 64) (t * 64) i) hf ht hft hm hfc K (m + 1) 0 (by omega) (by omega)
      rw [td_cp_0] at this
      exact this
    · have c1 : (nI (f * 64 + i)).toNatClampNeg = f * 64 + i := nI_clamp (by omega)
      have c2 : (nI (t * 64 + i)).toNatClampNeg = t * 64 + i := nI_clamp (by omega)
      have hr : td_cp kd kd (f * 64) (t * 64) i (f * 64 + i) = kd (f * 64 + i) := td_cp_o (by omega)
      have hs : td_cp st st (f * 64) (t * 64) i (f * 64 + i) = st (f * 64 + i) := td_cp_o (by omega)
      rw [td_64, td_64, c1, c2, hr, hs, td_cp_s, td_cp_s]
      have w1 : vp_in (nI (f * 64 + i)) 448 := vp_in_nI (by omega) (by omega)
      have w2 : vp_in (nI (t * 64 + i)) 448 := vp_in_nI (by omega) (by omega)
      refine ⟨w1, w2, fun a ea => ⟨w1, w2, fun b eb => fun y ey => ?_⟩⟩
      subst ea eb ey
      rw [nI_1]
      exact ih (i + 1) (by omega) (by omega)
theorem xc_copy {post : SX → Prop} {f t n m : Nat} (hf : f < 6) (ht : t < 6) (hft : f ≠ t) (hn : n ≤ 64) (hm : m ≤ 40) (hrc : rc f = nI n) (hfc : fc f = nI m)
    (K : post (xu, xl, aD, aR, aL, aF, bD, bR, bL, bF, upd il t (il f), upd ol t (ol f), upd rc t (rc f), upd fc t (fc f), td_cp kd kd (f * 64) (t * 64) n, td_cp st st (f * 64) (t * 64) n, td_cp fr fr (f * 40) (t * 40) m, tx, nx)) : wpX_copy post (xu, xl, aD, aR, aL, aF, bD, bR, bL, bF, il, ol, rc, fc, kd, st, fr, tx, nx) (nI f) (nI t) := by
  have c : (nI f).toNatClampNeg = f := nI_clamp (by omega)
  have v : vp_in (nI f) 6 := vp_in_nI hf (by omega)
  have c' : (nI t).toNatClampNeg = t := nI_clamp (by omega)
  have v' : vp_in (nI t) 6 := vp_in_nI ht (by omega)
  unfold wpX_copy
  dsimp only
  rw [c, c']
  refine ⟨v, v', fun a1 e1 => ⟨v, v', fun a2 e2 => ⟨v, v', fun a3 e3 => ⟨v, v', fun a4 e4 => ⟨n + 1, ?_⟩⟩⟩⟩⟩
  subst e1 e2 e3 e4
  have := xc_50 (rc := upd rc t (rc f)) (fc := upd fc t (fc f)) hf ht hft hn hm ((pk_un hft).trans hrc) ((pk_un hft).trans hfc) K (n + 1) 0 (by omega) (by omega)
  rw [td_cp_0, td_cp_0] at this
  exact this
theorem td_TB_to {f t m u : Nat} {o : List Nat} (h : td_TB il ol rc fc kd st fr f m o u) : td_TB (upd il t (il f)) (upd ol t (ol f)) (upd rc t (rc f)) (upd fc t (fc f)) (td_cp kd kd (f * 64) (t * 64) (td_rn o u).length) (td_cp st st (f * 64) (t * 64) (td_rn o u).length) (td_cp fr fr (f * 40) (t * 40) (td_lt o).length) t m o u := by
  obtain ⟨t1, t2, t3, t4, t5, t6, t7, t8⟩ := h
  refine ⟨pk_us.trans t1, pk_us.trans t2, pk_us.trans t3, td_cp_AL t4 (Nat.le_refl _), t5, pk_us.trans t6, td_cp_AL t7 ?_, td_cp_AL t8 ?_⟩
  · rw [List.length_map]; exact Nat.le_refl _
  · rw [List.length_map]; exact Nat.le_refl _
theorem td_TB_ot {e t s s' n n' m u : Nat} {o : List Nat} {x1 x2 x3 x4 : Int32} (h : td_TB il ol rc fc kd st fr e m o u) (het : e ≠ t) (hr : (td_rn o u).length ≤ 64) (hl : (td_lt o).length ≤ 40) (hn : n ≤ 64) (hn' : n' ≤ 40) : td_TB (upd il t x1) (upd ol t x2) (upd rc t x3) (upd fc t x4) (td_cp kd kd s (t * 64) n) (td_cp st st s (t * 64) n) (td_cp fr fr s' (t * 40) n') e m o u := by
  obtain ⟨t1, t2, t3, t4, t5, t6, t7, t8⟩ := h
  refine ⟨(pk_un het).trans t1, (pk_un het).trans t2, (pk_un het).trans t3, td_AL_fr (fun j h1 h2 => td_cp_o (by omega)) t4, t5, (pk_un het).trans t6, td_AL_fr (fun j h1 h2 => td_cp_o ?_) t7, td_AL_fr (fun j h1 h2 => td_cp_o ?_) t8⟩
  · rw [List.length_map] at h2; omega
  · rw [List.length_map] at h2; omega
/-- a table lies below delta 5 (or 4): it is as it was -/
theorem td_TB_bs {d e m m' u u' : Nat} {o o' : List Nat} (hB : td_BS il0 ol0 rc0 fc0 kd0 st0 fr0 il ol rc fc kd st fr d m' o' u') (h : td_TB il0 ol0 rc0 fc0 kd0 st0 fr0 e m o u) (he : e < d) (hr : (td_rn o u).length ≤ 64) (hl : (td_lt o).length ≤ 40) : td_TB il ol rc fc kd st fr e m o u := by
  obtain ⟨b1, b2, b3, _⟩ := hB
  obtain ⟨t1, t2, t3, t4, t5, t6, t7, t8⟩ := h
  obtain ⟨a1, a2, a3, a4⟩ := b1 e he
  refine ⟨a1.trans t1, a2.trans t2, a4.trans t3, td_AL_fr (fun j h1 h2 => b3 j (by omega)) t4, t5, a3.trans t6, td_AL_fr (fun j h1 h2 => (b2 j ?_).1) t7, td_AL_fr (fun j h1 h2 => (b2 j ?_).2) t8⟩
  · rw [List.length_map] at h2; omega
  · rw [List.length_map] at h2; omega
end XPUT
/-- the slots' tables -/
def td_up {α : Type} (f : Nat → α) (t : Nat) (x : α) : Nat → α := fun s => if s = t then x else f s
theorem td_up_s {α : Type} {f : Nat → α} {t : Nat} {x : α} : td_up f t x t = x := if_pos rfl
theorem td_up_n {α : Type} {f : Nat → α} {t s : Nat} {x : α} (h : s ≠ t) : td_up f t x s = f s := if_neg h
def td_SL (il ol rc fc kd st fr : Nat → Int32) (os : Nat → List Nat) (ms : Nat → Nat) : Prop := ∀ s, s < 4 → td_TB il ol rc fc kd st fr s (ms s) (os s) (ms s) ∧ ms s ≤ 40 ∧ (os s).length ≤ 40
section XFIN
variable {xu xl aD aR aL aF bD bR bL bF : Int32} {il ol rc fc kd st fr tx nx : Nat → Int32} {il0 ol0 rc0 fc0 kd0 st0 fr0 : Nat → Int32} {os : Nat → List Nat} {ms : Nat → Nat} {ow : List Nat} {mw uw : Nat}
theorem td_SL_bs {d m' u' : Nat} {o' : List Nat} (hB : td_BS il0 ol0 rc0 fc0 kd0 st0 fr0 il ol rc fc kd st fr d m' o' u') (hd : 4 ≤ d) (h : td_SL il0 ol0 rc0 fc0 kd0 st0 fr0 os ms) : td_SL il ol rc fc kd st fr os ms := fun s hs => by
  obtain ⟨h1, h2, h3⟩ := h s hs
  exact ⟨td_TB_bs hB h1 (by omega) (by have := td_rn_60 h1.2.2.2.2.1 h2 h3; omega) (by have := td_lt_le (os s); omega), h2, h3⟩
/-- the result is written into slot t -/
theorem xc_fin {post : SX → Prop} {m t : Nat} {o : List Nat} (hS : td_SL il0 ol0 rc0 fc0 kd0 st0 fr0 os ms) (hW : td_TB il0 ol0 rc0 fc0 kd0 st0 fr0 4 mw ow uw) (hu : uw ≤ 40) (hw : ow.length ≤ 40) (hB : td_BS il0 ol0 rc0 fc0 kd0 st0 fr0 il ol rc fc kd st fr 5 m o m) (hm : m ≤ 40) (ho : o.length ≤ 40) (ht : t < 4)
    (K : ∀ il' ol' rc' fc' kd' st' fr' : Nat → Int32, td_SL il' ol' rc' fc' kd' st' fr' (td_up os t o) (td_up ms t m) → td_TB il' ol' rc' fc' kd' st' fr' 4 mw ow uw → ol' t = nI o.length → post (xu, xl, aD, aR, aL, aF, bD, bR, bL, bF, il', ol', rc', fc', kd', st', fr', tx, nx)) : wpX_copy post (xu, xl, aD, aR, aL, aF, bD, bR, bL, bF, il, ol, rc, fc, kd, st, fr, tx, nx) 5 (nI t) := by
  have hT := hB.2.2.2
  have h60 := td_rn_60 hT.2.2.2.2.1 hm ho
  have hl := td_lt_le o
  have hS' := td_SL_bs hB (by omega) hS
  have hW60 := td_rn_60 hW.2.2.2.2.1 hu hw
  have hwl := td_lt_le ow
  have hW' := td_TB_bs hB hW (by omega) (by omega) (by omega)
  refine xc_copy (f := 5) (n := (td_rn o m).length) (m := (td_lt o).length) (by omega) (by omega) (by omega) (by omega) (by omega) hT.2.2.2.2.2.1 hT.2.2.1 (K _ _ _ _ _ _ _ (fun s hs => ?_) ?_ ?_)
  · by_cases e : s = t
    · subst e
      rw [td_up_s, td_up_s]
      exact ⟨td_TB_to hT, hm, ho⟩
    · rw [td_up_n e, td_up_n e]
      obtain ⟨h1, h2, h3⟩ := hS' s hs
      have := td_rn_60 h1.2.2.2.2.1 h2 h3
      have := td_lt_le (os s)
      exact ⟨td_TB_ot h1 e (by omega) (by omega) (by omega) (by omega), h2, h3⟩
  · exact td_TB_ot hW' (by omega) (by omega) (by omega) (by omega) (by omega)
  · exact pk_us.trans hT.2.1
end XFIN
end
section
/-! cursors: the runs and letters that are left -/
def td_hk : List (Nat × Nat) → Nat
  | [] => 0
  | x :: _ => x.1
def td_hn : List (Nat × Nat) → Nat
  | [] => 0
  | x :: _ => x.2
def td_tk (k : Nat) : List (Nat × Nat) → List (Nat × Nat)
  | [] => []
  | x :: t => if x.2 = k then t else (x.1, x.2 - k) :: t
def td_pc (c k p : Nat) (F : List Nat) : List Nat := if c = 1 then td_rg (10 + p) k else if c = 2 then [] else F.take k
def td_fk (c k : Nat) (F : List Nat) : List Nat := if c = 1 then F else if c = 2 then F else F.drop k
def td_ik (c k : Nat) : Nat := if c = 1 then k else if c = 2 then k else 0
theorem td_oR_sp {c k x p : Nat} {t : List (Nat × Nat)} {F : List Nat} : td_oR ((c, k + x) :: t) F p = td_pc c k p F ++ td_oR ((c, x) :: t) (td_fk c k F) (p + td_ik c k) := by
  rw [td_oR, td_oR, td_pc, td_fk, td_ik]
  dsimp only
  by_cases h1 : c = 1
  · rw [if_pos h1, if_pos h1, if_pos h1, if_pos h1, if_pos h1, td_rg_ap, List.append_assoc, Nat.add_assoc, Nat.add_assoc]
  · rw [if_neg h1, if_neg h1, if_neg h1, if_neg h1, if_neg h1]
    by_cases h2 : c = 2
    · rw [if_pos h2, if_pos h2, if_pos h2, if_pos h2, if_pos h2, List.nil_append, Nat.add_assoc]
    · rw [if_neg h2, if_neg h2, if_neg h2, if_neg h2, if_neg h2, Nat.add_zero, List.drop_drop, ← List.append_assoc, List.take_add]
theorem td_oR_z {c p : Nat} {t : List (Nat × Nat)} {F : List Nat} : td_oR ((c, 0) :: t) F p = td_oR t F p := by
  rw [td_oR]
  dsimp only
  by_cases h1 : c = 1
  · rw [if_pos h1]; rfl
  · rw [if_neg h1]
    by_cases h2 : c = 2
    · rw [if_pos h2]; rfl
    · rw [if_neg h2]; rfl
theorem td_tk_c {c n k : Nat} {t : List (Nat × Nat)} (hk : k ≤ n) : ∃ x, n = k + x ∧ ((x = 0 ∧ td_tk k ((c, n) :: t) = t) ∨ (1 ≤ x ∧ td_tk k ((c, n) :: t) = (c, x) :: t)) := by
  refine ⟨n - k, by omega, ?_⟩
  by_cases e : n = k
  · exact Or.inl ⟨by omega, if_pos e⟩
  · exact Or.inr ⟨by omega, if_neg e⟩
theorem td_oR_tk {c n k p : Nat} {t : List (Nat × Nat)} {F : List Nat} (hk : k ≤ n) : td_oR ((c, n) :: t) F p = td_pc c k p F ++ td_oR (td_tk k ((c, n) :: t)) (td_fk c k F) (p + td_ik c k) := by
  obtain ⟨x, rfl, ⟨rfl, e⟩ | ⟨_, e⟩⟩ := td_tk_c (c := c) (t := t) hk
  · rw [e, td_oR_sp, td_oR_z]
  · rw [e, td_oR_sp]
theorem td_iR_tk {c n k : Nat} {t : List (Nat × Nat)} (hk : k ≤ n) : td_iR ((c, n) :: t) = td_ik c k + td_iR (td_tk k ((c, n) :: t)) := by
  obtain ⟨x, rfl, ⟨rfl, e⟩ | ⟨_, e⟩⟩ := td_tk_c (c := c) (t := t) hk
  · rw [e, td_iR, td_ik]; rfl
  · rw [e, td_iR, td_iR, td_ik]
    dsimp only
    by_cases h1 : c = 1
    · rw [if_pos h1, if_pos h1, if_pos h1]; omega
    · rw [if_neg h1, if_neg h1, if_neg h1]
      by_cases h2 : c = 2
      · rw [if_pos h2, if_pos h2, if_pos h2]; omega
      · rw [if_neg h2, if_neg h2, if_neg h2]; omega
theorem td_aR_tk {c n k : Nat} {t : List (Nat × Nat)} {F : List Nat} (hk : k ≤ n) (h : td_aR ((c, n) :: t) = F.length) : td_aR (td_tk k ((c, n) :: t)) = (td_fk c k F).length ∧ (c ≠ 1 → c ≠ 2 → n ≤ F.length) := by
  rw [td_aR] at h
  dsimp only at h
  obtain ⟨x, rfl, ⟨rfl, e⟩ | ⟨_, e⟩⟩ := td_tk_c (c := c) (t := t) hk
  · rw [e, td_fk]
    by_cases h1 : c = 1
    · rw [if_pos h1] at h; rw [if_pos h1]; exact ⟨by omega, fun z => absurd h1 z⟩
    · rw [if_neg h1] at h; rw [if_neg h1]
      by_cases h2 : c = 2
      · rw [if_pos h2] at h; rw [if_pos h2]; exact ⟨by omega, fun _ z => absurd h2 z⟩
      · rw [if_neg h2] at h; rw [if_neg h2, List.length_drop]; exact ⟨by omega, fun _ _ => by omega⟩
  · rw [e, td_fk, td_aR]
    dsimp only
    by_cases h1 : c = 1
    · rw [if_pos h1] at h; rw [if_pos h1, if_pos h1]; exact ⟨by omega, fun z => absurd h1 z⟩
    · rw [if_neg h1] at h; rw [if_neg h1, if_neg h1]
      by_cases h2 : c = 2
      · rw [if_pos h2] at h; rw [if_pos h2, if_pos h2]; exact ⟨by omega, fun _ z => absurd h2 z⟩
      · rw [if_neg h2] at h; rw [if_neg h2, if_neg h2, List.length_drop]; exact ⟨by omega, fun _ _ => by omega⟩
theorem td_nm_tk {q c n k : Nat} {t : List (Nat × Nat)} (hk : k ≤ n) (h : td_nm q ((c, n) :: t)) : ∃ q', td_nm q' (td_tk k ((c, n) :: t)) := by
  obtain ⟨h1, h2, h3, h4, h5, h6⟩ := h
  obtain ⟨x, _, ⟨_, e⟩ | ⟨hx, e⟩⟩ := td_tk_c (c := c) (t := t) hk
  · rw [e]; exact ⟨_, h6⟩
  · rw [e]; exact ⟨q, h1, h2, h3, h4, hx, h6⟩
theorem td_tk_l {c n k : Nat} {t : List (Nat × Nat)} (hk : k ≤ n) : (td_tk k ((c, n) :: t)).length ≤ t.length + 1 ∧ (k = n → (td_tk k ((c, n) :: t)).length = t.length) := by
  obtain ⟨x, hx, ⟨_, e⟩ | ⟨h1, e⟩⟩ := td_tk_c (c := c) (t := t) hk
  · rw [e]; exact ⟨by omega, fun _ => rfl⟩
  · rw [e, List.length_cons]; exact ⟨by omega, fun _ => by omega⟩
def td_NR (R : List (Nat × Nat)) (F : List Nat) : Prop := (∃ q, td_nm q R) ∧ td_aR R = F.length ∧ td_iR R ≤ 40 ∧ F.length ≤ 40
theorem td_NR_tk {c n k : Nat} {t : List (Nat × Nat)} {F : List Nat} (hk : k ≤ n) (h : td_NR ((c, n) :: t) F) : td_NR (td_tk k ((c, n) :: t)) (td_fk c k F) := by
  obtain ⟨⟨q, h1⟩, h2, h3, h4⟩ := h
  refine ⟨td_nm_tk hk h1, (td_aR_tk hk h2).1, ?_, ?_⟩
  · rw [td_iR_tk hk] at h3; omega
  · rw [td_fk]
    split
    · exact h4
    · split
      · exact h4
      · rw [List.length_drop]; omega
theorem td_NR_hd {c n : Nat} {t : List (Nat × Nat)} {F : List Nat} (h : td_NR ((c, n) :: t) F) : 1 ≤ c ∧ c ≤ 3 ∧ 1 ≤ n ∧ n ≤ 40 ∧ (c = 3 → n ≤ F.length) ∧ (c ≠ 3 → n ≤ td_iR ((c, n) :: t)) := by
  obtain ⟨⟨q, h1⟩, h2, h3, h4⟩ := h
  obtain ⟨_, _, g3, g4, g5, _⟩ := h1
  dsimp only at g3 g4 g5
  have h5 := (td_aR_tk (Nat.le_refl n) h2).2
  rw [td_iR_tk (Nat.le_refl n)] at h3 ⊢
  refine ⟨g3, g4, g5, ?_, fun e => h5 (by omega) (by omega), fun e => ?_⟩
  · by_cases e3 : c = 3
    · have := h5 (by omega) (by omega); omega
    · have : td_ik c n = n := by
        rw [td_ik]
        split
        · rfl
        · rw [if_pos (by omega)]
      omega
  · have : td_ik c n = n := by
      rw [td_ik]
      split
      · rfl
      · rw [if_pos (by omega)]
    omega
theorem td_NR_hk {R : List (Nat × Nat)} {F : List Nat} (h : td_NR R F) : td_hk R ≤ 3 ∧ (td_hk R = 0 → R = []) := by
  cases R with
  | nil => exact ⟨Nat.zero_le _, fun _ => rfl⟩
  | cons x t =>
    obtain ⟨c, n⟩ := x
    have g := td_NR_hd h
    exact ⟨g.2.1, fun (e : c = 0) => by omega⟩
/-- a cursor's runs -/
def td_CR (rc kd st : Nat → Int32) (d : Nat) (aR aL : Int32) (R : List (Nat × Nat)) : Prop :=
  ∃ r, aR = nI r ∧ r + R.length ≤ 64 ∧ rc d = nI (r + R.length) ∧ td_AL kd (d * 64 + r) (R.map Prod.fst) ∧ td_AL st (d * 64 + r + 1) (R.tail.map Prod.snd) ∧ (R ≠ [] → aL = nI (td_hn R))
/-- a cursor's letters -/
def td_CF (fr : Nat → Int32) (aF : Int32) (F : List Nat) : Prop := ∃ f, aF = nI f ∧ f + F.length ≤ 200 ∧ td_AL fr f F ∧ ∀ c, c ∈ F → c < 10
theorem td_CF_ap {fr : Nat → Int32} {aF : Int32} {G F : List Nat} (h : td_CF fr aF (G ++ F)) : td_CF fr (aF + nI G.length) F := by
  obtain ⟨f, rfl, h1, h2, h3⟩ := h
  rw [List.length_append] at h1
  exact ⟨f + G.length, nI_add f G.length, by omega, (td_AL_ap.mp h2).2, fun c hc => h3 c (List.mem_append.mpr (Or.inr hc))⟩
section XCUR
variable {xu xl aD aR aL aF bD bR bL bF : Int32} {il ol rc fc kd st fr tx nx : Nat → Int32} {il0 ol0 rc0 fc0 kd0 st0 fr0 : Nat → Int32}
theorem xk_aKind {post : Int32 → Prop} {d m u : Nat} {o : List Nat} {R : List (Nat × Nat)} (hd : d < 5) (hB : td_BS il0 ol0 rc0 fc0 kd0 st0 fr0 il ol rc fc kd st fr 5 m o u) (hC : td_CR rc0 kd0 st0 d aR aL R) (h : post (nI (td_hk R))) : wpX_aKind post (xu, xl, nI d, aR, aL, aF, bD, bR, bL, bF, il, ol, rc, fc, kd, st, fr, tx, nx) := by
  have c : (nI d).toNatClampNeg = d := nI_clamp (by omega)
  have v : vp_in (nI d) 6 := vp_in_nI (by omega) (by omega)
  obtain ⟨r, rfl, h1, h2, h3, h4, h5⟩ := hC
  have e1 : rc d = nI (r + R.length) := (hB.1 d hd).2.2.1.trans h2
  unfold wpX_aKind
  dsimp only
  rw [c, e1]
  refine ⟨v, pk_le (r + R.length) r (fun g => ?_) (fun g => ?_)⟩
  · cases R with
    | nil => exact h
    | cons x t => rw [List.length_cons] at g; omega
  · cases R with
    | nil => rw [List.length_nil] at g; omega
    | cons x t =>
      rw [List.length_cons] at h1
      have e2 : kd (d * 64 + r) = nI x.1 := (hB.2.1 (d * 64 + r) (by omega)).1.trans h3.1
      have c2 : (nI (d * 64 + r)).toNatClampNeg = d * 64 + r := nI_clamp (by omega)
      rw [td_64, c2, e2]
      exact ⟨vp_in_nI (by omega) (by omega), h⟩
theorem xt_aTake {post : SX → Prop} {d m u k : Nat} {o : List Nat} {x : Nat × Nat} {t : List (Nat × Nat)} (hd : d < 5) (hB : td_BS il0 ol0 rc0 fc0 kd0 st0 fr0 il ol rc fc kd st fr 5 m o u) (hC : td_CR rc0 kd0 st0 d aR aL (x :: t)) (hk : k ≤ x.2) (hx : x.2 ≤ 100)
    (K : ∀ r' l' : Int32, td_CR rc0 kd0 st0 d r' l' (td_tk k (x :: t)) → post (xu, xl, nI d, r', l', aF, bD, bR, bL, bF, il, ol, rc, fc, kd, st, fr, tx, nx)) : wpX_aTake post (xu, xl, nI d, aR, aL, aF, bD, bR, bL, bF, il, ol, rc, fc, kd, st, fr, tx, nx) (nI k) := by
  have c : (nI d).toNatClampNeg = d := nI_clamp (by omega)
  have v : vp_in (nI d) 6 := vp_in_nI (by omega) (by omega)
  obtain ⟨r, rfl, h1, h2, h3, h4, h5⟩ := hC
  have e0 : aL = nI x.2 := h5 (by simp)
  have e1 : rc d = nI (r + (t.length + 1)) := (hB.1 d hd).2.2.1.trans h2
  rw [List.length_cons] at h1
  have h6 : td_AL st0 (d * 64 + r + 1) (t.map Prod.snd) := h4
  unfold wpX_aTake
  dsimp only
  rw [e0, pk_sub hk, c, e1]
  intro y ey
  subst ey
  refine pk_eq (x.2 - k) 0 (fun g => ?_) (fun g => ?_)
  · intro z ez
    subst ez
    rw [nI_1, td_64]
    have et : td_tk k (x :: t) = t := if_pos (by omega)
    rw [et] at K
    refine ⟨v, pk_le (r + (t.length + 1)) (r + 1) (fun g2 => ?_) (fun g2 => ?_)⟩
    · cases t with
      | nil => exact K _ _ ⟨r + 1, rfl, by simp only [List.length_nil]; omega, h2, trivial, trivial, fun z => absurd rfl z⟩
      | cons y t => rw [List.length_cons] at g2; omega
    · cases t with
      | nil => rw [List.length_nil] at g2; omega
      | cons y t =>
        rw [List.length_cons] at h1
        have e2 : st (d * 64 + (r + 1)) = nI y.2 := (hB.2.1 (d * 64 + (r + 1)) (by omega)).2.trans h6.1
        have c2 : (nI (d * 64 + (r + 1))).toNatClampNeg = d * 64 + (r + 1) := nI_clamp (by omega)
        rw [c2, e2]
        refine ⟨vp_in_nI (by omega) (by omega), fun w ew => ?_⟩
        subst ew
        refine K _ _ ⟨r + 1, rfl, by simp only [List.length_cons]; omega, ?_, h3.2, h6.2, fun _ => rfl⟩
        rw [h2]
        exact congrArg nI (by simp only [List.length_cons]; omega)
  · have et : td_tk k (x :: t) = (x.1, x.2 - k) :: t := if_neg (by omega)
    rw [et] at K
    exact K _ _ ⟨r, rfl, h1, h2, h3, h4, fun _ => rfl⟩
theorem xe_a2 {post : SX → Prop} {m u f k : Nat} {oT : List Nat} (hf : f + k ≤ 200) (hu : u ≤ 60) (hk : k ≤ 100)
    (K : ∀ ol' rc' fc' kd' st' fr' : Nat → Int32, td_BS il0 ol0 rc0 fc0 kd0 st0 fr0 il ol' rc' fc' kd' st' fr' 5 m oT u → post (xu, xl, aD, aR, aL, nI (f + k), bD, bR, bL, bF, il, ol', rc', fc', kd', st', fr', tx, nx)) :
    ∀ (N i : Nat) (G o : List Nat) (ol rc fc kd st fr : Nat → Int32), k < N + i → i + G.length = k → td_AL fr0 (f + i) G → (∀ c, c ∈ G → c < 10) → td_BS il0 ol0 rc0 fc0 kd0 st0 fr0 il ol rc fc kd st fr 5 m o u → (td_lt o).length + G.length ≤ 40 → o ++ G = oT → wX_aLetters_2 post (nI k) N (nI i) xu xl aD aR aL (nI f) bD bR bL bF il ol rc fc kd st fr tx nx := by
  intro N
  induction N with
  | zero => intro i G o ol rc fc kd st fr h1 h2; omega
  | succ N ih =>
    intro i G o ol rc fc kd st fr h1 h2 h3 h4 hB h5 h6
    rw [wX_aLetters_2]
    refine pk_le k i (fun g => ?_) (fun g => ?_)
    · have e : G = [] := List.length_eq_zero_iff.mp (by omega)
      subst e
      rw [List.append_nil] at h6
      subst h6
      exact nm_r (nI_add f k) (K _ _ _ _ _ _ hB)
    · cases G with
      | nil => rw [List.length_nil] at h2; omega
      | cons g0 G =>
        rw [List.length_cons] at h2 h5
        have e1 : nI f + nI i = nI (f + i) := nI_add f i
        have c1 : (nI (f + i)).toNatClampNeg = f + i := nI_clamp (by omega)
        have e2 : fr (f + i) = nI g0 := (hB.2.2.1 (f + i) (by omega)).trans h3.1
        rw [e1, c1, e2]
        have hg : g0 < 10 := h4 g0 (by simp)
        refine ⟨vp_in_nI (by omega) (by omega), xp_add (d := 5) (by omega) hg hB (by omega) (by omega) fun ol' rc' fc' kd' st' fr' hB' => ?_⟩
        refine nm_r (nI_1 i) (ih (i + 1) G (o ++ [g0]) ol' rc' fc' kd' st' fr' (by omega) (by omega) h3.2 (fun c hc => h4 c (by simp [hc])) hB' ?_ ?_)
        · rw [td_lt_ap, td_lt_10 hg, List.length_append, List.length_cons, List.length_nil]; omega
        · rw [List.append_assoc]; exact h6
theorem xe_aLetters {post : SX → Prop} {m u k : Nat} {o G F' : List Nat} (hB : td_BS il0 ol0 rc0 fc0 kd0 st0 fr0 il ol rc fc kd st fr 5 m o u) (hF : td_CF fr0 aF (G ++ F')) (hk : G.length = k) (hu : u ≤ 60) (hl : (td_lt o).length + k ≤ 40)
    (K : ∀ (f' : Int32) (ol' rc' fc' kd' st' fr' : Nat → Int32), td_BS il0 ol0 rc0 fc0 kd0 st0 fr0 il ol' rc' fc' kd' st' fr' 5 m (o ++ G) u → td_CF fr0 f' F' → post (xu, xl, aD, aR, aL, f', bD, bR, bL, bF, il, ol', rc', fc', kd', st', fr', tx, nx)) : wpX_aLetters post (xu, xl, aD, aR, aL, aF, bD, bR, bL, bF, il, ol, rc, fc, kd, st, fr, tx, nx) (nI k) := by
  have hF' := td_CF_ap hF
  obtain ⟨f, rfl, h1, h2, h3⟩ := hF
  rw [List.length_append] at h1
  rw [hk, nI_add] at hF'
  exact ⟨k + 1, xe_a2 (oT := o ++ G) (by omega) hu (by omega) (fun ol' rc' fc' kd' st' fr' hB' => K _ _ _ _ _ _ _ hB' hF') (k + 1) 0 G o ol rc fc kd st fr (by omega) (by omega) (td_AL_ap.mp h2).1 (fun c hc => h3 c (List.mem_append.mpr (Or.inl hc))) hB (by omega) rfl⟩
theorem xk_bKind {post : Int32 → Prop} {d m u : Nat} {o : List Nat} {R : List (Nat × Nat)} (hd : d < 5) (hB : td_BS il0 ol0 rc0 fc0 kd0 st0 fr0 il ol rc fc kd st fr 5 m o u) (hC : td_CR rc0 kd0 st0 d bR bL R) (h : post (nI (td_hk R))) : wpX_bKind post (xu, xl, aD, aR, aL, aF, nI d, bR, bL, bF, il, ol, rc, fc, kd, st, fr, tx, nx) := by
  have c : (nI d).toNatClampNeg = d := nI_clamp (by omega)
  have v : vp_in (nI d) 6 := vp_in_nI (by omega) (by omega)
  obtain ⟨r, rfl, h1, h2, h3, h4, h5⟩ := hC
  have e1 : rc d = nI (r + R.length) := (hB.1 d hd).2.2.1.trans h2
  unfold wpX_bKind
  dsimp only
  rw [c, e1]
  refine ⟨v, pk_le (r + R.length) r (fun g => ?_) (fun g => ?_)⟩
  · cases R with
    | nil => exact h
    | cons x t => rw [List.length_cons] at g; omega
  · cases R with
    | nil => rw [List.length_nil] at g; omega
    | cons x t =>
      rw [List.length_cons] at h1
      have e2 : kd (d * 64 + r) = nI x.1 := (hB.2.1 (d * 64 + r) (by omega)).1.trans h3.1
      have c2 : (nI (d * 64 + r)).toNatClampNeg = d * 64 + r := nI_clamp (by omega)
      rw [td_64, c2, e2]
      exact ⟨vp_in_nI (by omega) (by omega), h⟩
theorem xt_bTake {post : SX → Prop} {d m u k : Nat} {o : List Nat} {x : Nat × Nat} {t : List (Nat × Nat)} (hd : d < 5) (hB : td_BS il0 ol0 rc0 fc0 kd0 st0 fr0 il ol rc fc kd st fr 5 m o u) (hC : td_CR rc0 kd0 st0 d bR bL (x :: t)) (hk : k ≤ x.2) (hx : x.2 ≤ 100)
    (K : ∀ r' l' : Int32, td_CR rc0 kd0 st0 d r' l' (td_tk k (x :: t)) → post (xu, xl, aD, aR, aL, aF, nI d, r', l', bF, il, ol, rc, fc, kd, st, fr, tx, nx)) : wpX_bTake post (xu, xl, aD, aR, aL, aF, nI d, bR, bL, bF, il, ol, rc, fc, kd, st, fr, tx, nx) (nI k) := by
  have c : (nI d).toNatClampNeg = d := nI_clamp (by omega)
  have v : vp_in (nI d) 6 := vp_in_nI (by omega) (by omega)
  obtain ⟨r, rfl, h1, h2, h3, h4, h5⟩ := hC
  have e0 : bL = nI x.2 := h5 (by simp)
  have e1 : rc d = nI (r + (t.length + 1)) := (hB.1 d hd).2.2.1.trans h2
  rw [List.length_cons] at h1
  have h6 : td_AL st0 (d * 64 + r + 1) (t.map Prod.snd) := h4
  unfold wpX_bTake
  dsimp only
  rw [e0, pk_sub hk, c, e1]
  intro y ey
  subst ey
  refine pk_eq (x.2 - k) 0 (fun g => ?_) (fun g => ?_)
  · intro z ez
    subst ez
    rw [nI_1, td_64]
    have et : td_tk k (x :: t) = t := if_pos (by omega)
    rw [et] at K
    refine ⟨v, pk_le (r + (t.length + 1)) (r + 1) (fun g2 => ?_) (fun g2 => ?_)⟩
    · cases t with
      | nil => exact K _ _ ⟨r + 1, rfl, by simp only [List.length_nil]; omega, h2, trivial, trivial, fun z => absurd rfl z⟩
      | cons y t => rw [List.length_cons] at g2; omega
    · cases t with
      | nil => rw [List.length_nil] at g2; omega
      | cons y t =>
        rw [List.length_cons] at h1
        have e2 : st (d * 64 + (r + 1)) = nI y.2 := (hB.2.1 (d * 64 + (r + 1)) (by omega)).2.trans h6.1
        have c2 : (nI (d * 64 + (r + 1))).toNatClampNeg = d * 64 + (r + 1) := nI_clamp (by omega)
        rw [c2, e2]
        refine ⟨vp_in_nI (by omega) (by omega), fun w ew => ?_⟩
        subst ew
        refine K _ _ ⟨r + 1, rfl, by simp only [List.length_cons]; omega, ?_, h3.2, h6.2, fun _ => rfl⟩
        rw [h2]
        exact congrArg nI (by simp only [List.length_cons]; omega)
  · have et : td_tk k (x :: t) = (x.1, x.2 - k) :: t := if_neg (by omega)
    rw [et] at K
    exact K _ _ ⟨r, rfl, h1, h2, h3, h4, fun _ => rfl⟩
theorem xe_b2 {post : SX → Prop} {m u f k : Nat} {oT : List Nat} (hf : f + k ≤ 200) (hu : u ≤ 60) (hk : k ≤ 100)
    (K : ∀ ol' rc' fc' kd' st' fr' : Nat → Int32, td_BS il0 ol0 rc0 fc0 kd0 st0 fr0 il ol' rc' fc' kd' st' fr' 5 m oT u → post (xu, xl, aD, aR, aL, aF, bD, bR, bL, nI (f + k), il, ol', rc', fc', kd', st', fr', tx, nx)) :
    ∀ (N i : Nat) (G o : List Nat) (ol rc fc kd st fr : Nat → Int32), k < N + i → i + G.length = k → td_AL fr0 (f + i) G → (∀ c, c ∈ G → c < 10) → td_BS il0 ol0 rc0 fc0 kd0 st0 fr0 il ol rc fc kd st fr 5 m o u → (td_lt o).length + G.length ≤ 40 → o ++ G = oT → wX_bLetters_2 post (nI k) N (nI i) xu xl aD aR aL aF bD bR bL (nI f) il ol rc fc kd st fr tx nx := by
  intro N
  induction N with
  | zero => intro i G o ol rc fc kd st fr h1 h2; omega
  | succ N ih =>
    intro i G o ol rc fc kd st fr h1 h2 h3 h4 hB h5 h6
    rw [wX_bLetters_2]
    refine pk_le k i (fun g => ?_) (fun g => ?_)
    · have e : G = [] := List.length_eq_zero_iff.mp (by omega)
      subst e
      rw [List.append_nil] at h6
      subst h6
      exact nm_r (nI_add f k) (K _ _ _ _ _ _ hB)
    · cases G with
      | nil => rw [List.length_nil] at h2; omega
      | cons g0 G =>
        rw [List.length_cons] at h2 h5
        have e1 : nI f + nI i = nI (f + i) := nI_add f i
        have c1 : (nI (f + i)).toNatClampNeg = f + i := nI_clamp (by omega)
        have e2 : fr (f + i) = nI g0 := (hB.2.2.1 (f + i) (by omega)).trans h3.1
        rw [e1, c1, e2]
        have hg : g0 < 10 := h4 g0 (by simp)
        refine ⟨vp_in_nI (by omega) (by omega), xp_add (d := 5) (by omega) hg hB (by omega) (by omega) fun ol' rc' fc' kd' st' fr' hB' => ?_⟩
        refine nm_r (nI_1 i) (ih (i + 1) G (o ++ [g0]) ol' rc' fc' kd' st' fr' (by omega) (by omega) h3.2 (fun c hc => h4 c (by simp [hc])) hB' ?_ ?_)
        · rw [td_lt_ap, td_lt_10 hg, List.length_append, List.length_cons, List.length_nil]; omega
        · rw [List.append_assoc]; exact h6
theorem xe_bLetters {post : SX → Prop} {m u k : Nat} {o G F' : List Nat} (hB : td_BS il0 ol0 rc0 fc0 kd0 st0 fr0 il ol rc fc kd st fr 5 m o u) (hF : td_CF fr0 bF (G ++ F')) (hk : G.length = k) (hu : u ≤ 60) (hl : (td_lt o).length + k ≤ 40)
    (K : ∀ (f' : Int32) (ol' rc' fc' kd' st' fr' : Nat → Int32), td_BS il0 ol0 rc0 fc0 kd0 st0 fr0 il ol' rc' fc' kd' st' fr' 5 m (o ++ G) u → td_CF fr0 f' F' → post (xu, xl, aD, aR, aL, aF, bD, bR, bL, f', il, ol', rc', fc', kd', st', fr', tx, nx)) : wpX_bLetters post (xu, xl, aD, aR, aL, aF, bD, bR, bL, bF, il, ol, rc, fc, kd, st, fr, tx, nx) (nI k) := by
  have hF' := td_CF_ap hF
  obtain ⟨f, rfl, h1, h2, h3⟩ := hF
  rw [List.length_append] at h1
  rw [hk, nI_add] at hF'
  exact ⟨k + 1, xe_b2 (oT := o ++ G) (by omega) hu (by omega) (fun ol' rc' fc' kd' st' fr' hB' => K _ _ _ _ _ _ _ hB' hF') (k + 1) 0 G o ol rc fc kd st fr (by omega) (by omega) (td_AL_ap.mp h2).1 (fun c hc => h3 c (List.mem_append.mpr (Or.inl hc))) hB (by omega) rfl⟩
theorem xb_both {post : Int32 → Prop} {na nb : Nat} (ha : na ≤ 100) (hb : nb ≤ 100) (K : ∀ k, (k = na ∨ k = nb) → k ≤ na → k ≤ nb → post (nI k)) : wpX_both post (xu, xl, aD, aR, nI na, aF, bD, bR, nI nb, bF, il, ol, rc, fc, kd, st, fr, tx, nx) :=
  pk_le nb na (fun h => K nb (Or.inr rfl) h (Nat.le_refl _)) (fun h => K na (Or.inl rfl) (Nat.le_refl _) (by omega))
/-- the cursors opened -/
theorem td_CR_o {d m u : Nat} {o : List Nat} (h : td_TB il ol rc fc kd st fr d m o u) (hr : (td_rn o u).length ≤ 64) {l : Int32} (hl : td_rn o u ≠ [] → l = st (d * 64)) : td_CR rc kd st d 0 l (td_rn o u) := by
  obtain ⟨t1, t2, t3, t4, t5, t6, t7, t8⟩ := h
  refine ⟨0, rfl, by omega, by rw [Nat.zero_add]; exact t6, t7, ?_, fun hn => ?_⟩
  · generalize td_rn o u = R at *
    cases R with
    | nil => trivial
    | cons x t => exact t8.2
  · rw [hl hn]
    generalize td_rn o u = R at *
    cases R with
    | nil => exact absurd rfl hn
    | cons x t => exact t8.1
theorem td_CF_o {d m u : Nat} {o : List Nat} (h : td_TB il ol rc fc kd st fr d m o u) (hd : d < 5) (hl : (td_lt o).length ≤ 40) : td_CF fr (nI (d * 40)) (td_lt o) :=
  ⟨d * 40, rfl, by omega, h.2.2.2.1, fun _ hc => td_lt_m hc⟩
theorem td_NR_o {m : Nat} {o : List Nat} (h : td_OK o m) (hm : m ≤ 40) (ho : o.length ≤ 40) : td_NR (td_rn o m) (td_lt o) :=
  ⟨⟨0, td_rn_nm h⟩, td_rn_aR h, by rw [td_rn_iR h]; exact hm, Nat.le_trans (td_lt_le o) ho⟩
theorem xo_open {post : SX → Prop} {a b na nb : Nat} (ha : a < 5) (hb : b < 5) (hra : rc a = nI na) (hrb : rc b = nI nb) (hna : na ≤ 64) (hnb : nb ≤ 64)
    (K : ∀ la lb : Int32, (na ≠ 0 → la = st (a * 64)) → (nb ≠ 0 → lb = st (b * 64)) → post (xu, xl, nI a, 0, la, nI (a * 40), nI b, 0, lb, nI (b * 40), il, ol, rc, fc, kd, st, fr, tx, nx)) : wpX_openBoth post (xu, xl, aD, aR, aL, aF, bD, bR, bL, bF, il, ol, rc, fc, kd, st, fr, tx, nx) (nI a) (nI b) := by
  have ca : (nI a).toNatClampNeg = a := nI_clamp (by omega)
  have va : vp_in (nI a) 6 := vp_in_nI (by omega) (by omega)
  have cb : (nI b).toNatClampNeg = b := nI_clamp (by omega)
  have vb : vp_in (nI b) 6 := vp_in_nI (by omega) (by omega)
  have H : ∀ la : Int32, (na ≠ 0 → la = st (a * 64)) → wX_openBoth_41 post (nI b) la xu xl (nI a) 0 aL (nI (a * 40)) bD bR bL bF il ol rc fc kd st fr tx nx := by
    intro la hla
    unfold wX_openBoth_41
    rw [cb, hrb, td_m64, td_m40, nI_clamp (show b * 64 < 2 ^ 31 by omega)]
    intro y ey
    subst ey
    refine ⟨vb, pk_le nb 0 (fun g => K _ _ hla (fun z => absurd (Nat.le_zero.mp g) z)) (fun g => ⟨vp_in_nI (by omega) (by omega), fun w ew => ?_⟩)⟩
    subst ew
    exact K _ _ hla (fun _ => rfl)
  unfold wpX_openBoth
  dsimp only
  rw [ca, hra, td_m64, td_m40, nI_clamp (show a * 64 < 2 ^ 31 by omega)]
  intro y ey
  subst ey
  exact ⟨va, pk_le na 0 (fun g => H _ (fun z => absurd (Nat.le_zero.mp g) z)) (fun g => ⟨vp_in_nI (by omega) (by omega), H _ (fun _ => rfl)⟩)⟩
end XCUR
end
section
/-! join, the component's side -/
def td_f (oa : List Nat) (x : Nat) : Nat := if x < 10 then x else oa.getD (x - 10) 0
theorem td_f_rg {oa : List Nat} : ∀ {k q : Nat}, q + k ≤ oa.length → (td_rg (10 + q) k).map (td_f oa) = (oa.drop q).take k := by
  intro k
  induction k with
  | zero => intro q _; rfl
  | succ k ih =>
    intro q h
    have e : td_f oa (10 + q) = oa[q] := by
      rw [td_f, if_neg (by omega), show 10 + q - 10 = q by omega, List.getD_eq_getElem?_getD, List.getElem?_eq_getElem (by omega)]
      rfl
    rw [td_rg, List.map_cons, e, List.drop_eq_getElem_cons (by omega), List.take_succ_cons, show 10 + q + 1 = 10 + (q + 1) by omega, ih (by omega)]
def td_bad (x : Int32) : Prop := x < 0 ∨ 3 < x
theorem td_sl (x : Int32) : td_bad x ∨ ∃ j, j < 4 ∧ x = nI j := by
  by_cases h : x < 0
  · exact Or.inl (Or.inl h)
  · obtain ⟨j, hj, rfl⟩ := nI_of h
    by_cases h2 : j < 4
    · exact Or.inr ⟨j, h2, rfl⟩
    · exact Or.inl (Or.inr (nI_lt (a := 3) (by omega) hj))
section XJOIN
variable {xu xl aD aR aL aF bD bR bL bF : Int32} {il ol rc fc kd st fr tx nx : Nat → Int32} {il0 ol0 rc0 fc0 kd0 st0 fr0 : Nat → Int32} {os : Nat → List Nat} {ms : Nat → Nat} {ow : List Nat} {mw uw : Nat}
theorem xs_slot1 {post : Int32 → Prop} {j : Nat} (hj : j < 4) (h : post 1) : wpX_slot post (xu, xl, aD, aR, aL, aF, bD, bR, bL, bF, il, ol, rc, fc, kd, st, fr, tx, nx) (nI j) :=
  br_f (nI_pos (by omega)) (br_f (nI_nlt (a := 3) (by omega) (by omega)) h)
theorem xs_slot0 {post : Int32 → Prop} {x : Int32} (hx : td_bad x) (h : post 0) : wpX_slot post (xu, xl, aD, aR, aL, aF, bD, bR, bL, bF, il, ol, rc, fc, kd, st, fr, tx, nx) x :=
  br_c (fun _ => h) (fun h0 => br_c (fun _ => h) (fun h3 => absurd hx (fun z => z.elim h0 h3)))
theorem td_n10 : ¬ (1 : Int32) = 0 := by decide
def td_JI (il0 ol0 rc0 fc0 kd0 st0 fr0 il ol rc fc kd st fr : Nat → Int32) (da db : Nat) (aR aL aF bR bL bF : Int32) (m : Nat) (oa tgt : List Nat) (Ra Rb : List (Nat × Nat)) : Prop :=
  ∃ (Fa Fb o : List Nat) (u q : Nat), td_BS il0 ol0 rc0 fc0 kd0 st0 fr0 il ol rc fc kd st fr 5 m o u ∧ td_CR rc0 kd0 st0 da aR aL Ra ∧ td_CR rc0 kd0 st0 db bR bL Rb ∧ td_CF fr0 aF Fa ∧ td_CF fr0 bF Fb ∧ td_NR Ra Fa ∧ td_NR Rb Fb ∧ td_oR Ra Fa u = oa.drop q ∧ o ++ (td_oR Rb Fb q).map (td_f oa) = tgt ∧ q + td_iR Rb = oa.length ∧ u + td_iR Ra = m
theorem td_pc_l {c k u : Nat} {F : List Nat} (h1 : c ≠ 2) (h3 : c ≠ 1 → k ≤ F.length) : (td_pc c k u F).length = k := by
  rw [td_pc]
  by_cases e : c = 1
  · rw [if_pos e, td_rg_l]
  · rw [if_neg e, if_neg h1, List.length_take]
    have := h3 e
    omega
theorem xj_step {post : SX → Prop} {da db m : Nat} {oa tgt : List Nat} {Ra Rb : List (Nat × Nat)} (hda : da < 4) (hdb : db < 4) (hm : m ≤ 40) (htg : tgt.length ≤ 40) (hJ : td_JI il0 ol0 rc0 fc0 kd0 st0 fr0 il ol rc fc kd st fr da db aR aL aF bR bL bF m oa tgt Ra Rb) (ha : td_hk Ra ≠ 2) (hb : td_hk Rb ≠ 3) (hne : ¬ (td_hk Ra = 0 ∧ td_hk Rb = 0))
    (K : ∀ (ra' la' fa' rb' lb' : Int32) (ol' rc' fc' kd' st' fr' : Nat → Int32) (Ra' Rb' : List (Nat × Nat)), td_JI il0 ol0 rc0 fc0 kd0 st0 fr0 il ol' rc' fc' kd' st' fr' da db ra' la' fa' rb' lb' bF m oa tgt Ra' Rb' → Ra'.length + Rb'.length < Ra.length + Rb.length → post (xu, xl, nI da, ra', la', fa', nI db, rb', lb', bF, il, ol', rc', fc', kd', st', fr', tx, nx)) :
    wpX_joinStep post (xu, xl, nI da, aR, aL, aF, nI db, bR, bL, bF, il, ol, rc, fc, kd, st, fr, tx, nx) (nI (td_hk Ra)) (nI (td_hk Rb)) := by
  obtain ⟨Fa, Fb, o, u, q, hB, ca, cb, fa, fb, na, nb, e1, e2, e3, e4⟩ := hJ
  cases Ra with
  | nil =>
    exfalso
    cases Rb with
    | nil => exact hne ⟨rfl, rfl⟩
    | cons y tb =>
      obtain ⟨c', n'⟩ := y
      have g := td_NR_hd nb
      have g2 := g.2.2.2.2.2 hb
      have := congrArg List.length e1
      rw [td_oR, List.length_nil, List.length_drop] at this
      omega
  | cons x ta =>
    obtain ⟨c, n⟩ := x
    have ga := td_NR_hd na
    have hc : c ≠ 2 := ha
    cases Rb with
    | nil =>
      exfalso
      have h1 := congrArg List.length e1
      rw [td_oR_tk (Nat.le_refl n), List.length_append, td_pc_l hc (fun z => ga.2.2.2.2.1 (by omega)), List.length_drop] at h1
      rw [td_iR] at e3
      omega
    | cons y tb =>
      obtain ⟨c', n'⟩ := y
      have gb := td_NR_hd nb
      have hc' : c' ≠ 3 := hb
      have ea : aL = nI n := by
        obtain ⟨_, _, _, _, _, _, h⟩ := ca
        exact h (by simp)
      have eb : bL = nI n' := by
        obtain ⟨_, _, _, _, _, _, h⟩ := cb
        exact h (by simp)
      subst ea eb
      unfold wpX_joinStep
      dsimp only
      refine xb_both (by omega) (by omega) fun k hk1 hk2 hk3 => ?_
      have hiA := td_iR_tk (c := c) (t := ta) hk2
      have hiB := td_iR_tk (c := c') (t := tb) hk3
      have hikb : td_ik c' k = k := by
        rw [td_ik]
        split
        · rfl
        · rw [if_pos (by omega)]
      have hfkb : td_fk c' k Fb = Fb := by
        rw [td_fk]
        split
        · rfl
        · rw [if_pos (by omega)]
      have hpl : (td_pc c k u Fa).length = k := td_pc_l hc (fun z => by have := ga.2.2.2.2.1 (by omega); omega)
      have hoA := td_oR_tk (c := c) (t := ta) (F := Fa) (p := u) hk2
      have hoB := td_oR_tk (c := c') (t := tb) (F := Fb) (p := q) hk3
      rw [hikb, hfkb] at hoB
      have hNa := td_NR_tk hk2 na
      have hNb := td_NR_tk hk3 nb
      rw [hfkb] at hNb
      have hla := td_tk_l (c := c) (t := ta) hk2
      have hlb := td_tk_l (c := c') (t := tb) hk3
      have hdr : td_oR (td_tk k ((c, n) :: ta)) (td_fk c k Fa) (u + td_ik c k) = oa.drop (q + k) := by
        rw [← List.drop_drop, ← e1, hoA, List.drop_left' hpl]
      have hqk : q + k ≤ oa.length := by omega
      have hM : (td_rg (10 + q) k).map (td_f oa) = td_pc c k u Fa := by
        rw [td_f_rg hqk, ← e1, hoA, List.take_left' hpl]
      have H : ∀ (f' : Int32) (ol' rc' fc' kd' st' fr' : Nat → Int32) (o' : List Nat), td_BS il0 ol0 rc0 fc0 kd0 st0 fr0 il ol' rc' fc' kd' st' fr' 5 m o' (u + td_ik c k) → td_CF fr0 f' (td_fk c k Fa) → o' ++ (td_oR (td_tk k ((c', n') :: tb)) Fb (q + k)).map (td_f oa) = tgt → wX_joinStep_56 post (nI k) xu xl (nI da) aR (nI n) f' (nI db) bR (nI n') bF il ol' rc' fc' kd' st' fr' tx nx := by
        intro f' ol' rc' fc' kd' st' fr' o' hB' hF' ht'
        unfold wX_joinStep_56
        refine xt_aTake (by omega) hB' ca hk2 (by dsimp only; omega) fun ra' la' ca' => ?_
        refine xt_bTake (by omega) hB' cb hk3 (by dsimp only; omega) fun rb' lb' cb' => ?_
        refine K ra' la' f' rb' lb' ol' rc' fc' kd' st' fr' _ _ ⟨_, Fb, o', _, q + k, hB', ca', cb', hF', fb, hNa, hNb, hdr, ht', by omega, by omega⟩ ?_
        rw [List.length_cons, List.length_cons]
        rcases hk1 with rfl | rfl
        · have := hla.2 rfl; omega
        · have := hlb.2 rfl; omega
      have hlo := td_lt_le o
      have htl := congrArg List.length e2
      rw [List.length_append, List.length_map, hoB, List.length_append] at htl
      rw [hoB, List.map_append] at e2
      refine pk_eq c 1 (fun h1 => ?_) (fun h1 => ?_)
      · subst h1
        refine pk_eq c' 1 (fun h2 => ?_) (fun h2 => ?_)
        · subst h2
          refine xp_keep (d := 5) (by omega) hB (by omega) (by omega) fun ol' rc' kd' st' hB' => H aF ol' rc' fc kd' st' fr _ hB' fa ?_
          rw [List.append_assoc, ← e2]
          exact congrArg (fun z => o ++ (z ++ _)) hM.symm
        · have h3 : c' = 2 := by omega
          subst h3
          refine xp_drop (d := 5) (by omega) hB (by omega) (by omega) fun rc' kd' st' hB' => H aF ol rc' fc kd' st' fr _ hB' fa ?_
          exact e2
      · have h3 : c = 3 := by omega
        subst h3
        have hFa : Fa.take k ++ Fa.drop k = Fa := List.take_append_drop k Fa
        have hkF : (Fa.take k).length = k := by
          rw [List.length_take]
          have := ga.2.2.2.2.1 rfl
          omega
        refine pk_eq c' 1 (fun h2 => ?_) (fun h2 => ?_)
        · subst h2
          rw [td_pc_l (by omega) (fun z => absurd rfl z)] at htl
          refine xe_aLetters (G := Fa.take k) (F' := Fa.drop k) hB (by rw [hFa]; exact fa) hkF (by omega) (by omega) fun f' ol' rc' fc' kd' st' fr' hB' hF' => H f' ol' rc' fc' kd' st' fr' _ hB' hF' ?_
          rw [List.append_assoc, ← e2]
          exact congrArg (fun z => o ++ (z ++ _)) hM.symm
        · have h4 : c' = 2 := by omega
          subst h4
          intro y ey
          subst ey
          refine H _ ol rc fc kd st fr o hB ?_ e2
          rw [← hFa] at fa
          have := td_CF_ap fa
          rw [hkF] at this
          exact this
theorem xj_153 {post : Int32 → SX → Prop} {J : _} {da db m u x : Nat} {o : List Nat} {x3 : Int32} {Ra Rb : List (Nat × Nat)} (hda : da < 4) (hdb : db < 4) (hB : td_BS il0 ol0 rc0 fc0 kd0 st0 fr0 il ol rc fc kd st fr 5 m o u) (ca : td_CR rc0 kd0 st0 da aR aL Ra) (cb : td_CR rc0 kd0 st0 db bR bL Rb) (h : J (nI (td_hk Ra)) (nI (td_hk Rb)) (nI (x + 1)) xu xl (nI da) aR aL aF (nI db) bR bL bF il ol rc fc kd st fr tx nx) : wX_join_153 post J x3 (nI x) xu xl (nI da) aR aL aF (nI db) bR bL bF il ol rc fc kd st fr tx nx := by
  unfold wX_join_153
  refine xk_aKind (by omega) hB ca ?_
  refine xk_bKind (by omega) hB cb ?_
  exact nm_r (nI_1 x) h
theorem xj_94 {post : Int32 → SX → Prop} {J : _} {da db m x : Nat} {oa tgt : List Nat} {x3 : Int32} {Ra Rb : List (Nat × Nat)} (hda : da < 4) (hdb : db < 4) (hm : m ≤ 40) (htg : tgt.length ≤ 40) (hJ : td_JI il0 ol0 rc0 fc0 kd0 st0 fr0 il ol rc fc kd st fr da db aR aL aF bR bL bF m oa tgt Ra Rb) (hne : ¬ (td_hk Ra = 0 ∧ td_hk Rb = 0))
    (K : ∀ (ra' la' fa' rb' lb' fb' : Int32) (ol' rc' fc' kd' st' fr' : Nat → Int32) (Ra' Rb' : List (Nat × Nat)), td_JI il0 ol0 rc0 fc0 kd0 st0 fr0 il ol' rc' fc' kd' st' fr' da db ra' la' fa' rb' lb' fb' m oa tgt Ra' Rb' → Ra'.length + Rb'.length < Ra.length + Rb.length → J (nI (td_hk Ra')) (nI (td_hk Rb')) (nI (x + 1)) xu xl (nI da) ra' la' fa' (nI db) rb' lb' fb' il ol' rc' fc' kd' st' fr' tx nx) :
    wX_join_94 post J x3 (nI (td_hk Ra)) (nI (td_hk Rb)) (nI x) xu xl (nI da) aR aL aF (nI db) bR bL bF il ol rc fc kd st fr tx nx := by
  have hJ' := hJ
  obtain ⟨Fa, Fb, o, u, q, hB, ca, cb, fa, fb, na, nb, e1, e2, e3, e4⟩ := hJ
  have ka := td_NR_hk na
  have kb := td_NR_hk nb
  have hlo := td_lt_le o
  have htl := congrArg List.length e2
  rw [List.length_append, List.length_map] at htl
  unfold wX_join_94
  refine pk_eq (td_hk Ra) 2 (fun h => ?_) (fun h => ?_)
  · cases Ra with
    | nil => exact absurd (show (0 : Nat) = 2 from h) (by omega)
    | cons y ta =>
      obtain ⟨c, n⟩ := y
      have hc : c = 2 := h
      subst hc
      have ga := td_NR_hd na
      have ea : aL = nI n := by
        obtain ⟨_, _, _, _, _, _, h⟩ := ca
        exact h (by simp)
      subst ea
      have hi := td_iR_tk (c := 2) (t := ta) (Nat.le_refl n)
      have ho := td_oR_tk (c := 2) (t := ta) (F := Fa) (p := u) (Nat.le_refl n)
      have hN := td_NR_tk (Nat.le_refl n) na
      have hl := (td_tk_l (c := 2) (t := ta) (Nat.le_refl n)).2 rfl
      refine xp_drop (d := 5) (by omega) hB (by omega) (by omega) fun rc' kd' st' hB' => ?_
      refine xt_aTake (by omega) hB' ca (Nat.le_refl _) (by dsimp only; omega) fun ra' la' ca' => ?_
      refine xj_153 hda hdb hB' ca' cb (K ra' la' aF bR bL bF ol rc' fc kd' st' fr _ Rb ⟨Fa, Fb, o, u + n, q, hB', ca', cb, fa, fb, hN, nb, ?_, e2, e3, ?_⟩ ?_)
      · exact ho.symm.trans e1
      · rw [hi] at e4
        have : td_ik 2 n = n := rfl
        omega
      · rw [hl, List.length_cons]; omega
  · refine pk_eq (td_hk Rb) 3 (fun h2 => ?_) (fun h2 => ?_)
    · cases Rb with
      | nil => exact absurd (show (0 : Nat) = 3 from h2) (by omega)
      | cons y tb =>
        obtain ⟨c, n⟩ := y
        have hc : c = 3 := h2
        subst hc
        have gb := td_NR_hd nb
        have eb : bL = nI n := by
          obtain ⟨_, _, _, _, _, _, h⟩ := cb
          exact h (by simp)
        subst eb
        have hi := td_iR_tk (c := 3) (t := tb) (Nat.le_refl n)
        have ho := td_oR_tk (c := 3) (t := tb) (F := Fb) (p := q) (Nat.le_refl n)
        have hN := td_NR_tk (Nat.le_refl n) nb
        have hl := (td_tk_l (c := 3) (t := tb) (Nat.le_refl n)).2 rfl
        have hFb : Fb.take n ++ Fb.drop n = Fb := List.take_append_drop n Fb
        have hkF : (Fb.take n).length = n := by
          rw [List.length_take]
          have := gb.2.2.2.2.1 rfl
          omega
        have hpc : td_pc 3 n q Fb = Fb.take n := rfl
        rw [ho, hpc, List.length_append, hkF] at htl
        rw [ho, hpc, List.map_append] at e2
        have hid : (Fb.take n).map (td_f oa) = Fb.take n := by
          refine (List.map_congr_left fun z hz => ?_).trans (List.map_id _)
          obtain ⟨_, _, _, _, h10⟩ := fb
          exact if_pos (h10 z (List.mem_of_mem_take hz))
        refine xe_bLetters (G := Fb.take n) (F' := Fb.drop n) hB (by rw [hFb]; exact fb) hkF (by omega) (by omega) fun f' ol' rc' fc' kd' st' fr' hB' hF' => ?_
        refine xt_bTake (by omega) hB' cb (Nat.le_refl _) (by dsimp only; omega) fun rb' lb' cb' => ?_
        refine xj_153 hda hdb hB' ca cb' (K aR aL aF rb' lb' f' ol' rc' fc' kd' st' fr' Ra _ ⟨Fa, Fb.drop n, o ++ Fb.take n, u, q, hB', ca, cb', fa, hF', na, hN, e1, ?_, ?_, e4⟩ ?_)
        · rw [hid] at e2
          rw [List.append_assoc]
          exact e2
        · rw [hi] at e3
          have : td_ik 3 n = 0 := rfl
          omega
        · rw [hl, List.length_cons]; omega
    · exact xj_step hda hdb hm htg hJ' h h2 hne fun ra' la' fa' rb' lb' ol' rc' fc' kd' st' fr' Ra' Rb' hJ2 hlt => by
        have hJ3 := hJ2
        obtain ⟨_, _, _, _, _, hB', ca', cb', _⟩ := hJ2
        exact xj_153 hda hdb hB' ca' cb' (K ra' la' fa' rb' lb' bF ol' rc' fc' kd' st' fr' Ra' Rb' hJ3 hlt)
theorem xj_76 {post : Int32 → SX → Prop} {da db m : Nat} {oa tgt : List Nat} {x3 : Int32} (hda : da < 4) (hdb : db < 4) (hm : m ≤ 40) (htg : tgt.length ≤ 40)
    (KE : ∀ (aR aL aF bR bL bF : Int32) (ol rc fc kd st fr : Nat → Int32), td_BS il0 ol0 rc0 fc0 kd0 st0 fr0 il ol rc fc kd st fr 5 m tgt m → wX_join_171 post x3 xu xl (nI da) aR aL aF (nI db) bR bL bF il ol rc fc kd st fr tx nx) :
    ∀ (N x : Nat) (Ra Rb : List (Nat × Nat)) (aR aL aF bR bL bF : Int32) (ol rc fc kd st fr : Nat → Int32), Ra.length + Rb.length < N → x + (Ra.length + Rb.length) ≤ 200 → td_JI il0 ol0 rc0 fc0 kd0 st0 fr0 il ol rc fc kd st fr da db aR aL aF bR bL bF m oa tgt Ra Rb → wX_join_76 post x3 N (nI (td_hk Ra)) (nI (td_hk Rb)) (nI x) xu xl (nI da) aR aL aF (nI db) bR bL bF il ol rc fc kd st fr tx nx := by
  intro N
  induction N with
  | zero => intro x Ra Rb aR aL aF bR bL bF ol rc fc kd st fr h; omega
  | succ N ih =>
    intro x Ra Rb aR aL aF bR bL bF ol rc fc kd st fr h1 h2 hJ
    have hJ' := hJ
    obtain ⟨Fa, Fb, o, u, q, hB, ca, cb, fa, fb, na, nb, e1, e2, e3, e4⟩ := hJ
    have ka := td_NR_hk na
    have kb := td_NR_hk nb
    rw [wX_join_76]
    refine br_f (nI_ge (b := 256) (by omega) (by omega)) ?_
    have step : ¬ (td_hk Ra = 0 ∧ td_hk Rb = 0) → wX_join_94 post (wX_join_76 post x3 N) x3 (nI (td_hk Ra)) (nI (td_hk Rb)) (nI x) xu xl (nI da) aR aL aF (nI db) bR bL bF il ol rc fc kd st fr tx nx := fun hne =>
      xj_94 hda hdb hm htg hJ' hne fun ra' la' fa' rb' lb' fb' ol' rc' fc' kd' st' fr' Ra' Rb' hJ2 hlt => ih (x + 1) Ra' Rb' ra' la' fa' rb' lb' fb' ol' rc' fc' kd' st' fr' (by omega) (by omega) hJ2
    refine pk_eq (td_hk Ra) 0 (fun h3 => pk_eq (td_hk Rb) 0 (fun h4 => ?_) (fun h4 => step (fun z => h4 z.2))) (fun h3 => step (fun z => h3 z.1))
    have r1 := ka.2 h3
    have r2 := kb.2 h4
    subst r1 r2
    have eo : o = tgt := by rw [← e2]; exact (List.append_nil o).symm
    have eu : u = m := e4
    subst eo eu
    exact KE aR aL aF bR bL bF ol rc fc kd st fr hB
theorem xj_join {post : Int32 → SX → Prop} {a b t : Nat} (ha : a < 4) (hb : b < 4) (ht : t < 4) (hS : td_SL il ol rc fc kd st fr os ms) (hW : td_TB il ol rc fc kd st fr 4 mw ow uw) (hu : uw ≤ 40) (hw : ow.length ≤ 40) (he : (os a).length = ms b)
    (K : ∀ (aD aR aL aF bD bR bL bF : Int32) (il ol rc fc kd st fr : Nat → Int32), td_SL il ol rc fc kd st fr (td_up os t ((os b).map (td_f (os a)))) (td_up ms t (ms a)) → td_TB il ol rc fc kd st fr 4 mw ow uw → post (nI ((os b).map (td_f (os a))).length) (xu, xl, aD, aR, aL, aF, bD, bR, bL, bF, il, ol, rc, fc, kd, st, fr, tx, nx)) : wpX_join post (xu, xl, aD, aR, aL, aF, bD, bR, bL, bF, il, ol, rc, fc, kd, st, fr, tx, nx) (nI a) (nI b) (nI t) := by
  obtain ⟨ta, ma40, oa40⟩ := hS a ha
  obtain ⟨tb, mb40, ob40⟩ := hS b hb
  have ra := td_rn_60 ta.2.2.2.2.1 ma40 oa40
  have rb := td_rn_60 tb.2.2.2.2.1 mb40 ob40
  have cA : (nI a).toNatClampNeg = a := nI_clamp (by omega)
  have cB : (nI b).toNatClampNeg = b := nI_clamp (by omega)
  have cT : (nI t).toNatClampNeg = t := nI_clamp (by omega)
  have vA : vp_in (nI a) 6 := vp_in_nI (by omega) (by omega)
  have vB : vp_in (nI b) 6 := vp_in_nI (by omega) (by omega)
  have vT : vp_in (nI t) 6 := vp_in_nI (by omega) (by omega)
  unfold wpX_join
  dsimp only
  refine xs_slot1 ha (br_f td_n10 ?_)
  refine xs_slot1 hb (br_f td_n10 ?_)
  refine xs_slot1 ht (br_f td_n10 ?_)
  rw [cA, cB, ta.2.1, tb.1, he, ta.1]
  refine ⟨vA, vB, br_t rfl ⟨vA, ?_⟩⟩
  refine xw_wipe (d := 5) (by omega) fun il' ol' rc' fc' hB => ?_
  refine xo_open (na := (td_rn (os a) (ms a)).length) (nb := (td_rn (os b) (ms b)).length) (by omega) (by omega) ((hB.1 a (by omega)).2.2.1.trans ta.2.2.2.2.2.1) ((hB.1 b (by omega)).2.2.1.trans tb.2.2.2.2.2.1) (by omega) (by omega) fun la lb hla hlb => ?_
  have CA := td_CR_o ta (by omega) (l := la) (fun z => hla (fun y => z (List.length_eq_zero_iff.mp y)))
  have CB := td_CR_o tb (by omega) (l := lb) (fun z => hlb (fun y => z (List.length_eq_zero_iff.mp y)))
  refine xk_aKind (by omega) hB CA ?_
  refine xk_bKind (by omega) hB CB ?_
  refine ⟨200, xj_76 (oa := os a) (tgt := (os b).map (td_f (os a))) ha hb ma40 (by rw [List.length_map]; exact ob40) (fun aR aL aF bR bL bF ol rc fc kd st fr hE => ?_) 200 0 _ _ _ _ _ _ _ _ _ _ _ _ _ _ (by omega) (by omega) ⟨td_lt (os a), td_lt (os b), [], 0, 0, hB, CA, CB, td_CF_o ta (by omega) (Nat.le_trans (td_lt_le _) oa40), td_CF_o tb (by omega) (Nat.le_trans (td_lt_le _) ob40), td_NR_o ta.2.2.2.2.1 ma40 oa40, td_NR_o tb.2.2.2.2.1 mb40 ob40, td_rn_oR ta.2.2.2.2.1, ?_, ?_, ?_⟩⟩
  · unfold wX_join_171
    refine xc_fin hS hW hu hw hE ma40 (by rw [List.length_map]; exact ob40) ht fun il' ol' rc' fc' kd' st' fr' s1 s2 s3 => ?_
    refine ⟨vT, ?_⟩
    rw [cT, s3]
    exact K _ _ _ _ _ _ _ _ _ _ _ _ _ _ _ s1 s2
  · rw [td_rn_oR tb.2.2.2.2.1]; rfl
  · rw [td_rn_iR tb.2.2.2.2.1, he]; exact Nat.zero_add _
  · rw [td_rn_iR ta.2.2.2.2.1]; exact Nat.zero_add _
end XJOIN
end
section
/-! out lists by gaps, pure: what both sides compute in carry, apply and the printed form -/
def td_nw : List Nat → List Nat
  | [] => []
  | c :: l => if c < 10 then c :: td_nw l else []
def td_af : List Nat → List Nat
  | [] => []
  | c :: l => if c < 10 then td_af l else c :: l
def td_hd : List Nat → Nat
  | [] => 0
  | c :: _ => c
def td_ad (p : Nat) (l : List Nat) : List Nat := if td_hd l = 10 + p then l.tail else l
theorem td_nw_af : ∀ l : List Nat, td_nw l ++ td_af l = l := by
  intro l
  induction l with
  | nil => rfl
  | cons c l ih =>
    rw [td_nw, td_af]
    by_cases h : c < 10
    · rw [if_pos h, if_pos h, List.cons_append, ih]
    · rw [if_neg h, if_neg h]; rfl
theorem td_nw_m : ∀ {l : List Nat} {c : Nat}, c ∈ td_nw l → c < 10 := by
  intro l
  induction l with
  | nil => intro c h; exact absurd h (by simp [td_nw])
  | cons x l ih =>
    intro c h
    rw [td_nw] at h
    by_cases hx : x < 10
    · rw [if_pos hx] at h
      rcases List.mem_cons.mp h with rfl | h
      · exact hx
      · exact ih h
    · rw [if_neg hx] at h; exact absurd h (by simp)
theorem td_nw_ap : ∀ {G l : List Nat}, (∀ c, c ∈ G → c < 10) → td_nw (G ++ l) = G ++ td_nw l ∧ td_af (G ++ l) = td_af l := by
  intro G
  induction G with
  | nil => intro l _; exact ⟨rfl, rfl⟩
  | cons c G ih =>
    intro l h
    obtain ⟨a, b⟩ := ih (l := l) (fun x hx => h x (by simp [hx]))
    have hc : c < 10 := h c (by simp)
    rw [List.cons_append, td_nw, td_af, if_pos hc, if_pos hc, a, b]
    exact ⟨rfl, rfl⟩
theorem td_nw_c {c : Nat} {l : List Nat} (h : 10 ≤ c) : td_nw (c :: l) = [] ∧ td_af (c :: l) = c :: l := by
  rw [td_nw, td_af, if_neg (by omega), if_neg (by omega)]
  exact ⟨rfl, rfl⟩
theorem td_nw_0 {l : List Nat} (h : td_nw l = []) : td_af l = l ∧ (l = [] ∨ 10 ≤ td_hd l) := by
  cases l with
  | nil => exact ⟨rfl, Or.inl rfl⟩
  | cons c l =>
    rw [td_nw] at h
    by_cases hc : c < 10
    · rw [if_pos hc] at h; exact absurd h (by simp)
    · exact ⟨by rw [td_af, if_neg hc], Or.inr (by rw [td_hd]; omega)⟩
theorem td_nw_nw (l : List Nat) : td_nw (td_af l) = [] := by
  induction l with
  | nil => rfl
  | cons c l ih =>
    rw [td_af]
    by_cases h : c < 10
    · rw [if_pos h]; exact ih
    · rw [if_neg h, td_nw, if_neg h]
/-! carry -/
def td_bo (z : Bool) (A B : List Nat) : List Nat := if z = true then A ++ B else B ++ A
def td_cs (z : Bool) : Nat → Nat → Nat → List Nat → List Nat → List Nat
  | 0, _, _, _, _ => []
  | n + 1, p, q, oa, ob => (if td_hd oa = 10 + p ∧ td_hd ob = 10 + p then [10 + q] else []) ++ (td_bo z (td_nw (td_ad p oa)) (td_rg (10 + (q + (if td_hd ob = 10 + p then 1 else 0))) (td_nw (td_ad p ob)).length) ++ td_cs z n (p + 1) (q + (if td_hd ob = 10 + p then 1 else 0) + (td_nw (td_ad p ob)).length) (td_af (td_ad p oa)) (td_af (td_ad p ob)))
def td_cr (z : Bool) (n p q : Nat) (oa ob : List Nat) : List Nat := td_bo z (td_nw oa) (td_rg (10 + q) (td_nw ob).length) ++ td_cs z n p (q + (td_nw ob).length) (td_af oa) (td_af ob)
theorem td_cs_s {z : Bool} {n p q : Nat} {oa ob : List Nat} : td_cs z (n + 1) p q oa ob = (if td_hd oa = 10 + p ∧ td_hd ob = 10 + p then [10 + q] else []) ++ td_cr z n (p + 1) (q + (if td_hd ob = 10 + p then 1 else 0)) (td_ad p oa) (td_ad p ob) := rfl
theorem td_bo_0 {z : Bool} {q : Nat} : td_bo z [] (td_rg q 0) = [] := by
  rw [td_bo]
  split <;> rfl
theorem td_cr_A {z : Bool} {n p q : Nat} {G oa ob : List Nat} (hG : ∀ c, c ∈ G → c < 10) (h1 : td_nw oa = []) (h2 : z = true ∨ td_nw ob = []) : td_cr z n p q (G ++ oa) ob = G ++ td_cr z n p q oa ob := by
  obtain ⟨a, b⟩ := td_nw_ap (l := oa) hG
  rw [td_cr, td_cr, a, b, h1, List.append_nil, td_bo, td_bo]
  by_cases hz : z = true
  · rw [if_pos hz, if_pos hz, List.nil_append, List.append_assoc]
  · rw [if_neg hz, if_neg hz]
    have h3 : td_nw ob = [] := h2.resolve_left hz
    rw [h3]
    rfl
theorem td_cr_B {z : Bool} {n p q : Nat} {G oa ob : List Nat} (hG : ∀ c, c ∈ G → c < 10) (h1 : td_nw ob = []) (h2 : z = false ∨ td_nw oa = []) : td_cr z n p q oa (G ++ ob) = td_rg (10 + q) G.length ++ td_cr z n p (q + G.length) oa ob := by
  obtain ⟨a, b⟩ := td_nw_ap (l := ob) hG
  rw [td_cr, td_cr, a, b, h1, List.append_nil, td_bo, td_bo, List.length_nil, Nat.add_zero]
  by_cases hz : z = true
  · have h3 : td_nw oa = [] := h2.resolve_left (by rw [hz]; simp)
    rw [if_pos hz, if_pos hz, h3]
    rfl
  · rw [if_neg hz, if_neg hz, List.append_assoc]
    rfl
theorem td_cr_S {z : Bool} {n p q : Nat} {oa ob : List Nat} (h1 : td_nw oa = []) (h2 : td_nw ob = []) : td_cr z (n + 1) p q oa ob = (if td_hd oa = 10 + p ∧ td_hd ob = 10 + p then [10 + q] else []) ++ td_cr z n (p + 1) (q + (if td_hd ob = 10 + p then 1 else 0)) (td_ad p oa) (td_ad p ob) := by
  conv => lhs; rw [td_cr]
  rw [h1, h2, List.length_nil, td_bo_0, List.nil_append, (td_nw_0 h1).1, (td_nw_0 h2).1, td_cs_s]
  rfl
theorem td_cr_0 {z : Bool} {p q : Nat} : td_cr z 0 p q [] [] = [] := by
  rw [td_cr]
  show td_bo z [] (td_rg (10 + q) 0) ++ [] = []
  rw [td_bo_0]
  rfl
/-- the next run's head on the out list -/
theorem td_hd_2 {t : List (Nat × Nat)} {F : List Nat} {p : Nat} (h : td_nm 2 t) : td_oR t F p = [] ∨ ∃ l, td_oR t F p = (10 + p) :: l := by
  cases t with
  | nil => exact Or.inl rfl
  | cons x t =>
    obtain ⟨c, n⟩ := x
    obtain ⟨h1, h2, h3, h4, h5, h6⟩ := h
    dsimp only at h1 h2 h3 h4 h5
    have hc : c = 1 := by omega
    subst hc
    obtain ⟨n, rfl⟩ : ∃ k, n = k + 1 := ⟨n - 1, by omega⟩
    exact Or.inr ⟨td_rg (10 + p + 1) n ++ td_oR t F (p + (n + 1)), rfl⟩
theorem td_HD1 {j p : Nat} {t : List (Nat × Nat)} {F : List Nat} : td_nw (td_oR ((1, j + 1) :: t) F p) = [] ∧ td_hd (td_oR ((1, j + 1) :: t) F p) = 10 + p ∧ td_ad p (td_oR ((1, j + 1) :: t) F p) = td_oR ((1, j) :: t) F (p + 1) := by
  have e : td_oR ((1, j + 1) :: t) F p = (10 + p) :: td_oR ((1, j) :: t) F (p + 1) := by
    rw [td_oR_1, td_oR_1, td_rg, List.cons_append, show p + (j + 1) = p + 1 + j by omega, show 10 + p + 1 = 10 + (p + 1) by omega]
  rw [e]
  exact ⟨(td_nw_c (by omega)).1, rfl, if_pos rfl⟩
theorem td_HD2 {j p : Nat} {t : List (Nat × Nat)} {F : List Nat} (h : td_nm 2 t) : td_nw (td_oR ((2, j + 1) :: t) F p) = [] ∧ td_hd (td_oR ((2, j + 1) :: t) F p) ≠ 10 + p ∧ td_ad p (td_oR ((2, j + 1) :: t) F p) = td_oR ((2, j) :: t) F (p + 1) := by
  have e : td_oR ((2, j + 1) :: t) F p = td_oR ((2, j) :: t) F (p + 1) := by
    rw [td_oR_2, td_oR_2, show p + (j + 1) = p + 1 + j by omega]
  have g : td_nw (td_oR ((2, j + 1) :: t) F p) = [] ∧ td_hd (td_oR ((2, j + 1) :: t) F p) ≠ 10 + p := by
    rw [td_oR_2]
    rcases td_hd_2 (F := F) (p := p + (j + 1)) h with e | ⟨l, e⟩
    · rw [e]; exact ⟨rfl, by rw [td_hd]; omega⟩
    · rw [e]; exact ⟨(td_nw_c (by omega)).1, by rw [td_hd]; omega⟩
  refine ⟨g.1, g.2, ?_⟩
  rw [td_ad, if_neg g.2, e]
theorem td_nw_R : ∀ {R : List (Nat × Nat)} {q : Nat} {F : List Nat} {p : Nat}, td_nm q R → td_hk R ≠ 3 → td_nw (td_oR R F p) = [] := by
  intro R q F p h h3
  cases R with
  | nil => rfl
  | cons x t =>
    obtain ⟨c, n⟩ := x
    obtain ⟨h1, h2, g3, h4, h5, h6⟩ := h
    dsimp only at h1 h2 g3 h4 h5 h6
    have hc : c ≠ 3 := h3
    obtain ⟨n, rfl⟩ : ∃ k, n = k + 1 := ⟨n - 1, by omega⟩
    by_cases e : c = 1
    · subst e; exact td_HD1.1
    · have e2 : c = 2 := by omega
      subst e2; exact (td_HD2 h6).1
def td_vh (c : Nat) (t : List (Nat × Nat)) : Prop := c = 1 ∨ (c = 2 ∧ td_nm 2 t)
theorem td_cr_k {z : Bool} {ca cb n x y : Nat} {ta tb : List (Nat × Nat)} {Fa Fb : List Nat} (hA : td_vh ca ta) (hB : td_vh cb tb) : ∀ k p q : Nat, td_cr z (k + n) p q (td_oR ((ca, k + x) :: ta) Fa p) (td_oR ((cb, k + y) :: tb) Fb p) = (if ca = 1 ∧ cb = 1 then td_rg (10 + q) k else []) ++ td_cr z n (p + k) (q + (if cb = 1 then k else 0)) (td_oR ((ca, x) :: ta) Fa (p + k)) (td_oR ((cb, y) :: tb) Fb (p + k)) := by
  intro k
  induction k with
  | zero =>
    intro p q
    rw [Nat.zero_add, Nat.zero_add, Nat.zero_add, Nat.add_zero]
    by_cases h : ca = 1 ∧ cb = 1
    · rw [if_pos h, if_pos h.2]; rfl
    · rw [if_neg h]
      split <;> rfl
  | succ k ih =>
    intro p q
    have ih' := fun q => ih (p + 1) q
    rw [show k + 1 + n = (k + n) + 1 by omega, show k + 1 + x = (k + x) + 1 by omega, show k + 1 + y = (k + y) + 1 by omega]
    rcases hA with rfl | ⟨rfl, hA⟩
    · obtain ⟨a1, a2, a3⟩ := td_HD1 (j := k + x) (p := p) (t := ta) (F := Fa)
      rcases hB with rfl | ⟨rfl, hB⟩
      · obtain ⟨b1, b2, b3⟩ := td_HD1 (j := k + y) (p := p) (t := tb) (F := Fb)
        rw [td_cr_S a1 b1, a2, b2, a3, b3, if_pos ⟨rfl, rfl⟩, if_pos rfl, ih', if_pos ⟨rfl, rfl⟩, if_pos rfl, if_pos ⟨rfl, rfl⟩, if_pos rfl, td_rg, show p + 1 + k = p + (k + 1) by omega, show q + 1 + k = q + (k + 1) by omega, show 10 + (q + 1) = 10 + q + 1 by omega]
        rfl
      · obtain ⟨b1, b2, b3⟩ := td_HD2 (j := k + y) (p := p) (F := Fb) hB
        rw [td_cr_S a1 b1, a3, b3, if_neg (fun h => b2 h.2), if_neg b2, ih', show p + 1 + k = p + (k + 1) by omega]
        rfl
    · obtain ⟨a1, a2, a3⟩ := td_HD2 (j := k + x) (p := p) (F := Fa) hA
      rcases hB with rfl | ⟨rfl, hB⟩
      · obtain ⟨b1, b2, b3⟩ := td_HD1 (j := k + y) (p := p) (t := tb) (F := Fb)
        rw [td_cr_S a1 b1, a3, b3, if_neg (fun h => a2 h.1), if_pos b2, ih', if_pos rfl, if_pos rfl, show p + 1 + k = p + (k + 1) by omega, show q + 1 + k = q + (k + 1) by omega]
        rfl
      · obtain ⟨b1, b2, b3⟩ := td_HD2 (j := k + y) (p := p) (F := Fb) hB
        rw [td_cr_S a1 b1, a3, b3, if_neg (fun h => b2 h.2), if_neg b2, ih', show p + 1 + k = p + (k + 1) by omega]
        rfl
/-! the inverse (apply) -/
def td_iv (dl : List Nat) : Nat → Nat → Nat → List Nat → List Nat
  | 0, _, _, _ => []
  | n + 1, p, q, l => (if td_hd l = 10 + p then 10 + q else dl.getD p 0) :: td_iv dl n (p + 1) (q + (if td_hd l = 10 + p then 1 else 0) + (td_nw (td_ad p l)).length) (td_af (td_ad p l))
def td_iw (dl : List Nat) (n p q : Nat) (l : List Nat) : List Nat := td_iv dl n p (q + (td_nw l).length) (td_af l)
theorem td_iv_s {dl : List Nat} {n p q : Nat} {l : List Nat} : td_iv dl (n + 1) p q l = (if td_hd l = 10 + p then 10 + q else dl.getD p 0) :: td_iw dl n (p + 1) (q + (if td_hd l = 10 + p then 1 else 0)) (td_ad p l) := rfl
theorem td_iw_S {dl : List Nat} {n p q : Nat} {l : List Nat} (h : td_nw l = []) : td_iw dl (n + 1) p q l = (if td_hd l = 10 + p then 10 + q else dl.getD p 0) :: td_iw dl n (p + 1) (q + (if td_hd l = 10 + p then 1 else 0)) (td_ad p l) := by
  conv => lhs; rw [td_iw]
  rw [h, (td_nw_0 h).1, List.length_nil, td_iv_s]
  rfl
theorem td_iw_A {dl : List Nat} {n p q : Nat} {G l : List Nat} (hG : ∀ c, c ∈ G → c < 10) : td_iw dl n p q (G ++ l) = td_iw dl n p (q + G.length) l := by
  obtain ⟨a, b⟩ := td_nw_ap (l := l) hG
  rw [td_iw, td_iw, a, b, List.length_append, Nat.add_assoc]
theorem td_iw_k1 {dl : List Nat} {n : Nat} {t : List (Nat × Nat)} {F : List Nat} : ∀ k p q : Nat, td_iw dl (k + n) p q (td_oR ((1, k) :: t) F p) = td_rg (10 + q) k ++ td_iw dl n (p + k) (q + k) (td_oR t F (p + k)) := by
  intro k
  induction k with
  | zero => intro p q; rw [td_oR_z, Nat.zero_add]; rfl
  | succ k ih =>
    intro p q
    obtain ⟨a1, a2, a3⟩ := td_HD1 (j := k) (p := p) (t := t) (F := F)
    rw [show k + 1 + n = (k + n) + 1 by omega, td_iw_S a1, if_pos a2, if_pos a2, a3, ih, td_rg, show p + 1 + k = p + (k + 1) by omega, show q + 1 + k = q + (k + 1) by omega, show 10 + (q + 1) = 10 + q + 1 by omega]
    rfl
theorem td_iw_k2 {dl : List Nat} {n : Nat} {t : List (Nat × Nat)} {F : List Nat} (h : td_nm 2 t) : ∀ k p q : Nat, td_iw dl (k + n) p q (td_oR ((2, k) :: t) F p) = (td_rg p k).map (fun s => dl.getD s 0) ++ td_iw dl n (p + k) q (td_oR t F (p + k)) := by
  intro k
  induction k with
  | zero => intro p q; rw [td_oR_z, Nat.zero_add]; rfl
  | succ k ih =>
    intro p q
    obtain ⟨a1, a2, a3⟩ := td_HD2 (j := k) (p := p) (F := F) h
    rw [show k + 1 + n = (k + n) + 1 by omega, td_iw_S a1, if_neg a2, if_neg a2, a3, ih, td_rg, show p + 1 + k = p + (k + 1) by omega]
    rfl
/-! the printed form -/
def td_ps : Nat → Nat → List Nat → List Nat
  | 0, _, _ => []
  | n + 1, p, l => (if td_hd l = 10 + p then 1 else 2) :: (List.replicate (td_nw (td_ad p l)).length 3 ++ td_ps n (p + 1) (td_af (td_ad p l)))
def td_pq (n p : Nat) (l : List Nat) : List Nat := List.replicate (td_nw l).length 3 ++ td_ps n p (td_af l)
theorem td_ps_s {n p : Nat} {l : List Nat} : td_ps (n + 1) p l = (if td_hd l = 10 + p then 1 else 2) :: td_pq n (p + 1) (td_ad p l) := rfl
theorem td_pq_S {n p : Nat} {l : List Nat} (h : td_nw l = []) : td_pq (n + 1) p l = (if td_hd l = 10 + p then 1 else 2) :: td_pq n (p + 1) (td_ad p l) := by
  conv => lhs; rw [td_pq]
  rw [h, (td_nw_0 h).1, td_ps_s]
  rfl
theorem td_pq_A {n p : Nat} {G l : List Nat} (hG : ∀ c, c ∈ G → c < 10) : td_pq n p (G ++ l) = List.replicate G.length 3 ++ td_pq n p l := by
  obtain ⟨a, b⟩ := td_nw_ap (l := l) hG
  rw [td_pq, td_pq, a, b, List.length_append, ← List.append_assoc, List.replicate_append_replicate]
theorem td_pq_k1 {n : Nat} {t : List (Nat × Nat)} {F : List Nat} : ∀ k p : Nat, td_pq (k + n) p (td_oR ((1, k) :: t) F p) = List.replicate k 1 ++ td_pq n (p + k) (td_oR t F (p + k)) := by
  intro k
  induction k with
  | zero => intro p; rw [td_oR_z, Nat.zero_add]; rfl
  | succ k ih =>
    intro p
    obtain ⟨a1, a2, a3⟩ := td_HD1 (j := k) (p := p) (t := t) (F := F)
    rw [show k + 1 + n = (k + n) + 1 by omega, td_pq_S a1, if_pos a2, a3, ih, List.replicate_succ, show p + 1 + k = p + (k + 1) by omega]
    rfl
theorem td_pq_k2 {n : Nat} {t : List (Nat × Nat)} {F : List Nat} (h : td_nm 2 t) : ∀ k p : Nat, td_pq (k + n) p (td_oR ((2, k) :: t) F p) = List.replicate k 2 ++ td_pq n (p + k) (td_oR t F (p + k)) := by
  intro k
  induction k with
  | zero => intro p; rw [td_oR_z, Nat.zero_add]; rfl
  | succ k ih =>
    intro p
    obtain ⟨a1, a2, a3⟩ := td_HD2 (j := k) (p := p) (F := F) h
    rw [show k + 1 + n = (k + n) + 1 by omega, td_pq_S a1, if_neg a2, a3, ih, List.replicate_succ, show p + 1 + k = p + (k + 1) by omega]
    rfl
/-- single steps of runs -/
def td_ex : List (Nat × Nat) → List Nat
  | [] => []
  | x :: t => List.replicate x.2 x.1 ++ td_ex t
theorem td_pq_R : ∀ (R : List (Nat × Nat)) (q : Nat) (F : List Nat) (p : Nat), td_nm q R → td_aR R = F.length → (∀ c, c ∈ F → c < 10) → td_pq (td_iR R) p (td_oR R F p) = td_ex R := by
  intro R
  induction R with
  | nil => intro q F p _ _ _; rfl
  | cons x t ih =>
    obtain ⟨c, n⟩ := x
    intro q F p h hF h10
    obtain ⟨h1, h2, h3, h4, h5, h6⟩ := h
    dsimp only at h1 h2 h3 h4 h5 h6
    rw [td_aR] at hF
    dsimp only at hF
    by_cases e1 : c = 1
    · subst e1
      rw [if_pos rfl] at hF
      have e : td_iR ((1, n) :: t) = n + td_iR t := rfl
      rw [e, td_pq_k1, ih 1 F (p + n) h6 (by omega) h10]; rfl
    · rw [if_neg e1] at hF
      by_cases e2 : c = 2
      · subst e2
        rw [if_pos rfl] at hF
        have e : td_iR ((2, n) :: t) = n + td_iR t := rfl
        rw [e, td_pq_k2 h6, ih 2 F (p + n) h6 (by omega) h10]; rfl
      · rw [if_neg e2] at hF
        have e3 : c = 3 := by omega
        subst e3
        have e : td_iR ((3, n) :: t) = td_iR t := Nat.zero_add _
        rw [e, td_oR_3, td_pq_A (fun c hc => h10 c (List.mem_of_mem_take hc)), ih 3 (F.drop n) p h6 (by rw [List.length_drop]; omega) (fun c hc => h10 c (List.mem_of_mem_drop hc)), List.length_take, show min n F.length = n by omega]
        rfl
end
section
/-! carry, the component's side -/
theorem td_oR_tx {c k x p : Nat} {t : List (Nat × Nat)} {F : List Nat} : td_oR (td_tk k ((c, k + x) :: t)) F p = td_oR ((c, x) :: t) F p := by
  rw [td_tk]
  dsimp only
  by_cases e : x = 0
  · subst e
    rw [if_pos (Nat.add_zero k), td_oR_z]
  · rw [if_neg (by omega), show k + x - k = x by omega]
theorem td_nm_3 {t : List (Nat × Nat)} (h : td_nm 3 t) : td_hk t ≠ 3 := by
  cases t with
  | nil => exact fun z => absurd (show (0 : Nat) = 3 from z) (by omega)
  | cons x t => exact h.1
theorem td_NR_n {c n : Nat} {t : List (Nat × Nat)} {F : List Nat} (h : td_NR ((c, n) :: t) F) : td_nm c t := by
  obtain ⟨⟨q, h1⟩, _⟩ := h
  exact h1.2.2.2.2.2
theorem td_ik_12 {c k : Nat} (h : c = 1 ∨ c = 2) : td_ik c k = k := by
  rcases h with rfl | rfl <;> rfl
theorem td_fk_12 {c k : Nat} {F : List Nat} (h : c = 1 ∨ c = 2) : td_fk c k F = F := by
  rcases h with rfl | rfl <;> rfl
theorem td_OK_l {o : List Nat} {u : Nat} (h : td_OK o u) : o.length ≤ u + (td_lt o).length := by
  obtain ⟨k, d, a, K, D, A, g⟩ := td_cnt (td_rn o u) 0 (td_lt o) 0 (td_rn_nm h) (Nat.le_of_eq (td_rn_aR h))
  have e1 := td_rn_iR h
  have e2 := td_rn_aR h
  rw [td_rn_oR h] at g
  omega
section XCARRY
variable {xu xl aD aR aL aF bD bR bL bF : Int32} {il ol rc fc kd st fr tx nx : Nat → Int32} {il0 ol0 rc0 fc0 kd0 st0 fr0 : Nat → Int32} {os : Nat → List Nat} {ms : Nat → Nat} {ow : List Nat} {mw uw : Nat}
def td_CI (il0 ol0 rc0 fc0 kd0 st0 fr0 il ol rc fc kd st fr : Nat → Int32) (da db : Nat) (aR aL aF bR bL : Int32) (m : Nat) (z : Bool) (tgt : List Nat) (Ra Rb : List (Nat × Nat)) : Prop :=
  ∃ (Fa Fb o : List Nat) (u p : Nat), td_BS il0 ol0 rc0 fc0 kd0 st0 fr0 il ol rc fc kd st fr 5 m o u ∧ td_CR rc0 kd0 st0 da aR aL Ra ∧ td_CR rc0 kd0 st0 db bR bL Rb ∧ td_CF fr0 aF Fa ∧ (∀ c, c ∈ Fb → c < 10) ∧ td_NR Ra Fa ∧ td_NR Rb Fb ∧ td_iR Ra = td_iR Rb ∧ o ++ td_cr z (td_iR Ra) p u (td_oR Ra Fa p) (td_oR Rb Fb p) = tgt ∧ u + (td_oR Rb Fb p).length = m ∧ (td_lt o).length + Fa.length ≤ 40
theorem xv_step {post : SX → Prop} {da db m : Nat} {z : Bool} {tgt : List Nat} {Ra Rb : List (Nat × Nat)} (hda : da < 4) (hdb : db < 4) (hm : m ≤ 40) (hJ : td_CI il0 ol0 rc0 fc0 kd0 st0 fr0 il ol rc fc kd st fr da db aR aL aF bR bL m z tgt Ra Rb) (ha : td_hk Ra ≠ 3) (hb : td_hk Rb ≠ 3) (hne : ¬ (td_hk Ra = 0 ∧ td_hk Rb = 0))
    (K : ∀ (ra' la' rb' lb' : Int32) (ol' rc' kd' st' : Nat → Int32) (Ra' Rb' : List (Nat × Nat)), td_CI il0 ol0 rc0 fc0 kd0 st0 fr0 il ol' rc' fc kd' st' fr da db ra' la' aF rb' lb' m z tgt Ra' Rb' → Ra'.length + Rb'.length < Ra.length + Rb.length → post (xu, xl, nI da, ra', la', aF, nI db, rb', lb', bF, il, ol', rc', fc, kd', st', fr, tx, nx)) :
    wpX_carryStep post (xu, xl, nI da, aR, aL, aF, nI db, bR, bL, bF, il, ol, rc, fc, kd, st, fr, tx, nx) (nI (td_hk Ra)) (nI (td_hk Rb)) := by
  obtain ⟨Fa, Fb, o, u, p, hB, ca, cb, fa, fb, na, nb, e1, e2, e3, e4⟩ := hJ
  cases Ra with
  | nil =>
    exfalso
    cases Rb with
    | nil => exact hne ⟨rfl, rfl⟩
    | cons y tb =>
      obtain ⟨c', n'⟩ := y
      have g := td_NR_hd nb
      have g2 := g.2.2.2.2.2 hb
      rw [td_iR] at e1
      omega
  | cons x ta =>
    obtain ⟨c, n⟩ := x
    have ga := td_NR_hd na
    have hc : c ≠ 3 := ha
    cases Rb with
    | nil =>
      exfalso
      have g2 := ga.2.2.2.2.2 hc
      rw [e1, td_iR] at g2
      omega
    | cons y tb =>
      obtain ⟨c', n'⟩ := y
      have gb := td_NR_hd nb
      have hc' : c' ≠ 3 := hb
      have hc12 : c = 1 ∨ c = 2 := by omega
      have hc12' : c' = 1 ∨ c' = 2 := by omega
      have ea : aL = nI n := by
        obtain ⟨_, _, _, _, _, _, h⟩ := ca
        exact h (by simp)
      have eb : bL = nI n' := by
        obtain ⟨_, _, _, _, _, _, h⟩ := cb
        exact h (by simp)
      subst ea eb
      have va : td_vh c ta := hc12.elim Or.inl (fun e => Or.inr ⟨e, by have := td_NR_n na; rw [e] at this; exact this⟩)
      have vb : td_vh c' tb := hc12'.elim Or.inl (fun e => Or.inr ⟨e, by have := td_NR_n nb; rw [e] at this; exact this⟩)
      unfold wpX_carryStep
      dsimp only
      refine xb_both (by omega) (by omega) fun k hk1 hk2 hk3 => ?_
      have hiA := td_iR_tk (c := c) (t := ta) hk2
      have hiB := td_iR_tk (c := c') (t := tb) hk3
      rw [td_ik_12 hc12] at hiA
      rw [td_ik_12 hc12'] at hiB
      have hoB := td_oR_tk (c := c') (t := tb) (F := Fb) (p := p) hk3
      rw [td_ik_12 hc12', td_fk_12 hc12'] at hoB
      have hNa := td_NR_tk hk2 na
      have hNb := td_NR_tk hk3 nb
      rw [td_fk_12 hc12] at hNa
      rw [td_fk_12 hc12'] at hNb
      have hla := td_tk_l (c := c) (t := ta) hk2
      have hlb := td_tk_l (c := c') (t := tb) hk3
      obtain ⟨x, hx⟩ : ∃ x, n = k + x := ⟨n - k, by omega⟩
      obtain ⟨y, hy⟩ : ∃ y, n' = k + y := ⟨n' - k, by omega⟩
      have hcr := td_cr_k (z := z) (n := td_iR (td_tk k ((c, n) :: ta))) (x := x) (y := y) (Fa := Fa) (Fb := Fb) va vb k p u
      rw [← hx, ← hy, ← hiA] at hcr
      have ta1 : td_oR ((c, x) :: ta) Fa (p + k) = td_oR (td_tk k ((c, n) :: ta)) Fa (p + k) := by rw [hx, td_oR_tx]
      have tb1 : td_oR ((c', y) :: tb) Fb (p + k) = td_oR (td_tk k ((c', n') :: tb)) Fb (p + k) := by rw [hy, td_oR_tx]
      rw [ta1, tb1] at hcr
      rw [hcr, ← List.append_assoc] at e2
      have hlen := congrArg List.length hoB
      rw [List.length_append] at hlen
      have H : ∀ (ol' rc' kd' st' : Nat → Int32), td_BS il0 ol0 rc0 fc0 kd0 st0 fr0 il ol' rc' fc kd' st' fr 5 m (o ++ (if c = 1 ∧ c' = 1 then td_rg (10 + u) k else [])) (u + (if c' = 1 then k else 0)) → wX_carryStep_30 post (nI k) xu xl (nI da) aR (nI n) aF (nI db) bR (nI n') bF il ol' rc' fc kd' st' fr tx nx := by
        intro ol' rc' kd' st' hB'
        unfold wX_carryStep_30
        refine xt_aTake (by omega) hB' ca hk2 (by dsimp only; omega) fun ra' la' ca' => ?_
        refine xt_bTake (by omega) hB' cb hk3 (by dsimp only; omega) fun rb' lb' cb' => ?_
        refine K ra' la' rb' lb' ol' rc' kd' st' _ _ ⟨Fa, Fb, _, _, p + k, hB', ca', cb', fa, fb, hNa, hNb, by omega, e2, ?_, ?_⟩ ?_
        · rcases hc12' with rfl | rfl
          · rw [if_pos rfl]
            rw [td_pc_l (by omega) (fun z => absurd rfl z)] at hlen
            omega
          · rw [if_neg (by omega)]
            rw [show td_pc 2 k p Fb = [] from rfl, List.length_nil] at hlen
            omega
        · rw [td_lt_ap]
          split
          · rw [td_lt_rg (by omega), List.append_nil]; exact e4
          · rw [show td_lt [] = [] from rfl, List.append_nil]; exact e4
        · rw [List.length_cons, List.length_cons]
          rcases hk1 with rfl | rfl
          · have := hla.2 rfl; omega
          · have := hlb.2 rfl; omega
      refine pk_eq c' 1 (fun h1 => ?_) (fun h1 => ?_)
      · rw [if_pos h1] at H
        refine pk_eq c 1 (fun h2 => ?_) (fun h2 => ?_)
        · rw [if_pos ⟨h2, h1⟩] at H
          exact xp_keep (d := 5) (by omega) hB (by omega) (by omega) fun ol' rc' kd' st' hB' => H ol' rc' kd' st' hB'
        · rw [if_neg (fun w => h2 w.1), List.append_nil] at H
          exact xp_drop (d := 5) (by omega) hB (by omega) (by omega) fun rc' kd' st' hB' => H ol rc' kd' st' hB'
      · rw [if_neg h1, if_neg (fun w => h1 w.2), List.append_nil] at H
        exact H ol rc kd st hB
theorem xv_164 {post : Int32 → SX → Prop} {J : _} {da db m u x : Nat} {o : List Nat} {x3 x4 : Int32} {Ra Rb : List (Nat × Nat)} (hda : da < 4) (hdb : db < 4) (hB : td_BS il0 ol0 rc0 fc0 kd0 st0 fr0 il ol rc fc kd st fr 5 m o u) (ca : td_CR rc0 kd0 st0 da aR aL Ra) (cb : td_CR rc0 kd0 st0 db bR bL Rb) (h : J (nI (td_hk Ra)) (nI (td_hk Rb)) (nI (x + 1)) xu xl (nI da) aR aL aF (nI db) bR bL bF il ol rc fc kd st fr tx nx) : wX_carry_164 post J x3 x4 (nI x) xu xl (nI da) aR aL aF (nI db) bR bL bF il ol rc fc kd st fr tx nx := by
  unfold wX_carry_164
  refine xk_aKind (by omega) hB ca ?_
  refine xk_bKind (by omega) hB cb ?_
  exact nm_r (nI_1 x) h
theorem xv_111 {post : Int32 → SX → Prop} {J : _} {da db m x : Nat} {z : Bool} {tgt : List Nat} {x3 x4 : Int32} {Ra Rb : List (Nat × Nat)} (hda : da < 4) (hdb : db < 4) (hm : m ≤ 40) (hJ : td_CI il0 ol0 rc0 fc0 kd0 st0 fr0 il ol rc fc kd st fr da db aR aL aF bR bL m z tgt Ra Rb) (ha : td_hk Ra = 3) (hz : z = true ∨ td_hk Rb ≠ 3)
    (K : ∀ (ra' la' fa' rb' lb' : Int32) (ol' rc' fc' kd' st' fr' : Nat → Int32) (Ra' Rb' : List (Nat × Nat)), td_CI il0 ol0 rc0 fc0 kd0 st0 fr0 il ol' rc' fc' kd' st' fr' da db ra' la' fa' rb' lb' m z tgt Ra' Rb' → Ra'.length + Rb'.length < Ra.length + Rb.length → J (nI (td_hk Ra')) (nI (td_hk Rb')) (nI (x + 1)) xu xl (nI da) ra' la' fa' (nI db) rb' lb' bF il ol' rc' fc' kd' st' fr' tx nx) :
    wX_carry_111 post J x3 x4 (nI x) xu xl (nI da) aR aL aF (nI db) bR bL bF il ol rc fc kd st fr tx nx := by
  obtain ⟨Fa, Fb, o, u, p, hB, ca, cb, fa, fb, na, nb, e1, e2, e3, e4⟩ := hJ
  cases Ra with
  | nil => exact absurd (show (0 : Nat) = 3 from ha) (by omega)
  | cons y ta =>
    obtain ⟨c, n⟩ := y
    have hc : c = 3 := ha
    subst hc
    have ga := td_NR_hd na
    have ea : aL = nI n := by
      obtain ⟨_, _, _, _, _, _, h⟩ := ca
      exact h (by simp)
    subst ea
    have hi := td_iR_tk (c := 3) (t := ta) (Nat.le_refl n)
    have ho := td_oR_tk (c := 3) (t := ta) (F := Fa) (p := p) (Nat.le_refl n)
    have hN := td_NR_tk (Nat.le_refl n) na
    have hl := (td_tk_l (c := 3) (t := ta) (Nat.le_refl n)).2 rfl
    have et : td_tk n ((3, n) :: ta) = ta := if_pos rfl
    rw [et] at hi ho hN hl
    have hnm := td_NR_n na
    have hFa : Fa.take n ++ Fa.drop n = Fa := List.take_append_drop n Fa
    have hnF := ga.2.2.2.2.1 rfl
    have hkF : (Fa.take n).length = n := by rw [List.length_take]; omega
    have h10 : ∀ c, c ∈ Fa.take n → c < 10 := by
      obtain ⟨_, _, _, _, h10⟩ := fa
      exact fun c hc => h10 c (List.mem_of_mem_take hc)
    have ho' : td_oR ((3, n) :: ta) Fa p = Fa.take n ++ td_oR ta (Fa.drop n) p := ho
    have hi' : td_iR ((3, n) :: ta) = td_iR ta := hi.trans (Nat.zero_add _)
    have hcr := td_cr_A (z := z) (n := td_iR ta) (p := p) (q := u) (G := Fa.take n) (oa := td_oR ta (Fa.drop n) p) (ob := td_oR Rb Fb p) h10 (td_nw_R hnm (td_nm_3 hnm)) (hz.imp id (fun hz => by obtain ⟨q, g⟩ := nb.1; exact td_nw_R g hz))
    rw [hi', ho', hcr, ← List.append_assoc] at e2
    unfold wX_carry_111
    refine xe_aLetters (G := Fa.take n) (F' := Fa.drop n) hB (by rw [hFa]; exact fa) hkF (by omega) (by omega) fun f' ol' rc' fc' kd' st' fr' hB' hF' => ?_
    refine xt_aTake (by omega) hB' ca (Nat.le_refl _) (by dsimp only; omega) fun ra' la' ca' => ?_
    rw [et] at ca'
    refine xv_164 hda hdb hB' ca' cb (K ra' la' f' bR bL ol' rc' fc' kd' st' fr' ta Rb ⟨Fa.drop n, Fb, _, u, p, hB', ca', cb, hF', fb, hN, nb, hi'.symm.trans e1, e2, e3, ?_⟩ ?_)
    · rw [td_lt_ap, td_lt_all h10, List.length_append, hkF, List.length_drop]; omega
    · rw [List.length_cons]; omega
theorem xv_130 {post : Int32 → SX → Prop} {J : _} {da db m x : Nat} {z : Bool} {tgt : List Nat} {x3 x4 : Int32} {Ra Rb : List (Nat × Nat)} (hda : da < 4) (hdb : db < 4) (hm : m ≤ 40) (hJ : td_CI il0 ol0 rc0 fc0 kd0 st0 fr0 il ol rc fc kd st fr da db aR aL aF bR bL m z tgt Ra Rb) (hne : ¬ (td_hk Ra = 0 ∧ td_hk Rb = 0)) (hz : td_hk Ra = 3 → td_hk Rb = 3 ∧ z = false)
    (K : ∀ (ra' la' fa' rb' lb' : Int32) (ol' rc' fc' kd' st' fr' : Nat → Int32) (Ra' Rb' : List (Nat × Nat)), td_CI il0 ol0 rc0 fc0 kd0 st0 fr0 il ol' rc' fc' kd' st' fr' da db ra' la' fa' rb' lb' m z tgt Ra' Rb' → Ra'.length + Rb'.length < Ra.length + Rb.length → J (nI (td_hk Ra')) (nI (td_hk Rb')) (nI (x + 1)) xu xl (nI da) ra' la' fa' (nI db) rb' lb' bF il ol' rc' fc' kd' st' fr' tx nx) :
    wX_carry_130 post J x3 x4 (nI (td_hk Ra)) (nI (td_hk Rb)) (nI x) xu xl (nI da) aR aL aF (nI db) bR bL bF il ol rc fc kd st fr tx nx := by
  have hJ' := hJ
  obtain ⟨Fa, Fb, o, u, p, hB, ca, cb, fa, fb, na, nb, e1, e2, e3, e4⟩ := hJ
  have ka := td_NR_hk na
  have kb := td_NR_hk nb
  unfold wX_carry_130
  refine pk_eq (td_hk Rb) 3 (fun h => ?_) (fun h => ?_)
  · cases Rb with
    | nil => exact absurd (show (0 : Nat) = 3 from h) (by omega)
    | cons y tb =>
      obtain ⟨c, n⟩ := y
      have hc : c = 3 := h
      subst hc
      have gb := td_NR_hd nb
      have eb : bL = nI n := by
        obtain ⟨_, _, _, _, _, _, h⟩ := cb
        exact h (by simp)
      subst eb
      have hi := td_iR_tk (c := 3) (t := tb) (Nat.le_refl n)
      have ho := td_oR_tk (c := 3) (t := tb) (F := Fb) (p := p) (Nat.le_refl n)
      have hN := td_NR_tk (Nat.le_refl n) nb
      have hl := (td_tk_l (c := 3) (t := tb) (Nat.le_refl n)).2 rfl
      have et : td_tk n ((3, n) :: tb) = tb := if_pos rfl
      rw [et] at hi ho hN hl
      have hnm := td_NR_n nb
      have hnF := gb.2.2.2.2.1 rfl
      have hkF : (Fb.take n).length = n := by rw [List.length_take]; omega
      have h10 : ∀ c, c ∈ Fb.take n → c < 10 := fun c hc => fb c (List.mem_of_mem_take hc)
      have ho' : td_oR ((3, n) :: tb) Fb p = Fb.take n ++ td_oR tb (Fb.drop n) p := ho
      have hi' : td_iR ((3, n) :: tb) = td_iR tb := hi.trans (Nat.zero_add _)
      have hzz : z = false ∨ td_nw (td_oR Ra Fa p) = [] := by
        by_cases w : td_hk Ra = 3
        · exact Or.inl (hz w).2
        · obtain ⟨q, g⟩ := na.1
          exact Or.inr (td_nw_R g w)
      have hcr := td_cr_B (z := z) (n := td_iR Ra) (p := p) (q := u) (G := Fb.take n) (oa := td_oR Ra Fa p) (ob := td_oR tb (Fb.drop n) p) h10 (td_nw_R hnm (td_nm_3 hnm)) hzz
      rw [hkF] at hcr
      rw [ho', hcr, ← List.append_assoc] at e2
      rw [ho', List.length_append, hkF] at e3
      refine xp_keep (d := 5) (by omega) hB (by omega) (by omega) fun ol' rc' kd' st' hB' => ?_
      refine xt_bTake (by omega) hB' cb (Nat.le_refl _) (by dsimp only; omega) fun rb' lb' cb' => ?_
      rw [et] at cb'
      refine xv_164 hda hdb hB' ca cb' (K aR aL aF rb' lb' ol' rc' fc kd' st' fr Ra tb ⟨Fa, Fb.drop n, _, _, p, hB', ca, cb', fa, fun c hc => fb c (List.mem_of_mem_drop hc), na, hN, e1.trans hi', e2, by omega, ?_⟩ ?_)
      · rw [td_lt_ap, td_lt_rg (by omega), List.append_nil]; exact e4
      · rw [List.length_cons]; omega
  · have ha : td_hk Ra ≠ 3 := fun w => h (hz w).1
    exact xv_step hda hdb hm hJ' ha h hne fun ra' la' rb' lb' ol' rc' kd' st' Ra' Rb' hJ2 hlt => by
      have hJ3 := hJ2
      obtain ⟨_, _, _, _, _, hB', ca', cb', _⟩ := hJ2
      exact xv_164 hda hdb hB' ca' cb' (K ra' la' aF rb' lb' ol' rc' fc kd' st' fr Ra' Rb' hJ3 hlt)
theorem xv_77 {post : Int32 → SX → Prop} {da db m : Nat} {z : Bool} {tgt : List Nat} {x3 x4 : Int32} (hda : da < 4) (hdb : db < 4) (hm : m ≤ 40) (hz0 : x3 = 0 → z = false) (hz1 : ¬ x3 = 0 → z = true)
    (KE : ∀ (aR aL aF bR bL : Int32) (ol rc fc kd st fr : Nat → Int32), td_BS il0 ol0 rc0 fc0 kd0 st0 fr0 il ol rc fc kd st fr 5 m tgt m → (td_lt tgt).length ≤ 40 → wX_carry_182 post x4 xu xl (nI da) aR aL aF (nI db) bR bL bF il ol rc fc kd st fr tx nx) :
    ∀ (N x : Nat) (Ra Rb : List (Nat × Nat)) (aR aL aF bR bL : Int32) (ol rc fc kd st fr : Nat → Int32), Ra.length + Rb.length < N → x + (Ra.length + Rb.length) ≤ 200 → td_CI il0 ol0 rc0 fc0 kd0 st0 fr0 il ol rc fc kd st fr da db aR aL aF bR bL m z tgt Ra Rb → wX_carry_77 post x3 x4 N (nI (td_hk Ra)) (nI (td_hk Rb)) (nI x) xu xl (nI da) aR aL aF (nI db) bR bL bF il ol rc fc kd st fr tx nx := by
  intro N
  induction N with
  | zero => intro x Ra Rb aR aL aF bR bL ol rc fc kd st fr h; omega
  | succ N ih =>
    intro x Ra Rb aR aL aF bR bL ol rc fc kd st fr h1 h2 hJ
    have hJ' := hJ
    obtain ⟨Fa, Fb, o, u, p, hB, ca, cb, fa, fb, na, nb, e1, e2, e3, e4⟩ := hJ
    have ka := td_NR_hk na
    have kb := td_NR_hk nb
    rw [wX_carry_77]
    refine br_f (nI_ge (b := 256) (by omega) (by omega)) ?_
    have step : ¬ (td_hk Ra = 0 ∧ td_hk Rb = 0) → wX_carry_95 post (wX_carry_77 post x3 x4 N) x3 x4 (nI (td_hk Ra)) (nI (td_hk Rb)) (nI x) xu xl (nI da) aR aL aF (nI db) bR bL bF il ol rc fc kd st fr tx nx := fun hne => by
      unfold wX_carry_95
      refine pk_eq (td_hk Ra) 3 (fun a3 => pk_eq (td_hk Rb) 3 (fun b3 => br_c (fun w => ?_) (fun w => ?_)) (fun b3 => ?_)) (fun a3 => ?_)
      · exact xv_130 hda hdb hm hJ' hne (fun _ => ⟨b3, hz0 w⟩) fun ra' la' fa' rb' lb' ol' rc' fc' kd' st' fr' Ra' Rb' hJ2 hlt => ih (x + 1) Ra' Rb' ra' la' fa' rb' lb' ol' rc' fc' kd' st' fr' (by omega) (by omega) hJ2
      · exact xv_111 hda hdb hm hJ' a3 (Or.inl (hz1 w)) fun ra' la' fa' rb' lb' ol' rc' fc' kd' st' fr' Ra' Rb' hJ2 hlt => ih (x + 1) Ra' Rb' ra' la' fa' rb' lb' ol' rc' fc' kd' st' fr' (by omega) (by omega) hJ2
      · exact xv_111 hda hdb hm hJ' a3 (Or.inr b3) fun ra' la' fa' rb' lb' ol' rc' fc' kd' st' fr' Ra' Rb' hJ2 hlt => ih (x + 1) Ra' Rb' ra' la' fa' rb' lb' ol' rc' fc' kd' st' fr' (by omega) (by omega) hJ2
      · exact xv_130 hda hdb hm hJ' hne (fun w => absurd w a3) fun ra' la' fa' rb' lb' ol' rc' fc' kd' st' fr' Ra' Rb' hJ2 hlt => ih (x + 1) Ra' Rb' ra' la' fa' rb' lb' ol' rc' fc' kd' st' fr' (by omega) (by omega) hJ2
    refine pk_eq (td_hk Ra) 0 (fun h3 => pk_eq (td_hk Rb) 0 (fun h4 => ?_) (fun h4 => step (fun w => h4 w.2))) (fun h3 => step (fun w => h3 w.1))
    have r1 := ka.2 h3
    have r2 := kb.2 h4
    subst r1 r2
    have eo : o = tgt := by
      rw [← e2]
      show o = o ++ td_cr z 0 p u [] []
      rw [td_cr_0, List.append_nil]
    have eu : u = m := e3
    subst eo eu
    exact KE aR aL aF bR bL ol rc fc kd st fr hB (by omega)
theorem xv_carry {post : Int32 → SX → Prop} {a b t : Nat} {x3 : Int32} {z : Bool} (ha : a < 4) (hb : b < 4) (ht : t < 4) (hz0 : x3 = 0 → z = false) (hz1 : ¬ x3 = 0 → z = true) (hS : td_SL il ol rc fc kd st fr os ms) (hW : td_TB il ol rc fc kd st fr 4 mw ow uw) (hu : uw ≤ 40) (hw : ow.length ≤ 40) (he : ms a = ms b)
    (K1 : (td_cr z (ms a) 0 0 (os a) (os b)).length ≤ 40 → ∀ (aD aR aL aF bD bR bL bF : Int32) (il ol rc fc kd st fr : Nat → Int32), td_SL il ol rc fc kd st fr (td_up os t (td_cr z (ms a) 0 0 (os a) (os b))) (td_up ms t (os b).length) → td_TB il ol rc fc kd st fr 4 mw ow uw → post (nI (td_cr z (ms a) 0 0 (os a) (os b)).length) (xu, xl, aD, aR, aL, aF, bD, bR, bL, bF, il, ol, rc, fc, kd, st, fr, tx, nx))
    (K2 : ¬ (td_cr z (ms a) 0 0 (os a) (os b)).length ≤ 40 → (td_cr z (ms a) 0 0 (os a) (os b)).length ≤ 80 → ∀ (aD aR aL aF bD bR bL bF : Int32) (il ol rc fc kd st fr : Nat → Int32), td_SL il ol rc fc kd st fr os ms → td_TB il ol rc fc kd st fr 4 mw ow uw → post (-2) (xu, xl, aD, aR, aL, aF, bD, bR, bL, bF, il, ol, rc, fc, kd, st, fr, tx, nx)) : wpX_carry post (xu, xl, aD, aR, aL, aF, bD, bR, bL, bF, il, ol, rc, fc, kd, st, fr, tx, nx) (nI a) (nI b) x3 (nI t) := by
  obtain ⟨ta, ma40, oa40⟩ := hS a ha
  obtain ⟨tb, mb40, ob40⟩ := hS b hb
  have ra := td_rn_60 ta.2.2.2.2.1 ma40 oa40
  have rb := td_rn_60 tb.2.2.2.2.1 mb40 ob40
  have rw60 := td_rn_60 hW.2.2.2.2.1 hu hw
  have lw := td_lt_le ow
  have cA : (nI a).toNatClampNeg = a := nI_clamp (by omega)
  have cB : (nI b).toNatClampNeg = b := nI_clamp (by omega)
  have cT : (nI t).toNatClampNeg = t := nI_clamp (by omega)
  have vA : vp_in (nI a) 6 := vp_in_nI (by omega) (by omega)
  have vB : vp_in (nI b) 6 := vp_in_nI (by omega) (by omega)
  have vT : vp_in (nI t) 6 := vp_in_nI (by omega) (by omega)
  unfold wpX_carry
  dsimp only
  refine xs_slot1 ha (br_f td_n10 ?_)
  refine xs_slot1 hb (br_f td_n10 ?_)
  refine xs_slot1 ht (br_f td_n10 ?_)
  rw [cA, cB, ta.1, tb.1, he, tb.2.1]
  refine ⟨vA, vB, br_t rfl ⟨vB, ?_⟩⟩
  refine xw_wipe (d := 5) (by omega) fun il' ol' rc' fc' hB => ?_
  refine xo_open (na := (td_rn (os a) (ms a)).length) (nb := (td_rn (os b) (ms b)).length) (by omega) (by omega) ((hB.1 a (by omega)).2.2.1.trans ta.2.2.2.2.2.1) ((hB.1 b (by omega)).2.2.1.trans tb.2.2.2.2.2.1) (by omega) (by omega) fun la lb hla hlb => ?_
  have CA := td_CR_o ta (by omega) (l := la) (fun z => hla (fun y => z (List.length_eq_zero_iff.mp y)))
  have CB := td_CR_o tb (by omega) (l := lb) (fun z => hlb (fun y => z (List.length_eq_zero_iff.mp y)))
  refine xk_aKind (by omega) hB CA ?_
  refine xk_bKind (by omega) hB CB ?_
  refine ⟨200, xv_77 (z := z) (tgt := td_cr z (ms a) 0 0 (os a) (os b)) ha hb ob40 hz0 hz1 (fun aR aL aF bR bL ol rc fc kd st fr hE hL => ?_) 200 0 _ _ _ _ _ _ _ _ _ _ _ _ _ (by omega) (by omega) ⟨td_lt (os a), td_lt (os b), [], 0, 0, hB, CA, CB, td_CF_o ta (by omega) (Nat.le_trans (td_lt_le _) oa40), fun c hc => td_lt_m hc, td_NR_o ta.2.2.2.2.1 ma40 oa40, td_NR_o tb.2.2.2.2.1 mb40 ob40, ?_, ?_, ?_, ?_⟩⟩
  · unfold wX_carry_182
    have h5 : ol 5 = nI (td_cr z (ms a) 0 0 (os a) (os b)).length := hE.2.2.2.2.1
    rw [h5]
    have h80 : (td_cr z (ms a) 0 0 (os a) (os b)).length ≤ 80 := by
      have := td_OK_l hE.2.2.2.2.2.2.2.1
      omega
    have hbig : (td_cr z (ms a) 0 0 (os a) (os b)).length < 2 ^ 31 := by omega
    refine pk_le _ 40 (fun h40 => ?_) (fun h40 => ?_) rfl rfl hbig
    · refine xc_fin hS hW hu hw hE ob40 h40 ht fun il' ol' rc' fc' kd' st' fr' s1 s2 s3 => ?_
      refine ⟨vT, ?_⟩
      rw [cT, s3]
      exact K1 h40 _ _ _ _ _ _ _ _ _ _ _ _ _ _ _ s1 s2
    · exact K2 (by omega) h80 _ _ _ _ _ _ _ _ _ _ _ _ _ _ _ (td_SL_bs hE (by omega) hS) (td_TB_bs hE hW (by omega) (by omega) (by omega))
  · rw [td_rn_iR ta.2.2.2.2.1, td_rn_iR tb.2.2.2.2.1, he]
  · rw [td_rn_iR ta.2.2.2.2.1, td_rn_oR ta.2.2.2.2.1, td_rn_oR tb.2.2.2.2.1]; rfl
  · rw [td_rn_oR tb.2.2.2.2.1]; exact Nat.zero_add _
  · show 0 + (td_lt (os a)).length ≤ 40
    have := td_lt_le (os a)
    omega
end XCARRY
end
section
/-! apply and finish, the component's side -/
theorem td_g_rg {dl : List Nat} : ∀ {k p : Nat}, p + k ≤ dl.length → (td_rg p k).map (fun s => dl.getD s 0) = (dl.drop p).take k := by
  intro k
  induction k with
  | zero => intro p _; rfl
  | succ k ih =>
    intro p h
    have e : dl.getD p 0 = dl[p] := by
      rw [List.getD_eq_getElem?_getD, List.getElem?_eq_getElem (by omega)]
      rfl
    rw [td_rg, List.map_cons, e, List.drop_eq_getElem_cons (by omega), List.take_succ_cons, ih (by omega)]
theorem td_AL_dt {a : Nat → Int32} {l : List Nat} {b p k : Nat} (h : td_AL a b l) (hp : p + k ≤ l.length) : td_AL a (b + p) ((l.drop p).take k) := by
  rw [← List.take_append_drop p l] at h
  have h1 := (td_AL_ap.mp h).2
  rw [List.length_take, show min p l.length = p by omega, ← List.take_append_drop k (l.drop p)] at h1
  exact (td_AL_ap.mp h1).1
theorem td_iw_l {dl : List Nat} : ∀ {n p q : Nat} {l : List Nat}, (td_iw dl n p q l).length = n := by
  intro n
  induction n with
  | zero => intro p q l; rfl
  | succ n ih =>
    intro p q l
    rw [td_iw, td_iv_s, List.length_cons, ih]
theorem td_f_10 {dl G : List Nat} (h : ∀ c, c ∈ G → c < 10) : G.map (td_f dl) = G :=
  (List.map_congr_left fun z hz => if_pos (h z hz)).trans (List.map_id _)
section XAPP
variable {xu xl aD aR aL aF bD bR bL bF : Int32} {il ol rc fc kd st fr tx nx : Nat → Int32} {il0 ol0 rc0 fc0 kd0 st0 fr0 : Nat → Int32} {os : Nat → List Nat} {ms : Nat → Nat} {ow : List Nat} {mw uw : Nat}
theorem xy_co {post : SX → Prop} {p q k : Nat} (hp : p + k ≤ 40) (hq : q + k ≤ 40) (K : post (xu, xl, aD, aR, aL, aF, bD, bR, bL, bF, il, ol, rc, fc, kd, st, fr, tx, td_cp nx tx p q k)) : ∀ N i : Nat, k < N + i → i ≤ k → wX_carryOver_3 post (nI p) (nI q) (nI k) xu xl aD aR aL aF bD bR bL bF N (nI i) il ol rc fc kd st fr tx (td_cp nx tx p q i) := by
  intro N
  induction N with
  | zero => intro i h1 h2; omega
  | succ N ih =>
    intro i h1 h2
    rw [wX_carryOver_3]
    refine pk_le k i (fun h => ?_) (fun h => ?_)
    · have e : i = k := by omega
      subst e
      exact K
    · have c1 : (nI (p + i)).toNatClampNeg = p + i := nI_clamp (by omega)
      have c2 : (nI (q + i)).toNatClampNeg = q + i := nI_clamp (by omega)
      rw [nI_add, nI_add, c1, c2, td_cp_s]
      refine ⟨vp_in_nI (by omega) (by omega), vp_in_nI (by omega) (by omega), fun a ea => fun y ey => ?_⟩
      subst ea ey
      rw [nI_1]
      exact ih (i + 1) (by omega) (by omega)
theorem xy_carryOver {post : SX → Prop} {p q k : Nat} (hp : p + k ≤ 40) (hq : q + k ≤ 40) (K : post (xu, xl, aD, aR, aL, aF, bD, bR, bL, bF, il, ol, rc, fc, kd, st, fr, tx, td_cp nx tx p q k)) : wpX_carryOver post (xu, xl, aD, aR, aL, aF, bD, bR, bL, bF, il, ol, rc, fc, kd, st, fr, tx, nx) (nI p) (nI q) (nI k) := by
  have := xy_co hp hq K (k + 1) 0 (by omega) (by omega)
  rw [td_cp_0] at this
  exact ⟨k + 1, this⟩
theorem xy_bi {post : SX → Prop} {p q k : Nat} (hp : p + k ≤ 240) (hq : q + k ≤ 40) (K : post (xu, xl, aD, aR, aL, aF, bD, bR, bL, bF, il, ol, rc, fc, kd, st, fr, tx, td_cp nx fr p q k)) : ∀ N i : Nat, k < N + i → i ≤ k → wX_bringIn_3 post (nI p) (nI q) (nI k) xu xl aD aR aL aF bD bR bL bF N (nI i) il ol rc fc kd st fr tx (td_cp nx fr p q i) := by
  intro N
  induction N with
  | zero => intro i h1 h2; omega
  | succ N ih =>
    intro i h1 h2
    rw [wX_bringIn_3]
    refine pk_le k i (fun h => ?_) (fun h => ?_)
    · have e : i = k := by omega
      subst e
      exact K
    · have c1 : (nI (p + i)).toNatClampNeg = p + i := nI_clamp (by omega)
      have c2 : (nI (q + i)).toNatClampNeg = q + i := nI_clamp (by omega)
      rw [nI_add, nI_add, c1, c2, td_cp_s]
      refine ⟨vp_in_nI (by omega) (by omega), vp_in_nI (by omega) (by omega), fun a ea => fun y ey => ?_⟩
      subst ea ey
      rw [nI_1]
      exact ih (i + 1) (by omega) (by omega)
theorem xy_bringIn {post : SX → Prop} {p q k : Nat} (hp : p + k ≤ 240) (hq : q + k ≤ 40) (K : post (xu, xl, aD, aR, aL, aF, bD, bR, bL, bF, il, ol, rc, fc, kd, st, fr, tx, td_cp nx fr p q k)) : wpX_bringIn post (xu, xl, aD, aR, aL, aF, bD, bR, bL, bF, il, ol, rc, fc, kd, st, fr, tx, nx) (nI p) (nI q) (nI k) := by
  have := xy_bi hp hq K (k + 1) 0 (by omega) (by omega)
  rw [td_cp_0] at this
  exact ⟨k + 1, this⟩
theorem xy_gb {post : SX → Prop} {m u f k : Nat} {oT : List Nat} (hf : f + k ≤ 40) (hu : u ≤ 60)
    (K : ∀ ol' rc' fc' kd' st' fr' : Nat → Int32, td_BS il0 ol0 rc0 fc0 kd0 st0 fr0 il ol' rc' fc' kd' st' fr' 5 m oT u → post (xu, xl, aD, aR, aL, aF, bD, bR, bL, bF, il, ol', rc', fc', kd', st', fr', tx, nx)) :
    ∀ (N i : Nat) (G o : List Nat) (ol rc fc kd st fr : Nat → Int32), k < N + i → i + G.length = k → td_AL tx (f + i) G → (∀ c, c ∈ G → c < 10) → td_BS il0 ol0 rc0 fc0 kd0 st0 fr0 il ol rc fc kd st fr 5 m o u → (td_lt o).length + G.length ≤ 40 → o ++ G = oT → wX_giveBack_2 post (nI f) (nI k) N (nI i) xu xl aD aR aL aF bD bR bL bF il ol rc fc kd st fr tx nx := by
  intro N
  induction N with
  | zero => intro i G o ol rc fc kd st fr h1 h2; omega
  | succ N ih =>
    intro i G o ol rc fc kd st fr h1 h2 h3 h4 hB h5 h6
    rw [wX_giveBack_2]
    refine pk_le k i (fun g => ?_) (fun g => ?_)
    · have e : G = [] := List.length_eq_zero_iff.mp (by omega)
      subst e
      rw [List.append_nil] at h6
      subst h6
      exact K _ _ _ _ _ _ hB
    · cases G with
      | nil => rw [List.length_nil] at h2; omega
      | cons g0 G =>
        rw [List.length_cons] at h2 h5
        have e1 : nI f + nI i = nI (f + i) := nI_add f i
        have c1 : (nI (f + i)).toNatClampNeg = f + i := nI_clamp (by omega)
        rw [e1, c1, h3.1]
        have hg : g0 < 10 := h4 g0 (by simp)
        refine ⟨vp_in_nI (by omega) (by omega), xp_add (d := 5) (by omega) hg hB (by omega) (by omega) fun ol' rc' fc' kd' st' fr' hB' => ?_⟩
        refine nm_r (nI_1 i) (ih (i + 1) G (o ++ [g0]) ol' rc' fc' kd' st' fr' (by omega) (by omega) h3.2 (fun c hc => h4 c (by simp [hc])) hB' ?_ ?_)
        · rw [td_lt_ap, td_lt_10 hg, List.length_append, List.length_cons, List.length_nil]; omega
        · rw [List.append_assoc]; exact h6
theorem xy_59 {post : Int32 → SX → Prop} {s : Nat} {x2 : Int32} {oS dl tgt : List Nat} (hs : s < 4) (hS40 : oS.length ≤ 40) (hd40 : dl.length ≤ 40) (hdl : ∀ c, c ∈ dl → c < 10) (htx : td_AL tx 0 dl)
    (KE : ∀ (ol rc fc kd st fr nx : Nat → Int32), td_BS il0 ol0 rc0 fc0 kd0 st0 fr0 il ol rc fc kd st fr 5 oS.length tgt oS.length → td_AL nx 0 (oS.map (td_f dl)) → ∃ n, wX_apply_196 post x2 (nI oS.length) xu xl aD aR aL aF bD bR bL bF n 0 il ol rc fc kd st fr tx nx) :
    ∀ (N i p f q : Nat) (R : List (Nat × Nat)) (F pre o : List Nat) (ol rc fc kd st fr nx : Nat → Int32), R.length < N → i + R.length ≤ 64 → rc0 s = nI (i + R.length) → td_AL kd0 (s * 64 + i) (R.map Prod.fst) → td_AL st0 (s * 64 + i) (R.map Prod.snd) → td_AL fr0 f F → f + F.length ≤ 200 → (∀ c, c ∈ F → c < 10) → td_NR R F → pre ++ td_oR R F p = oS → pre.length = q → td_AL nx 0 (pre.map (td_f dl)) → td_BS il0 ol0 rc0 fc0 kd0 st0 fr0 il ol rc fc kd st fr 5 oS.length o q → o ++ td_iw dl (td_iR R) p q (td_oR R F p) = tgt → o.length = p → p + td_iR R = dl.length →
      wX_apply_59 post (nI s) x2 N (nI p) (nI f) (nI q) (nI i) xu xl aD aR aL aF bD bR bL bF il ol rc fc kd st fr tx nx := by
  have c : (nI s).toNatClampNeg = s := nI_clamp (by omega)
  have v : vp_in (nI s) 6 := vp_in_nI (by omega) (by omega)
  intro N
  induction N with
  | zero => intro i p f q R F pre o ol rc fc kd st fr nx h; omega
  | succ N ih =>
    intro i p f q R F pre o ol rc fc kd st fr nx h1 h2 h3 h4 h5 h6 h7 h8 h9 h10 h11 h12 hB h13 h14 h15
    have e1 : rc s = nI (i + R.length) := (hB.1 s (by omega)).2.2.1.trans h3
    have hpl := congrArg List.length h10
    rw [List.length_append] at hpl
    have hlo := td_lt_le o
    rw [wX_apply_59]
    dsimp only
    rw [c, e1]
    refine ⟨v, pk_le (i + R.length) i (fun g => ?_) (fun g => ?_)⟩
    · have e : R = [] := List.length_eq_zero_iff.mp (by omega)
      subst e
      have eo : o = tgt := by rw [← h13]; exact (List.append_nil o).symm
      have ep : pre = oS := by rw [← h10]; exact (List.append_nil pre).symm
      subst eo ep
      subst h11
      exact KE ol rc fc kd st fr nx hB h12
    · cases R with
      | nil => rw [List.length_nil] at g; omega
      | cons x t =>
        obtain ⟨cc, n⟩ := x
        rw [List.length_cons] at h1 h2
        have hh := td_NR_hd h9
        have hNt := td_NR_tk (Nat.le_refl n) h9
        have et : td_tk n ((cc, n) :: t) = t := if_pos rfl
        rw [et] at hNt
        have hn2 := td_NR_n h9
        have c1 : (nI (s * 64 + i)).toNatClampNeg = s * 64 + i := nI_clamp (by omega)
        have w : vp_in (nI (s * 64 + i)) 448 := vp_in_nI (by omega) (by omega)
        have r1 : kd (s * 64 + i) = nI cc := (hB.2.1 (s * 64 + i) (by omega)).1.trans h4.1
        have r2 : st (s * 64 + i) = nI n := (hB.2.1 (s * 64 + i) (by omega)).2.trans h5.1
        have h3' : rc0 s = nI (i + 1 + t.length) := by
          rw [h3]; exact congrArg nI (by simp only [List.length_cons]; omega)
        rw [td_64, c1, r1, r2]
        refine ⟨w, fun k1 ek1 => ⟨w, fun k2 ek2 => ?_⟩⟩
        subst ek1 ek2
        refine pk_eq cc 1 (fun hc => ?_) (fun hc => pk_eq cc 2 (fun hc2 => ?_) (fun hc2 => ?_))
        · subst hc
          have ei : td_iR ((1, n) :: t) = n + td_iR t := rfl
          have hol : (td_oR ((1, n) :: t) F p).length = n + (td_oR t F (p + n)).length := by rw [td_oR_1, List.length_append, td_rg_l]
          rw [ei, td_iw_k1, ← List.append_assoc] at h13
          rw [td_oR_1, ← List.append_assoc] at h10
          rw [ei] at h15
          refine xy_carryOver (by omega) (by omega) ?_
          refine xp_keep (d := 5) (by omega) hB (by omega) (by omega) fun ol' rc' kd' st' hB' => ?_
          refine nm_r (nI_add p n) (nm_r (nI_add q n) (nm_r (nI_1 i) ?_))
          refine ih (i + 1) (p + n) f (q + n) t F (pre ++ td_rg (10 + p) n) _ ol' rc' fc kd' st' fr _ (by omega) (by omega) h3' h4.2 h5.2 h6 h7 h8 hNt h10 (by rw [List.length_append, td_rg_l, h11]) ?_ hB' h13 (by rw [List.length_append, td_rg_l, h14]) (by omega)
          rw [List.map_append, td_AL_ap, List.length_map, Nat.zero_add, td_f_rg (by omega)]
          refine ⟨td_AL_fr (fun j _ hj => td_cp_o ?_) h12, ?_⟩
          · rw [List.length_map] at hj; omega
          · rw [h11]
            have := td_AL_dt (p := p) (k := n) htx (by omega)
            rw [Nat.zero_add] at this
            exact td_cp_AL this (by rw [List.length_take]; omega)
        · subst hc2
          have ei : td_iR ((2, n) :: t) = n + td_iR t := rfl
          rw [ei, td_iw_k2 hn2, ← List.append_assoc] at h13
          rw [td_oR_2] at h10
          rw [ei] at h15
          rw [td_g_rg (by omega)] at h13
          have hG : ((dl.drop p).take n).length = n := by rw [List.length_take, List.length_drop]; omega
          have hAL := td_AL_dt (p := p) (k := n) htx (by omega)
          rw [Nat.zero_add] at hAL
          refine ⟨n + 1, xy_gb (f := p) (oT := o ++ (dl.drop p).take n) (by omega) (by omega) (fun ol' rc' fc' kd' st' fr' hB' => ?_) (n + 1) 0 ((dl.drop p).take n) o ol rc fc kd st fr (by omega) (by omega) hAL (fun c hc => hdl c (List.mem_of_mem_drop (List.mem_of_mem_take hc))) hB (by omega) rfl⟩
          refine nm_r (nI_add p n) (nm_r (nI_1 i) ?_)
          exact ih (i + 1) (p + n) f q t F pre _ ol' rc' fc' kd' st' fr' nx (by omega) (by omega) h3' h4.2 h5.2 h6 h7 h8 hNt h10 h11 h12 hB' h13 (by rw [List.length_append, hG, h14]) (by omega)
        · have hc3 : cc = 3 := by omega
          subst hc3
          have ei : td_iR ((3, n) :: t) = td_iR t := Nat.zero_add _
          have hnF := hh.2.2.2.2.1 rfl
          have hkF : (F.take n).length = n := by rw [List.length_take]; omega
          have hG10 : ∀ c, c ∈ F.take n → c < 10 := fun c hc => h8 c (List.mem_of_mem_take hc)
          have hol : (td_oR ((3, n) :: t) F p).length = n + (td_oR t (F.drop n) p).length := by rw [td_oR_3, List.length_append, hkF]
          rw [ei, td_oR_3, td_iw_A hG10, hkF] at h13
          rw [td_oR_3, ← List.append_assoc] at h10
          rw [ei] at h15
          refine xy_bringIn (by omega) (by omega) ?_
          refine xp_drop (d := 5) (by omega) hB (by omega) (by omega) fun rc' kd' st' hB' => ?_
          refine nm_r (nI_add f n) (nm_r (nI_add q n) (nm_r (nI_1 i) ?_))
          have hF2 : td_AL fr0 f (F.take n) ∧ td_AL fr0 (f + n) (F.drop n) := by
            rw [← List.take_append_drop n F] at h6
            have := td_AL_ap.mp h6
            rw [hkF] at this
            exact this
          refine ih (i + 1) p (f + n) (q + n) t (F.drop n) (pre ++ F.take n) _ ol rc' fc kd' st' fr _ (by omega) (by omega) h3' h4.2 h5.2 hF2.2 (by rw [List.length_drop]; omega) (fun c hc => h8 c (List.mem_of_mem_drop hc)) hNt h10 (by rw [List.length_append, hkF, h11]) ?_ hB' h13 h14 h15
          rw [List.map_append, td_AL_ap, List.length_map, Nat.zero_add, td_f_10 hG10]
          refine ⟨td_AL_fr (fun j _ hj => td_cp_o ?_) h12, ?_⟩
          · rw [List.length_map] at hj; omega
          · rw [h11]
            exact td_cp_AL (td_AL_fr (fun j _ hj => hB.2.2.1 j (by omega)) hF2.1) (by omega)
theorem xy_196 {post : Int32 → SX → Prop} {x2 : Int32} {q : Nat} (hq : q ≤ 40) (K : wpX_copy (fun u => match u with | (xu, xl, aD, aR, aL, aF, bD, bR, bL, bF, il, ol, rc, fc, kd, st, fr, tx, nx) => post xl (xu, xl, aD, aR, aL, aF, bD, bR, bL, bF, il, ol, rc, fc, kd, st, fr, tx, nx)) (xu, nI q, aD, aR, aL, aF, bD, bR, bL, bF, il, ol, rc, fc, kd, st, fr, td_cp tx nx 0 0 q, nx) 5 x2) : ∀ N i : Nat, q < N + i → i ≤ q → wX_apply_196 post x2 (nI q) xu xl aD aR aL aF bD bR bL bF N (nI i) il ol rc fc kd st fr (td_cp tx nx 0 0 i) nx := by
  intro N
  induction N with
  | zero => intro i h1 h2; omega
  | succ N ih =>
    intro i h1 h2
    rw [wX_apply_196]
    refine pk_le q i (fun h => ?_) (fun h => ?_)
    · have e : i = q := by omega
      subst e
      exact K
    · have c1 : (nI i).toNatClampNeg = i := nI_clamp (by omega)
      rw [c1]
      have es : upd (td_cp tx nx 0 0 i) i (nx i) = td_cp tx nx 0 0 (i + 1) := by
        have := td_cp_s (a := tx) (b := nx) (s := 0) (t := 0) (i := i)
        rw [Nat.zero_add] at this
        exact this
      rw [es]
      refine ⟨vp_in_nI (by omega) (by omega), vp_in_nI (by omega) (by omega), fun a ea => fun y ey => ?_⟩
      subst ea ey
      rw [nI_1]
      exact ih (i + 1) (by omega) (by omega)
theorem xy_apply {post : Int32 → SX → Prop} {s t : Nat} {dl : List Nat} (hs : s < 4) (ht : t < 4) (hS : td_SL il ol rc fc kd st fr os ms) (hW : td_TB il ol rc fc kd st fr 4 mw ow uw) (hu : uw ≤ 40) (hw : ow.length ≤ 40) (he : dl.length = ms s) (hdl : ∀ c, c ∈ dl → c < 10) (hl : xl = nI dl.length) (htx : td_AL tx 0 dl)
    (K : ∀ (il ol rc fc kd st fr tx nx : Nat → Int32), td_SL il ol rc fc kd st fr (td_up os t (td_iw dl (ms s) 0 0 (os s))) (td_up ms t (os s).length) → td_TB il ol rc fc kd st fr 4 mw ow uw → td_AL tx 0 ((os s).map (td_f dl)) → post (nI (os s).length) (xu, nI (os s).length, aD, aR, aL, aF, bD, bR, bL, bF, il, ol, rc, fc, kd, st, fr, tx, nx)) : wpX_apply post (xu, xl, aD, aR, aL, aF, bD, bR, bL, bF, il, ol, rc, fc, kd, st, fr, tx, nx) (nI s) (nI t) := by
  obtain ⟨ta, ma40, oa40⟩ := hS s hs
  have ra := td_rn_60 ta.2.2.2.2.1 ma40 oa40
  have cS : (nI s).toNatClampNeg = s := nI_clamp (by omega)
  have vS : vp_in (nI s) 6 := vp_in_nI (by omega) (by omega)
  unfold wpX_apply
  dsimp only
  refine xs_slot1 hs (br_f td_n10 ?_)
  refine xs_slot1 ht (br_f td_n10 ?_)
  rw [cS, ta.1, ta.2.1, hl, he]
  refine ⟨vS, br_t rfl ⟨vS, ?_⟩⟩
  refine xw_wipe (d := 5) (by omega) fun il' ol' rc' fc' hB => ?_
  rw [td_m40]
  refine nm_e ⟨100, ?_⟩
  have hF := td_CF_o ta (by omega) (Nat.le_trans (td_lt_le _) oa40)
  refine xy_59 (oS := os s) (dl := dl) (tgt := td_iw dl (ms s) 0 0 (os s)) hs oa40 (by omega) hdl htx (fun ol rc fc kd st fr nx hE hx => ?_) 100 0 0 (s * 40) 0 (td_rn (os s) (ms s)) (td_lt (os s)) [] [] ol' rc' fc' kd st fr nx (by omega) (by omega) (by rw [Nat.zero_add]; exact ta.2.2.2.2.2.1) ta.2.2.2.2.2.2.1 ta.2.2.2.2.2.2.2 ta.2.2.2.1 ?_ (fun c hc => td_lt_m hc) (td_NR_o ta.2.2.2.2.1 ma40 oa40) (td_rn_oR ta.2.2.2.2.1) rfl trivial hB ?_ rfl ?_
  · have h := xy_196 (post := post) (x2 := nI t) (q := (os s).length) (tx := tx) (nx := nx) (xu := xu) (xl := nI (ms s)) (aD := aD) (aR := aR) (aL := aL) (aF := aF) (bD := bD) (bR := bR) (bL := bL) (bF := bF) (il := il') (ol := ol) (rc := rc) (fc := fc) (kd := kd) (st := st) (fr := fr) oa40 ?_ ((os s).length + 1) 0 (by omega) (by omega)
    · rw [td_cp_0] at h
      exact ⟨_, h⟩
    · refine xc_fin hS hW hu hw hE oa40 (by rw [td_iw_l]; exact ma40) ht fun il' ol' rc' fc' kd' st' fr' s1 s2 s3 => ?_
      exact K _ _ _ _ _ _ _ _ _ s1 s2 (td_cp_AL hx (by rw [List.length_map]; exact Nat.le_refl _))
  · have := td_lt_le (os s); omega
  · rw [td_rn_iR ta.2.2.2.2.1, td_rn_oR ta.2.2.2.2.1]; rfl
  · rw [td_rn_iR ta.2.2.2.2.1, he]; exact Nat.zero_add _
theorem xf_finish {post : Int32 → SX → Prop} {t : Nat} (ht : t < 4) (hS : td_SL il ol rc fc kd st fr os ms) (hW : td_TB il ol rc fc kd st fr 4 mw ow uw) (hu : uw ≤ mw) (hm : mw ≤ 40) (hw : ow.length ≤ 40) (hx : xu = nI uw)
    (K1 : ow.length + (mw - uw) ≤ 40 → ∀ (il ol rc fc kd st fr : Nat → Int32), td_SL il ol rc fc kd st fr (td_up os t (ow ++ td_rg (10 + uw) (mw - uw))) (td_up ms t mw) → td_TB il ol rc fc kd st fr 4 mw ow uw → post (nI (ow.length + (mw - uw))) (xu, xl, aD, aR, aL, aF, bD, bR, bL, bF, il, ol, rc, fc, kd, st, fr, tx, nx))
    (K2 : ¬ ow.length + (mw - uw) ≤ 40 → post (-2) (xu, xl, aD, aR, aL, aF, bD, bR, bL, bF, il, ol, rc, fc, kd, st, fr, tx, nx)) : wpX_finish post (xu, xl, aD, aR, aL, aF, bD, bR, bL, bF, il, ol, rc, fc, kd, st, fr, tx, nx) (nI t) := by
  have r60 := td_rn_60 hW.2.2.2.2.1 (by omega) hw
  have lw := td_lt_le ow
  have cT : (nI t).toNatClampNeg = t := nI_clamp (by omega)
  have vT : vp_in (nI t) 6 := vp_in_nI (by omega) (by omega)
  unfold wpX_finish
  dsimp only
  refine xs_slot1 ht (br_f td_n10 ?_)
  rw [hW.1, hW.2.1, hx, pk_sub hu]
  refine nm_e ?_
  rw [nI_add]
  rw [hx] at K1 K2
  refine pk_le (ow.length + (mw - uw)) 40 (fun h => ?_) (fun h => K2 (by omega))
  refine xc_copy (f := 4) (t := 5) (n := (td_rn ow uw).length) (m := (td_lt ow).length) (by omega) (by omega) (by omega) (by omega) (by omega) hW.2.2.2.2.2.1 hW.2.2.1 ?_
  have hB : td_BS il ol rc fc kd st fr (upd il 5 (il 4)) (upd ol 5 (ol 4)) (upd rc 5 (rc 4)) (upd fc 5 (fc 4)) (td_cp kd kd (4 * 64) (5 * 64) (td_rn ow uw).length) (td_cp st st (4 * 64) (5 * 64) (td_rn ow uw).length) (td_cp fr fr (4 * 40) (5 * 40) (td_lt ow).length) 5 mw ow uw :=
    ⟨fun e he => ⟨pk_un (by omega), pk_un (by omega), pk_un (by omega), pk_un (by omega)⟩, fun j hj => ⟨td_cp_o (by omega), td_cp_o (by omega)⟩, fun j hj => td_cp_o (by omega), td_TB_to hW⟩
  refine xp_keep (d := 5) (by omega) hB (by omega) (by omega) fun ol' rc' kd' st' hB' => ?_
  rw [show uw + (mw - uw) = mw by omega] at hB'
  have hlen : (ow ++ td_rg (10 + uw) (mw - uw)).length = ow.length + (mw - uw) := by rw [List.length_append, td_rg_l]
  refine xc_fin hS hW (by omega) hw hB' hm (by omega) ht fun il' ol' rc' fc' kd' st' fr' s1 s2 s3 => ?_
  dsimp only
  refine ⟨vT, ?_⟩
  rw [cT, s3, hlen]
  exact K1 h _ _ _ _ _ _ _ s1 s2
end XAPP
end
section
/-! the reference's scans, pure -/
/-- kept places grow, from b on -/
def td_so : Nat → List Nat → Prop
  | _, [] => True
  | b, c :: l => if c < 10 then td_so b l else 10 + b ≤ c ∧ td_so (c - 10 + 1) l
theorem td_so_m : ∀ {l : List Nat} {b b' : Nat}, b' ≤ b → td_so b l → td_so b' l := by
  intro l
  induction l with
  | nil => intro b b' _ _; trivial
  | cons c l ih =>
    intro b b' h hs
    rw [td_so] at hs ⊢
    by_cases hc : c < 10
    · rw [if_pos hc] at hs ⊢; exact ih h hs
    · rw [if_neg hc] at hs ⊢; exact ⟨by omega, hs.2⟩
theorem td_so_ap : ∀ {G l : List Nat} {b : Nat}, (∀ c, c ∈ G → c < 10) → td_so b l → td_so b (G ++ l) := by
  intro G
  induction G with
  | nil => intro l b _ h; exact h
  | cons c G ih =>
    intro l b h hs
    rw [List.cons_append, td_so, if_pos (h c (by simp))]
    exact ih (fun x hx => h x (by simp [hx])) hs
theorem td_so_rg : ∀ {n b : Nat} {l : List Nat}, td_so (b + n) l → td_so b (td_rg (10 + b) n ++ l) := by
  intro n
  induction n with
  | zero => intro b l h; exact h
  | succ n ih =>
    intro b l h
    rw [td_rg, List.cons_append, td_so, if_neg (by omega), show 10 + b - 10 + 1 = b + 1 by omega, show 10 + b + 1 = 10 + (b + 1) by omega]
    exact ⟨Nat.le_refl _, ih (by rw [show b + 1 + n = b + (n + 1) by omega]; exact h)⟩
theorem td_so_oR : ∀ (R : List (Nat × Nat)) (F : List Nat) (p : Nat), (∀ c, c ∈ F → c < 10) → td_so p (td_oR R F p) := by
  intro R
  induction R with
  | nil => intro F p _; trivial
  | cons x t ih =>
    intro F p h
    rw [td_oR]
    split
    · exact td_so_rg (ih F _ h)
    · split
      · exact td_so_m (Nat.le_add_right _ _) (ih F _ h)
      · exact td_so_ap (fun c hc => h c (List.mem_of_mem_take hc)) (ih _ p (fun c hc => h c (List.mem_of_mem_drop hc)))
theorem td_oR_lt : ∀ (R : List (Nat × Nat)) (F : List Nat) (p : Nat), (∀ c, c ∈ F → c < 10) → ∀ x, x ∈ td_oR R F p → x < 10 + (p + td_iR R) := by
  intro R
  induction R with
  | nil => intro F p _ x hx; exact absurd hx (by simp [td_oR])
  | cons a t ih =>
    obtain ⟨c, n⟩ := a
    intro F p h x hx
    rw [td_oR] at hx
    rw [td_iR]
    dsimp only at hx ⊢
    by_cases e1 : c = 1
    · rw [if_pos e1] at hx ⊢
      rcases List.mem_append.mp hx with hx | hx
      · have := td_rg_m.mp hx; omega
      · have := ih F (p + n) h x hx; omega
    · rw [if_neg e1] at hx ⊢
      by_cases e2 : c = 2
      · rw [if_pos e2] at hx ⊢
        have := ih F (p + n) h x hx; omega
      · rw [if_neg e2] at hx ⊢
        rcases List.mem_append.mp hx with hx | hx
        · have := h x (List.mem_of_mem_take hx); omega
        · have := ih (F.drop n) p (fun c hc => h c (List.mem_of_mem_drop hc)) x hx; omega
theorem td_OK_so {o : List Nat} {u : Nat} (h : td_OK o u) : td_so 0 o := by
  have := td_so_oR (td_rn o u) (td_lt o) 0 (fun c hc => td_lt_m hc)
  rw [td_rn_oR h] at this
  exact this
theorem td_OK_lt {o : List Nat} {u : Nat} (h : td_OK o u) : ∀ x, x ∈ o → x < 10 + u := by
  intro x hx
  have := td_oR_lt (td_rn o u) (td_lt o) 0 (fun c hc => td_lt_m hc) x
  rw [td_rn_oR h, td_rn_iR h, Nat.zero_add] at this
  exact this hx
theorem td_so_el : ∀ {l : List Nat} {b : Nat}, td_so b l → ∀ c, c ∈ l → c < 10 ∨ 10 + b ≤ c := by
  intro l
  induction l with
  | nil => intro b _ c hc; exact absurd hc (by simp)
  | cons x l ih =>
    intro b h c hc
    rw [td_so] at h
    by_cases hx : x < 10
    · rw [if_pos hx] at h
      rcases List.mem_cons.mp hc with rfl | hc
      · exact Or.inl hx
      · exact ih h c hc
    · rw [if_neg hx] at h
      rcases List.mem_cons.mp hc with rfl | hc
      · exact Or.inr h.1
      · rcases ih h.2 c hc with g | g
        · exact Or.inl g
        · exact Or.inr (by omega)
theorem td_so_af : ∀ {l : List Nat} {b : Nat}, td_so b l → td_so b (td_af l) := by
  intro l
  induction l with
  | nil => intro b h; exact h
  | cons c l ih =>
    intro b h
    rw [td_af]
    by_cases hc : c < 10
    · rw [if_pos hc]
      rw [td_so, if_pos hc] at h
      exact ih h
    · rw [if_neg hc]; exact h
/-- the gap behind the first items -/
def td_gv : Nat → List Nat → Nat
  | g, [] => g
  | g, c :: l => td_gv (if c < 10 then g else c - 10 + 1) l
theorem td_gv_ap : ∀ {l m : List Nat} {g : Nat}, td_gv g (l ++ m) = td_gv (td_gv g l) m := by
  intro l
  induction l with
  | nil => intro m g; rfl
  | cons c l ih => intro m g; exact ih
theorem td_gv_le : ∀ {l : List Nat} {g : Nat}, (∀ c, c ∈ l → c < 50) → g ≤ 41 → td_gv g l ≤ 41 := by
  intro l
  induction l with
  | nil => intro g _ h; exact h
  | cons c l ih =>
    intro g h hg
    refine ih (fun x hx => h x (by simp [hx])) ?_
    have := h c (by simp)
    split <;> omega
/-- the new items of gap t: as they are (kp 0), or as kept places -/
def td_gx (t kp : Nat) : Nat → Nat → List Nat → List Nat
  | _, _, [] => []
  | i, g, c :: l => if c < 10 then (if g = t then (if kp = 0 then c else 10 + i) :: td_gx t kp (i + 1) g l else td_gx t kp (i + 1) g l) else td_gx t kp (i + 1) (c - 10 + 1) l
theorem td_gx_ap {t kp : Nat} {m : List Nat} : ∀ {l : List Nat} {i g : Nat}, td_gx t kp i g (l ++ m) = td_gx t kp i g l ++ td_gx t kp (i + l.length) (td_gv g l) m := by
  intro l
  induction l with
  | nil => intro i g; rfl
  | cons c l ih =>
    intro i g
    rw [List.cons_append, td_gx, td_gx, td_gv, List.length_cons]
    by_cases hc : c < 10
    · rw [if_pos hc, if_pos hc, if_pos hc, ih, show i + 1 + l.length = i + (l.length + 1) by omega]
      split <;> rfl
    · rw [if_neg hc, if_neg hc, if_neg hc, ih, show i + 1 + l.length = i + (l.length + 1) by omega]
theorem td_gx_hi {t kp : Nat} : ∀ {l : List Nat} {i g : Nat}, (∀ c, c ∈ l → c < 10 ∨ 10 + t ≤ c) → t < g → td_gx t kp i g l = [] := by
  intro l
  induction l with
  | nil => intro i g _ _; rfl
  | cons c l ih =>
    intro i g h hg
    rw [td_gx]
    have h' : ∀ x, x ∈ l → x < 10 ∨ 10 + t ≤ x := fun x hx => h x (by simp [hx])
    by_cases hc : c < 10
    · rw [if_pos hc, if_neg (by omega)]; exact ih h' hg
    · rw [if_neg hc]
      exact ih h' (by have := h c (by simp); omega)
theorem td_gx_af {t kp i g b : Nat} {l : List Nat} (h : td_nw l = []) (hs : td_so b l) (hb : t ≤ b) : td_gx t kp i g l = [] := by
  cases l with
  | nil => rfl
  | cons c l =>
    rw [td_nw] at h
    by_cases hc : c < 10
    · rw [if_pos hc] at h; exact absurd h (by simp)
    · rw [td_so, if_neg hc] at hs
      rw [td_gx, if_neg hc]
      exact td_gx_hi (fun x hx => by rcases td_so_el hs.2 x hx with g | g <;> omega) (by omega)
theorem td_gx_G {t kp : Nat} : ∀ {G : List Nat} {i : Nat}, (∀ c, c ∈ G → c < 10) → td_gx t kp i t G = if kp = 0 then G else td_rg (10 + i) G.length := by
  intro G
  induction G with
  | nil => intro i _; rw [td_gx]; split <;> rfl
  | cons c G ih =>
    intro i h
    rw [td_gx, if_pos (h c (by simp)), if_pos rfl, ih (fun x hx => h x (by simp [hx]))]
    by_cases hk : kp = 0
    · rw [if_pos hk, if_pos hk, if_pos hk]
    · rw [if_neg hk, if_neg hk, if_neg hk, List.length_cons, td_rg, show 10 + (i + 1) = 10 + i + 1 by omega]
theorem td_gx_N {t kp g : Nat} (hg : g ≠ t) : ∀ {G : List Nat} {i : Nat}, (∀ c, c ∈ G → c < 10) → td_gx t kp i g G = [] := by
  intro G
  induction G with
  | nil => intro i _; rfl
  | cons c G ih =>
    intro i h
    rw [td_gx, if_pos (h c (by simp)), if_neg hg]
    exact ih (fun x hx => h x (by simp [hx]))
theorem td_gv_G : ∀ {G : List Nat} {g : Nat}, (∀ c, c ∈ G → c < 10) → td_gv g G = g := by
  intro G
  induction G with
  | nil => intro g _; rfl
  | cons c G ih =>
    intro g h
    rw [td_gv, if_pos (h c (by simp))]
    exact ih (fun x hx => h x (by simp [hx]))
/-- the block of gap t at the head of l -/
def td_bk (kp i : Nat) (G : List Nat) : List Nat := if kp = 0 then G else td_rg (10 + i) G.length
/-- between the steps: pa done (gaps up to p), ra to come -/
def td_YI (p : Nat) (pa ra : List Nat) : Prop := (∀ t kp, p < t → td_gx t kp 0 0 pa = []) ∧ td_so p ra ∧ td_nw ra = [] ∧ (∀ c, c ∈ pa → c < 10 + p)
def td_pr (p : Nat) (pa ra : List Nat) : List Nat := pa ++ (if td_hd ra = 10 + p then [10 + p] else [])
theorem td_YI_0 {o : List Nat} (h : td_so 0 o) : (∀ kp, td_gx 0 kp 0 0 o = td_bk kp 0 (td_nw o)) ∧ td_YI 0 (td_nw o) (td_af o) := by
  have h10 : ∀ c, c ∈ td_nw o → c < 10 := fun c hc => td_nw_m hc
  refine ⟨fun kp => ?_, fun t kp ht => td_gx_N (by omega) h10, td_so_af h, td_nw_nw o, fun c hc => by have := h10 c hc; omega⟩
  conv => lhs; rw [← td_nw_af o]
  rw [td_gx_ap, td_gx_af (td_nw_nw o) (td_so_af h) (Nat.le_refl 0), List.append_nil, td_gx_G h10]
  rfl
theorem td_ra_c {p : Nat} {ra : List Nat} (hs : td_so p ra) (hn : td_nw ra = []) : (∃ l, ra = (10 + p) :: l ∧ td_hd ra = 10 + p ∧ td_ad p ra = l ∧ td_so (p + 1) l) ∨ (td_hd ra ≠ 10 + p ∧ td_ad p ra = ra ∧ td_so (p + 1) ra) := by
  cases ra with
  | nil => exact Or.inr ⟨by rw [td_hd]; omega, by rw [td_ad]; split <;> rfl, trivial⟩
  | cons c l =>
    rw [td_nw] at hn
    by_cases hc : c < 10
    · rw [if_pos hc] at hn; exact absurd hn (by simp)
    · rw [td_so, if_neg hc] at hs
      by_cases e : c = 10 + p
      · subst e
        refine Or.inl ⟨l, rfl, rfl, if_pos rfl, ?_⟩
        rw [show 10 + p - 10 + 1 = p + 1 by omega] at hs
        exact hs.2
      · refine Or.inr ⟨e, if_neg e, ?_⟩
        rw [td_so, if_neg hc]
        exact ⟨by omega, hs.2⟩
theorem td_YI_s {p : Nat} {pa ra : List Nat} (h : td_YI p pa ra) : pa ++ ra = td_pr p pa ra ++ td_ad p ra ∧ (td_pr p pa ra).length = pa.length + (if td_hd ra = 10 + p then 1 else 0) ∧ (∀ kp, td_gx (p + 1) kp 0 0 (pa ++ ra) = td_bk kp (td_pr p pa ra).length (td_nw (td_ad p ra))) ∧ td_YI (p + 1) (td_pr p pa ra ++ td_nw (td_ad p ra)) (td_af (td_ad p ra)) := by
  obtain ⟨h1, h2, h3, h4⟩ := h
  rcases td_ra_c h2 h3 with ⟨l, e, eh, ea, hs⟩ | ⟨eh, ea, hs⟩
  · have h10 : ∀ c, c ∈ td_nw l → c < 10 := fun c hc => td_nw_m hc
    have epr : td_pr p pa ra = pa ++ [10 + p] := by rw [td_pr, if_pos eh]
    have egv : td_gv 0 (pa ++ [10 + p]) = p + 1 := by
      rw [td_gv_ap, td_gv, if_neg (by omega), show 10 + p - 10 + 1 = p + 1 by omega]
      rfl
    have egx : ∀ t kp, p < t → td_gx t kp 0 0 (pa ++ [10 + p]) = [] := fun t kp ht => by
      rw [td_gx_ap, h1 t kp ht, td_gx, if_neg (by omega)]
      rfl
    have e1 : pa ++ ra = td_pr p pa ra ++ td_ad p ra := by rw [epr, ea, e, List.append_assoc]; rfl
    refine ⟨e1, by rw [epr, if_pos eh, List.length_append]; rfl, fun kp => ?_, ?_⟩
    · rw [e1, epr, ea, td_gx_ap, egx (p + 1) kp (by omega), egv, List.nil_append, Nat.zero_add]
      conv => lhs; rw [← td_nw_af l]
      rw [td_gx_ap, td_gx_G h10, td_gx_af (td_nw_nw l) (td_so_af hs) (Nat.le_refl _), List.append_nil]
      rfl
    · rw [epr, ea]
      refine ⟨fun t kp ht => ?_, td_so_af hs, td_nw_nw l, fun c hc => ?_⟩
      · rw [td_gx_ap, egx t kp (by omega), egv, td_gx_N (by omega) h10]
        rfl
      · rcases List.mem_append.mp hc with hc | hc
        · rcases List.mem_append.mp hc with hc | hc
          · have := h4 c hc; omega
          · have : c = 10 + p := by simpa using hc
            omega
        · have := h10 c hc; omega
  · have epr : td_pr p pa ra = pa := by rw [td_pr, if_neg eh, List.append_nil]
    have e1 : pa ++ ra = td_pr p pa ra ++ td_ad p ra := by rw [epr, ea]
    refine ⟨e1, by rw [epr, if_neg eh, Nat.add_zero], fun kp => ?_, ?_⟩
    · rw [epr, ea, h3, td_gx_ap, h1 (p + 1) kp (by omega), td_gx_af h3 hs (Nat.le_refl _)]
      rw [td_bk]
      split <;> rfl
    · rw [epr, ea, h3, (td_nw_0 h3).1, List.append_nil]
      exact ⟨fun t kp ht => h1 t kp (by omega), hs, h3, fun c hc => by have := h4 c hc; omega⟩
/-- the place of KEPT s -/
def td_pf (s : Nat) : Nat → Int32 → List Nat → Int32
  | _, f, [] => f
  | i, f, c :: l => td_pf s (i + 1) (if c = 10 + s then nI i else f) l
theorem td_pf_ap {s : Nat} {m : List Nat} : ∀ {l : List Nat} {i : Nat} {f : Int32}, td_pf s i f (l ++ m) = td_pf s (i + l.length) (td_pf s i f l) m := by
  intro l
  induction l with
  | nil => intro i f; rfl
  | cons c l ih =>
    intro i f
    rw [List.cons_append, td_pf, ih, td_pf, List.length_cons, show i + 1 + l.length = i + (l.length + 1) by omega]
theorem td_pf_no {s : Nat} : ∀ {l : List Nat} {i : Nat} {f : Int32}, (∀ c, c ∈ l → c ≠ 10 + s) → td_pf s i f l = f := by
  intro l
  induction l with
  | nil => intro i f _; rfl
  | cons c l ih =>
    intro i f h
    rw [td_pf, if_neg (h c (by simp))]
    exact ih (fun x hx => h x (by simp [hx]))
theorem td_YI_p {p : Nat} {pa ra : List Nat} (h : td_YI p pa ra) : td_pf p 0 (-1) (pa ++ ra) = if td_hd ra = 10 + p then nI pa.length else -1 := by
  obtain ⟨h1, h2, h3, h4⟩ := h
  rw [td_pf_ap, td_pf_no (l := pa) (fun c hc => by have := h4 c hc; omega), Nat.zero_add]
  rcases td_ra_c h2 h3 with ⟨l, e, eh, ea, hs⟩ | ⟨eh, ea, hs⟩
  · rw [if_pos eh, e, td_pf, if_pos rfl]
    exact td_pf_no (fun c hc => by rcases td_so_el hs c hc with g | g <;> omega)
  · rw [if_neg eh]
    exact td_pf_no (fun c hc => by rcases td_so_el hs c hc with g | g <;> omega)
/-! runs counted over the printed form -/
def td_ct : Nat → List Nat → Nat
  | _, [] => 0
  | q, c :: l => (if c = q then 0 else 1) + td_ct c l
theorem td_ct_r {c : Nat} {l : List Nat} : ∀ k : Nat, td_ct c (List.replicate k c ++ l) = td_ct c l := by
  intro k
  induction k with
  | zero => rfl
  | succ k ih => rw [List.replicate_succ, List.cons_append, td_ct, if_pos rfl, ih, Nat.zero_add]
theorem td_ct_R : ∀ (R : List (Nat × Nat)) (q : Nat), td_nm q R → td_ct q (td_ex R) = R.length := by
  intro R
  induction R with
  | nil => intro q _; rfl
  | cons x t ih =>
    obtain ⟨c, n⟩ := x
    intro q h
    obtain ⟨h1, h2, h3, h4, h5, h6⟩ := h
    dsimp only at h1 h5 h6
    obtain ⟨n, rfl⟩ : ∃ k, n = k + 1 := ⟨n - 1, by omega⟩
    rw [td_ex]
    dsimp only
    rw [List.replicate_succ, List.cons_append, td_ct, if_neg h1, td_ct_r, ih c h6, List.length_cons, Nat.add_comm]
/-- (kind, steps) of run j: cn runs are begun -/
def td_ru (j : Nat) : Nat → Nat → Nat × Nat → List Nat → Nat × Nat
  | _, _, s, [] => s
  | q, cn, s, c :: l => td_ru j c (if c = q then cn else cn + 1) (if (if c = q then cn else cn + 1) = j + 1 then (c, s.2 + 1) else s) l
theorem td_ru_r {j c cn : Nat} {l : List Nat} : ∀ (k : Nat) (s : Nat × Nat), (cn = j + 1 → k ≠ 0 → s.1 = c) → td_ru j c cn s (List.replicate k c ++ l) = td_ru j c cn (if cn = j + 1 then (s.1, s.2 + k) else s) l := by
  intro k
  induction k with
  | zero => intro s _; split <;> rfl
  | succ k ih =>
    intro s hs
    rw [List.replicate_succ, List.cons_append, td_ru, if_pos rfl]
    by_cases h : cn = j + 1
    · rw [if_pos h, if_pos h, ih _ (fun _ _ => rfl), if_pos h, hs h (by omega)]
      dsimp only
      rw [show s.2 + 1 + k = s.2 + (k + 1) by omega]
    · rw [if_neg h, if_neg h, ih _ (fun w => absurd w h), if_neg h]
theorem td_ru_hi {j : Nat} : ∀ (R : List (Nat × Nat)) (q cn : Nat) (s : Nat × Nat), td_nm q R → j < cn → td_ru j q cn s (td_ex R) = s := by
  intro R
  induction R with
  | nil => intro q cn s _ _; rfl
  | cons x t ih =>
    obtain ⟨c, n⟩ := x
    intro q cn s h hc
    obtain ⟨h1, h2, h3, h4, h5, h6⟩ := h
    dsimp only at h1 h5 h6
    obtain ⟨n, rfl⟩ : ∃ k, n = k + 1 := ⟨n - 1, by omega⟩
    rw [td_ex]
    dsimp only
    rw [List.replicate_succ, List.cons_append, td_ru, if_neg h1, if_neg (by omega), td_ru_r n s (fun w => by omega), if_neg (by omega), ih c (cn + 1) s h6 (by omega)]
theorem td_ru_R {j : Nat} : ∀ (R : List (Nat × Nat)) (q cn : Nat), td_nm q R → cn ≤ j → td_ru j q cn (0, 0) (td_ex R) = (R[j - cn]?).getD (0, 0) := by
  intro R
  induction R with
  | nil => intro q cn _ _; rfl
  | cons x t ih =>
    obtain ⟨c, n⟩ := x
    intro q cn h hc
    obtain ⟨h1, h2, h3, h4, h5, h6⟩ := h
    dsimp only at h1 h5 h6
    obtain ⟨n, rfl⟩ : ∃ k, n = k + 1 := ⟨n - 1, by omega⟩
    rw [td_ex]
    dsimp only
    rw [List.replicate_succ, List.cons_append, td_ru, if_neg h1]
    by_cases e : cn + 1 = j + 1
    · rw [if_pos e, td_ru_r (c := c) n (c, (0, 0).2 + 1) (fun _ _ => rfl), if_pos e, td_ru_hi t c (cn + 1) _ h6 (by omega), show j - cn = 0 by omega]
      dsimp only
      rw [show 0 + 1 + n = n + 1 by omega]
      rfl
    · rw [if_neg e, td_ru_r n _ (fun w => absurd w e), if_neg e, ih c (cn + 1) h6 (by omega)]
      obtain ⟨d, hd⟩ : ∃ d, j - cn = d + 1 := ⟨j - cn - 1, by omega⟩
      rw [hd, show j - (cn + 1) = d by omega]
      rfl
theorem td_ex_l : ∀ (R : List (Nat × Nat)), (td_ex R).length = td_iR R + td_aR R := by
  intro R
  induction R with
  | nil => rfl
  | cons x t ih =>
    rw [td_ex, List.length_append, List.length_replicate, ih, td_iR, td_aR]
    split
    · omega
    · split <;> omega
end
section
/-! the reference's walks: emit, put, join, finish, placeOf, apply -/
def td_YS (os : Nat → List Nat) (ms : Nat → Nat) (yo yn ym : Nat → Int32) : Prop := ∀ s, s < 4 → yn s = nI (os s).length ∧ ym s = nI (ms s) ∧ td_AL yo (s * 40) (os s)
def td_PS (os : Nat → List Nat) (ms : Nat → Nat) : Prop := ∀ s, s < 4 → td_OK (os s) (ms s) ∧ ms s ≤ 40 ∧ (os s).length ≤ 40
section YWALK
variable {yw yu yi yl ys yp : Int32} {yo yn ym yk yd yr yt : Nat → Int32} {os : Nat → List Nat} {ms : Nat → Nat} {ow dl : List Nat} {mw uw : Nat}
theorem ys_slot1 {post : Int32 → Prop} {j : Nat} (hj : j < 4) (h : post 1) : wpY_isSlot post (yw, yu, yi, yl, ys, yp, yo, yn, ym, yk, yd, yr, yt) (nI j) :=
  br_f (nI_pos (by omega)) (br_f (nI_nlt (a := 3) (by omega) (by omega)) h)
theorem ys_slot0 {post : Int32 → Prop} {x : Int32} (hx : td_bad x) (h : post 0) : wpY_isSlot post (yw, yu, yi, yl, ys, yp, yo, yn, ym, yk, yd, yr, yt) x :=
  br_c (fun _ => h) (fun h0 => br_c (fun _ => h) (fun h3 => absurd hx (fun z => z.elim h0 h3)))
theorem ye_emit {post : SY → Prop} {l : List Nat} {x : Nat} (hl : l.length < 80) (hr : td_AL yr 0 l) (K : ∀ yr' : Nat → Int32, td_AL yr' 0 (l ++ [x]) → post (yw, yu, yi, yl, nI (l ++ [x]).length, yp, yo, yn, ym, yk, yd, yr', yt)) : wpY_emit post (yw, yu, yi, yl, nI l.length, yp, yo, yn, ym, yk, yd, yr, yt) (nI x) := by
  have c : (nI l.length).toNatClampNeg = l.length := nI_clamp (by omega)
  have v : vp_in (nI l.length) 80 := vp_in_nI hl (by omega)
  have e : (l ++ [x]).length = l.length + 1 := by simp only [List.length_append, List.length_cons, List.length_nil]
  rw [e] at K
  unfold wpY_emit
  dsimp only
  rw [c, nI_1]
  refine ⟨v, fun a ea => fun y ey => ?_⟩
  subst ea ey
  exact K _ (td_AL_sn.mpr ⟨td_AL_fr (fun j _ h => pk_un (by omega)) hr, by rw [Nat.zero_add]; exact pk_us⟩)
theorem yp_2 {post : Int32 → SY → Prop} {t n : Nat} {x2 : Int32} (ht : t < 4) (hn : n ≤ 40) (K : post (nI n) (yw, yu, yi, yl, nI n, yp, td_cp yo yr 0 (t * 40) n, upd yn t (nI n), upd ym t x2, yk, yd, yr, yt)) : ∀ N i : Nat, n < N + i → i ≤ n → wY_put_2 post (nI t) x2 yw yu yi yl (nI n) yp N (nI i) (td_cp yo yr 0 (t * 40) i) yn ym yk yd yr yt := by
  have c : (nI t).toNatClampNeg = t := nI_clamp (by omega)
  have v : vp_in (nI t) 4 := vp_in_nI ht (by omega)
  intro N
  induction N with
  | zero => intro i h1 h2; omega
  | succ N ih =>
    intro i h1 h2
    rw [wY_put_2]
    refine pk_le n i (fun h => ?_) (fun h => ?_)
    · have e : i = n := by omega
      subst e
      rw [c]
      refine ⟨v, fun a ea => ⟨v, fun b eb => ?_⟩⟩
      subst ea eb
      exact K
    · have c1 : (nI i).toNatClampNeg = i := nI_clamp (by omega)
      have c2 : (nI (t * 40 + i)).toNatClampNeg = t * 40 + i := nI_clamp (by omega)
      have es := td_cp_s (a := yo) (b := yr) (s := 0) (t := t * 40) (i := i)
      rw [Nat.zero_add] at es
      rw [td_40, c1, c2, es]
      refine ⟨vp_in_nI (by omega) (by omega), vp_in_nI (by omega) (by omega), fun a ea => fun y ey => ?_⟩
      subst ea ey
      rw [nI_1]
      exact ih (i + 1) (by omega) (by omega)
theorem yp_put {post : Int32 → SY → Prop} {t m : Nat} {l : List Nat} (ht : t < 4) (hl : l.length ≤ 40) (hP : td_PS os ms) (hY : td_YS os ms yo yn ym) (hr : td_AL yr 0 l)
    (K : ∀ yo' yn' ym' : Nat → Int32, td_YS (td_up os t l) (td_up ms t m) yo' yn' ym' → post (nI l.length) (yw, yu, yi, yl, nI l.length, yp, yo', yn', ym', yk, yd, yr, yt)) : wpY_put post (yw, yu, yi, yl, nI l.length, yp, yo, yn, ym, yk, yd, yr, yt) (nI t) (nI m) := by
  have h := yp_2 (post := post) (x2 := nI m) (yw := yw) (yu := yu) (yi := yi) (yl := yl) (yp := yp) (yo := yo) (yn := yn) (ym := ym) (yk := yk) (yd := yd) (yr := yr) (yt := yt) ht hl (K _ _ _ fun s hs => ?_) (l.length + 1) 0 (by omega) (by omega)
  · rw [td_cp_0] at h
    exact ⟨_, h⟩
  · by_cases e : s = t
    · subst e
      rw [td_up_s, td_up_s]
      exact ⟨pk_us, pk_us, td_cp_AL hr (Nat.le_refl _)⟩
    · rw [td_up_n e, td_up_n e]
      obtain ⟨h1, h2, h3⟩ := hY s hs
      have := (hP s hs).2.2
      exact ⟨(pk_un e).trans h1, (pk_un e).trans h2, td_AL_fr (fun j _ hj => td_cp_o (by omega)) h3⟩
theorem yj_52 {post : Int32 → SY → Prop} {a b t : Nat} (ha : a < 4) (hb : b < 4) (ht : t < 4) (hP : td_PS os ms) (hY : td_YS os ms yo yn ym) (he : (os a).length = ms b)
    (K : ∀ yo' yn' ym' yr' : Nat → Int32, td_YS (td_up os t ((os b).map (td_f (os a)))) (td_up ms t (ms a)) yo' yn' ym' → post (nI ((os b).map (td_f (os a))).length) (yw, yu, yi, yl, nI ((os b).map (td_f (os a))).length, yp, yo', yn', ym', yk, yd, yr', yt)) :
    ∀ (N : Nat) (pre rest l : List Nat) (yr : Nat → Int32), os b = pre ++ rest → rest.length < N → l = pre.map (td_f (os a)) → td_AL yr 0 l → wY_join_52 post (nI a) (nI b) (nI t) N (nI pre.length) yw yu yi yl (nI l.length) yp yo yn ym yk yd yr yt := by
  have cA : (nI a).toNatClampNeg = a := nI_clamp (by omega)
  have cB : (nI b).toNatClampNeg = b := nI_clamp (by omega)
  have vA : vp_in (nI a) 4 := vp_in_nI ha (by omega)
  have vB : vp_in (nI b) 4 := vp_in_nI hb (by omega)
  obtain ⟨ya1, ya2, ya3⟩ := hY a ha
  obtain ⟨yb1, yb2, yb3⟩ := hY b hb
  obtain ⟨pa1, pa2, pa3⟩ := hP a ha
  obtain ⟨pb1, pb2, pb3⟩ := hP b hb
  intro N
  induction N with
  | zero => intro pre rest l yr _ h; omega
  | succ N ih =>
    intro pre rest l yr h1 h2 h3 h4
    have hlen := congrArg List.length h1
    rw [List.length_append] at hlen
    have hll : l.length = pre.length := by rw [h3, List.length_map]
    rw [wY_join_52]
    dsimp only
    rw [cA, cB, yb1, ya2]
    refine ⟨vB, pk_le (os b).length pre.length (fun h => ?_) (fun h => ?_)⟩
    · have e : rest = [] := List.length_eq_zero_iff.mp (by omega)
      subst e
      rw [List.append_nil] at h1
      subst h1
      subst h3
      exact ⟨vA, yp_put ht (by rw [List.length_map]; exact pb3) hP hY h4 fun yo' yn' ym' hh => K yo' yn' ym' yr hh⟩
    · cases rest with
      | nil => rw [List.length_nil] at hlen; omega
      | cons c rest =>
        have hc : c < 10 + ms b := td_OK_lt pb1 c (by rw [h1]; simp)
        have c1 : (nI (b * 40 + pre.length)).toNatClampNeg = b * 40 + pre.length := nI_clamp (by omega)
        have r1 : yo (b * 40 + pre.length) = nI c := by
          rw [h1] at yb3
          exact (td_AL_ap.mp yb3).2.1
        have h1' : os b = (pre ++ [c]) ++ rest := by rw [h1, List.append_assoc]; rfl
        have hpl : nI pre.length + 1 = nI (pre ++ [c]).length := by rw [nI_1, List.length_append]; rfl
        have step : wY_join_105 post (wY_join_52 post (nI a) (nI b) (nI t) N) (nI a) (nI b) (nI t) (nI pre.length) (nI (td_f (os a) c)) yw yu yi yl (nI l.length) yp yo yn ym yk yd yr yt := by
          unfold wY_join_105
          refine ye_emit (by omega) h4 fun yr' h5 => ?_
          refine nm_r hpl (ih (pre ++ [c]) rest _ yr' h1' (by rw [List.length_cons] at h2; omega) ?_ h5)
          rw [h3, List.map_append]; rfl
        rw [td_40, c1, r1]
        refine ⟨vp_in_nI (by omega) (by omega), fun x5 e5 => ?_⟩
        subst e5
        refine pk_le 10 c (fun h10 => ?_) (fun h10 => ?_)
        · have e2 : nI a * 40 + nI c - 10 = nI (a * 40 + (c - 10)) := by
            rw [td_40, td_s10 (by omega)]
            exact congrArg nI (by omega)
          have c2 : (nI (a * 40 + (c - 10))).toNatClampNeg = a * 40 + (c - 10) := nI_clamp (by omega)
          have r2 : yo (a * 40 + (c - 10)) = nI (td_f (os a) c) := by
            rw [td_AL_get ya3 (by omega), td_f, if_neg (by omega)]
          rw [e2, c2, r2]
          exact ⟨vp_in_nI (by omega) (by omega), step⟩
        · have e3 : td_f (os a) c = c := if_pos h10
          rw [e3] at step
          exact step
theorem yj_join {post : Int32 → SY → Prop} {a b t : Nat} (ha : a < 4) (hb : b < 4) (ht : t < 4) (hP : td_PS os ms) (hY : td_YS os ms yo yn ym) (he : (os a).length = ms b)
    (K : ∀ (ys' : Int32) (yo' yn' ym' yr' : Nat → Int32), td_YS (td_up os t ((os b).map (td_f (os a)))) (td_up ms t (ms a)) yo' yn' ym' → post (nI ((os b).map (td_f (os a))).length) (yw, yu, yi, yl, ys', yp, yo', yn', ym', yk, yd, yr', yt)) : wpY_join post (yw, yu, yi, yl, ys, yp, yo, yn, ym, yk, yd, yr, yt) (nI a) (nI b) (nI t) := by
  have cA : (nI a).toNatClampNeg = a := nI_clamp (by omega)
  have cB : (nI b).toNatClampNeg = b := nI_clamp (by omega)
  have vA : vp_in (nI a) 4 := vp_in_nI ha (by omega)
  have vB : vp_in (nI b) 4 := vp_in_nI hb (by omega)
  unfold wpY_join
  dsimp only
  refine ys_slot1 ha (br_f td_n10 ?_)
  refine ys_slot1 hb (br_f td_n10 ?_)
  refine ys_slot1 ht (br_f td_n10 ?_)
  rw [cA, cB, (hY a ha).1, (hY b hb).2.1, he]
  refine ⟨vA, vB, br_t rfl ⟨(os b).length + 1, ?_⟩⟩
  exact yj_52 ha hb ht hP hY he (fun yo' yn' ym' yr' h => K _ yo' yn' ym' yr' h) ((os b).length + 1) [] (os b) [] yr rfl (by omega) rfl trivial
theorem yf_68 {post : Int32 → SY → Prop} {t : Nat} (ht : t < 4) (hP : td_PS os ms) (hY : td_YS os ms yo yn ym) (hu : uw ≤ mw) (hm : mw ≤ 40) (hw : ow.length + (mw - uw) ≤ 40)
    (K : ∀ yo' yn' ym' yr' : Nat → Int32, td_YS (td_up os t (ow ++ td_rg (10 + uw) (mw - uw))) (td_up ms t mw) yo' yn' ym' → post (nI (ow ++ td_rg (10 + uw) (mw - uw)).length) (nI mw, yu, yi, yl, nI (ow ++ td_rg (10 + uw) (mw - uw)).length, yp, yo', yn', ym', yk, yd, yr', yt)) :
    ∀ (N j : Nat) (l : List Nat) (yr : Nat → Int32), mw < N + (uw + j) → uw + j ≤ mw → l = ow ++ td_rg (10 + uw) j → td_AL yr 0 l → wY_finish_68 post (nI t) N (nI (uw + j)) (nI mw) yu yi yl (nI l.length) yp yo yn ym yk yd yr yt := by
  intro N
  induction N with
  | zero => intro j l yr h1 h2; omega
  | succ N ih =>
    intro j l yr h1 h2 h3 h4
    have hll : l.length = ow.length + j := by rw [h3, List.length_append, td_rg_l]
    rw [wY_finish_68]
    refine pk_le mw (uw + j) (fun h => ?_) (fun h => ?_)
    · have e : j = mw - uw := by omega
      subst e
      subst h3
      exact yp_put ht (by omega) hP hY h4 fun yo' yn' ym' hh => K yo' yn' ym' yr hh
    · rw [td_10]
      refine ye_emit (by omega) h4 fun yr' h5 => ?_
      refine nm_r (nI_1 (uw + j)) (ih (j + 1) _ yr' (by omega) (by omega) ?_ h5)
      rw [h3, td_rg_ap, List.append_assoc, Nat.add_assoc]; rfl
theorem yf_39 {post : Int32 → SY → Prop} {t : Nat} (ht : t < 4) (hP : td_PS os ms) (hY : td_YS os ms yo yn ym) (hu : uw ≤ mw) (hm : mw ≤ 40) (hw : ow.length + (mw - uw) ≤ 40) (hk : td_AL yk 0 ow)
    (K : ∀ yo' yn' ym' yr' : Nat → Int32, td_YS (td_up os t (ow ++ td_rg (10 + uw) (mw - uw))) (td_up ms t mw) yo' yn' ym' → post (nI (ow ++ td_rg (10 + uw) (mw - uw)).length) (nI mw, nI uw, nI ow.length, yl, nI (ow ++ td_rg (10 + uw) (mw - uw)).length, yp, yo', yn', ym', yk, yd, yr', yt)) :
    ∀ (N : Nat) (pre rest : List Nat) (yr : Nat → Int32), ow = pre ++ rest → rest.length < N → td_AL yr 0 pre → wY_finish_39 post (nI t) N (nI pre.length) (nI mw) (nI uw) (nI ow.length) yl (nI pre.length) yp yo yn ym yk yd yr yt := by
  intro N
  induction N with
  | zero => intro pre rest yr _ h; omega
  | succ N ih =>
    intro pre rest yr h1 h2 h4
    have hlen := congrArg List.length h1
    rw [List.length_append] at hlen
    rw [wY_finish_39]
    refine pk_le ow.length pre.length (fun h => ?_) (fun h => ?_)
    · have e : rest = [] := List.length_eq_zero_iff.mp (by omega)
      subst e
      rw [List.append_nil] at h1
      subst h1
      exact ⟨mw + 1, yf_68 ht hP hY hu hm hw K (mw + 1) 0 ow yr (by omega) (by omega) (List.append_nil _).symm h4⟩
    · cases rest with
      | nil => rw [List.length_nil] at hlen; omega
      | cons c rest =>
        have c1 : (nI pre.length).toNatClampNeg = pre.length := nI_clamp (by omega)
        have r1 : yk pre.length = nI c := by
          rw [h1] at hk
          have := (td_AL_ap.mp hk).2.1
          rw [Nat.zero_add] at this
          exact this
        have h1' : ow = (pre ++ [c]) ++ rest := by rw [h1, List.append_assoc]; rfl
        have hpl : nI pre.length + 1 = nI (pre ++ [c]).length := by rw [nI_1, List.length_append]; rfl
        rw [c1, r1]
        refine ⟨vp_in_nI (by omega) (by omega), ye_emit (by omega) h4 fun yr' h5 => ?_⟩
        exact nm_r hpl (ih (pre ++ [c]) rest yr' h1' (by rw [List.length_cons] at h2; omega) h5)
theorem yf_finish {post : Int32 → SY → Prop} {t : Nat} (ht : t < 4) (hP : td_PS os ms) (hY : td_YS os ms yo yn ym) (hu : uw ≤ mw) (hm : mw ≤ 40) (hw : ow.length ≤ 40) (hk : td_AL yk 0 ow)
    (K1 : ow.length + (mw - uw) ≤ 40 → ∀ (ys' : Int32) (yo' yn' ym' yr' : Nat → Int32), td_YS (td_up os t (ow ++ td_rg (10 + uw) (mw - uw))) (td_up ms t mw) yo' yn' ym' → post (nI (ow.length + (mw - uw))) (nI mw, nI uw, nI ow.length, yl, ys', yp, yo', yn', ym', yk, yd, yr', yt))
    (K2 : ¬ ow.length + (mw - uw) ≤ 40 → post (-2) (nI mw, nI uw, nI ow.length, yl, ys, yp, yo, yn, ym, yk, yd, yr, yt)) : wpY_finish post (nI mw, nI uw, nI ow.length, yl, ys, yp, yo, yn, ym, yk, yd, yr, yt) (nI t) := by
  unfold wpY_finish
  dsimp only
  refine ys_slot1 ht (br_f td_n10 ?_)
  rw [nI_add, pk_sub (by omega), show ow.length + mw - uw = ow.length + (mw - uw) by omega]
  refine pk_le (ow.length + (mw - uw)) 40 (fun h => ?_) (fun h => K2 (by omega))
  have hlen : (ow ++ td_rg (10 + uw) (mw - uw)).length = ow.length + (mw - uw) := by rw [List.length_append, td_rg_l]
  refine ⟨ow.length + 1, yf_39 ht hP hY hu hm h hk (fun yo' yn' ym' yr' hh => ?_) (ow.length + 1) [] ow yr rfl (by omega) trivial⟩
  rw [hlen]
  exact K1 h _ yo' yn' ym' yr' hh
theorem yq_5 {post : Int32 → Prop} {s p : Nat} (hs : s < 4) (hp : p ≤ 40) (hP : td_PS os ms) (hY : td_YS os ms yo yn ym) : ∀ (N : Nat) (pre rest : List Nat) (f : Int32), os s = pre ++ rest → rest.length < N → post (td_pf p pre.length f rest) → wY_placeOf_5 post (nI s) (nI p) yw yu yi yl ys yp yo yn ym yk yd yr yt N f (nI pre.length) := by
  have cS : (nI s).toNatClampNeg = s := nI_clamp (by omega)
  have vS : vp_in (nI s) 4 := vp_in_nI hs (by omega)
  obtain ⟨y1, y2, y3⟩ := hY s hs
  obtain ⟨p1, p2, p3⟩ := hP s hs
  intro N
  induction N with
  | zero => intro pre rest f _ h; omega
  | succ N ih =>
    intro pre rest f h1 h2 h3
    have hlen := congrArg List.length h1
    rw [List.length_append] at hlen
    rw [wY_placeOf_5]
    dsimp only
    rw [cS, y1]
    refine ⟨vS, pk_le (os s).length pre.length (fun h => ?_) (fun h => ?_)⟩
    · have e : rest = [] := List.length_eq_zero_iff.mp (by omega)
      subst e
      exact h3
    · cases rest with
      | nil => rw [List.length_nil] at hlen; omega
      | cons c rest =>
        have hc : c < 10 + ms s := td_OK_lt p1 c (by rw [h1]; simp)
        have c1 : (nI (s * 40 + pre.length)).toNatClampNeg = s * 40 + pre.length := nI_clamp (by omega)
        have r1 : yo (s * 40 + pre.length) = nI c := by
          rw [h1] at y3
          exact (td_AL_ap.mp y3).2.1
        have h1' : os s = (pre ++ [c]) ++ rest := by rw [h1, List.append_assoc]; rfl
        have e0 : (pre ++ [c]).length = pre.length + 1 := by rw [List.length_append]; rfl
        have hpl : nI pre.length + 1 = nI (pre ++ [c]).length := by rw [nI_1, e0]
        rw [td_pf] at h3
        rw [List.length_cons] at h2
        rw [td_40, c1, r1, td_10]
        refine ⟨vp_in_nI (by omega) (by omega), pk_eq c (10 + p) (fun h => ?_) (fun h => ?_)⟩
        · rw [if_pos h] at h3
          exact nm_r hpl (ih (pre ++ [c]) rest _ h1' (by omega) (by rw [e0]; exact h3))
        · rw [if_neg h] at h3
          exact nm_r hpl (ih (pre ++ [c]) rest _ h1' (by omega) (by rw [e0]; exact h3))
theorem yq_place {post : Int32 → Prop} {s p : Nat} {pa ra : List Nat} (hs : s < 4) (hp : p ≤ 40) (hP : td_PS os ms) (hY : td_YS os ms yo yn ym) (he : os s = pa ++ ra) (hI : td_YI p pa ra) (h1 : td_hd ra = 10 + p → post (nI pa.length)) (h2 : td_hd ra ≠ 10 + p → post (-1)) : wpY_placeOf post (yw, yu, yi, yl, ys, yp, yo, yn, ym, yk, yd, yr, yt) (nI s) (nI p) := by
  refine ⟨(os s).length + 1, yq_5 hs hp hP hY ((os s).length + 1) [] (os s) (-1) rfl (by omega) ?_⟩
  rw [he]
  show post (td_pf p 0 (-1) (pa ++ ra))
  rw [td_YI_p hI]
  by_cases e : td_hd ra = 10 + p
  · rw [if_pos e]; exact h1 e
  · rw [if_neg e]; exact h2 e
theorem td_m1lt : (-1 : Int32) < 0 := by decide
theorem ya_154 {post : Int32 → SY → Prop} {x2 : Int32} {n : Nat} (hn : n ≤ 40) (K : wpY_put (fun _ u => match u with | (yw, yu, yi, yl, ys, yp, yo, yn, ym, yk, yd, yr, yt) => post (nI n) (yw, yu, yi, nI n, ys, yp, yo, yn, ym, yk, yd, yr, yt)) (yw, yu, yi, yl, ys, yp, yo, yn, ym, yk, td_cp yd yt 0 0 n, yr, yt) x2 (nI n)) : ∀ N i : Nat, n < N + i → i ≤ n → wY_apply_154 post x2 (nI n) yw yu yi yl ys yp N (nI i) yo yn ym yk (td_cp yd yt 0 0 i) yr yt := by
  intro N
  induction N with
  | zero => intro i h1 h2; omega
  | succ N ih =>
    intro i h1 h2
    rw [wY_apply_154]
    refine pk_le n i (fun h => ?_) (fun h => ?_)
    · have e : i = n := by omega
      subst e
      exact K
    · have c1 : (nI i).toNatClampNeg = i := nI_clamp (by omega)
      have es := td_cp_s (a := yd) (b := yt) (s := 0) (t := 0) (i := i)
      rw [Nat.zero_add] at es
      rw [c1, es]
      refine ⟨vp_in_nI (by omega) (by omega), vp_in_nI (by omega) (by omega), fun a ea => fun y ey => ?_⟩
      subst ea ey
      rw [nI_1]
      exact ih (i + 1) (by omega) (by omega)
theorem ya_96 {post : Int32 → SY → Prop} {s : Nat} {x2 : Int32} (hs : s < 4) (hP : td_PS os ms) (hY : td_YS os ms yo yn ym) (hd : td_AL yd 0 dl) (he : dl.length = ms s)
    (K : ∀ yt' : Nat → Int32, td_AL yt' 0 ((os s).map (td_f dl)) → ∃ n, wY_apply_154 post x2 (nI (os s).length) yw yu yi yl ys yp n 0 yo yn ym yk yd yr yt') :
    ∀ (N : Nat) (pre rest : List Nat) (yt : Nat → Int32), os s = pre ++ rest → rest.length < N → td_AL yt 0 (pre.map (td_f dl)) → wY_apply_96 post (nI s) x2 (nI (os s).length) yw yu yi yl ys yp N (nI pre.length) yo yn ym yk yd yr yt := by
  obtain ⟨y1, y2, y3⟩ := hY s hs
  obtain ⟨p1, p2, p3⟩ := hP s hs
  intro N
  induction N with
  | zero => intro pre rest yt _ h; omega
  | succ N ih =>
    intro pre rest yt h1 h2 h3
    have hlen := congrArg List.length h1
    rw [List.length_append] at hlen
    rw [wY_apply_96]
    refine pk_le (os s).length pre.length (fun h => ?_) (fun h => ?_)
    · have e : rest = [] := List.length_eq_zero_iff.mp (by omega)
      subst e
      rw [List.append_nil] at h1
      rw [← h1] at h3
      exact K yt h3
    · cases rest with
      | nil => rw [List.length_nil] at hlen; omega
      | cons c rest =>
        have hc : c < 10 + ms s := td_OK_lt p1 c (by rw [h1]; simp)
        have c1 : (nI (s * 40 + pre.length)).toNatClampNeg = s * 40 + pre.length := nI_clamp (by omega)
        have c3 : (nI pre.length).toNatClampNeg = pre.length := nI_clamp (by omega)
        have r1 : yo (s * 40 + pre.length) = nI c := by
          rw [h1] at y3
          exact (td_AL_ap.mp y3).2.1
        have h1' : os s = (pre ++ [c]) ++ rest := by rw [h1, List.append_assoc]; rfl
        have e0 : (pre ++ [c]).length = pre.length + 1 := by rw [List.length_append]; rfl
        have hpl : nI pre.length + 1 = nI (pre ++ [c]).length := by rw [nI_1, e0]
        rw [List.length_cons] at h2
        have step : wY_apply_96 post (nI s) x2 (nI (os s).length) yw yu yi yl ys yp N (nI (pre ++ [c]).length) yo yn ym yk yd yr (upd yt pre.length (nI (td_f dl c))) := by
          refine ih (pre ++ [c]) rest _ h1' (by omega) ?_
          rw [List.map_append]
          refine td_AL_sn.mpr ⟨td_AL_fr (fun j _ hj => pk_un ?_) h3, ?_⟩
          · rw [List.length_map] at hj; omega
          · rw [List.length_map, Nat.zero_add]; exact pk_us
        rw [td_40, c1, r1, c3]
        refine ⟨vp_in_nI (by omega) (by omega), fun x5 e5 => ?_⟩
        subst e5
        refine pk_le 10 c (fun h10 => ?_) (fun h10 => ?_)
        · have e2 : nI c - 10 = nI (c - 10) := td_s10 h10
          have c2 : (nI (c - 10)).toNatClampNeg = c - 10 := nI_clamp (by omega)
          have r2 : yd (c - 10) = nI (td_f dl c) := by
            have := td_AL_get hd (i := c - 10) (by omega)
            rw [Nat.zero_add] at this
            rw [this, td_f, if_neg (by omega)]
          rw [e2, c2, r2]
          exact ⟨vp_in_nI (by omega) (by omega), vp_in_nI (by omega) (by omega), nm_e (nm_r hpl step)⟩
        · have e3 : td_f dl c = c := if_pos h10
          rw [e3] at step
          exact ⟨vp_in_nI (by omega) (by omega), nm_e (nm_r hpl step)⟩
theorem ya_41 {post : Int32 → SY → Prop} {s : Nat} {x2 : Int32} {tgt : List Nat} (hs : s < 4) (hP : td_PS os ms) (hY : td_YS os ms yo yn ym) (hd : td_AL yd 0 dl) (he : dl.length = ms s) (htg : tgt.length ≤ 80)
    (K : ∀ yr' : Nat → Int32, td_AL yr' 0 tgt → ∃ n, wY_apply_96 post (nI s) x2 (nI (os s).length) yw yu yi (nI dl.length) (nI tgt.length) yp n 0 yo yn ym yk yd yr' yt) :
    ∀ (N n p : Nat) (pa ra l : List Nat) (yr : Nat → Int32), n < N → p + n = ms s → os s = pa ++ ra → td_YI p pa ra → l ++ td_iv dl n p pa.length ra = tgt → td_AL yr 0 l → wY_apply_41 post (nI s) x2 N (nI p) yw yu yi (nI dl.length) (nI l.length) yp yo yn ym yk yd yr yt := by
  have cS : (nI s).toNatClampNeg = s := nI_clamp (by omega)
  have vS : vp_in (nI s) 4 := vp_in_nI hs (by omega)
  obtain ⟨y1, y2, y3⟩ := hY s hs
  obtain ⟨p1, p2, p3⟩ := hP s hs
  intro N
  induction N with
  | zero => intro n p pa ra l yr h; omega
  | succ N ih =>
    intro n p pa ra l yr h1 h2 h3 hI h4 h5
    rw [wY_apply_41]
    refine pk_le dl.length p (fun h => ?_) (fun h => ?_)
    · have e : n = 0 := by omega
      subst e
      rw [td_iv, List.append_nil] at h4
      subst h4
      rw [cS, y1]
      exact ⟨vS, nm_e (K yr h5)⟩
    · obtain ⟨n, rfl⟩ : ∃ k, n = k + 1 := ⟨n - 1, by omega⟩
      obtain ⟨q1, q2, q3, q4⟩ := td_YI_s hI
      have hlt := congrArg List.length h4
      rw [List.length_append, td_iv_s, List.length_cons] at hlt
      have step : ∀ x : Nat, x = (if td_hd ra = 10 + p then 10 + pa.length else dl.getD p 0) → wY_apply_77 post (wY_apply_41 post (nI s) x2 N) (nI s) x2 (nI p) (nI x) yw yu yi (nI dl.length) (nI l.length) yp yo yn ym yk yd yr yt := by
        intro x hx
        unfold wY_apply_77
        refine ye_emit (by omega) h5 fun yr' h6 => ?_
        refine nm_r (nI_1 p) (ih n (p + 1) _ _ _ yr' (by omega) (by omega) ?_ q4 ?_ h6)
        · rw [h3, q1, List.append_assoc, td_nw_af]
        · rw [List.length_append, q2, hx, ← h4, td_iv_s, List.append_assoc]
          rfl
      refine yq_place hs (by omega) hP hY h3 hI (fun e => ?_) (fun e => ?_)
      · rw [td_10]
        have hpa := congrArg List.length h3
        rw [List.length_append] at hpa
        exact br_f (nI_pos (by omega)) (step _ (if_pos e).symm)
      · have c3 : (nI p).toNatClampNeg = p := nI_clamp (by omega)
        have r3 : yd p = nI (dl.getD p 0) := by
          have := td_AL_get hd (i := p) (by omega)
          rw [Nat.zero_add] at this
          exact this
        rw [c3, r3]
        exact br_t td_m1lt ⟨vp_in_nI (by omega) (by omega), step _ (if_neg e).symm⟩
theorem ya_apply {post : Int32 → SY → Prop} {s t : Nat} (hs : s < 4) (ht : t < 4) (hP : td_PS os ms) (hY : td_YS os ms yo yn ym) (hd : td_AL yd 0 dl) (he : dl.length = ms s)
    (K : ∀ (ys' : Int32) (yo' yn' ym' yd' yr' yt' : Nat → Int32), td_YS (td_up os t (td_iw dl (ms s) 0 0 (os s))) (td_up ms t (os s).length) yo' yn' ym' → td_AL yd' 0 ((os s).map (td_f dl)) → post (nI (os s).length) (yw, yu, yi, nI (os s).length, ys', yp, yo', yn', ym', yk, yd', yr', yt')) : wpY_apply post (yw, yu, yi, nI dl.length, ys, yp, yo, yn, ym, yk, yd, yr, yt) (nI s) (nI t) := by
  have cS : (nI s).toNatClampNeg = s := nI_clamp (by omega)
  have vS : vp_in (nI s) 4 := vp_in_nI hs (by omega)
  obtain ⟨y1, y2, y3⟩ := hY s hs
  obtain ⟨p1, p2, p3⟩ := hP s hs
  obtain ⟨q1, q2⟩ := td_YI_0 (td_OK_so p1)
  unfold wpY_apply
  dsimp only
  refine ys_slot1 hs (br_f td_n10 ?_)
  refine ys_slot1 ht (br_f td_n10 ?_)
  rw [cS, y2]
  refine ⟨vS, br_t (congrArg nI he) ⟨ms s + 1, ?_⟩⟩
  refine ya_41 (tgt := td_iw dl (ms s) 0 0 (os s)) hs hP hY hd he (by rw [td_iw_l]; omega) (fun yr' hr' => ?_) (ms s + 1) (ms s) 0 (td_nw (os s)) (td_af (os s)) [] yr (by omega) (by omega) (td_nw_af (os s)).symm q2 ?_ trivial
  · refine ⟨(os s).length + 1, ya_96 hs hP hY hd he (fun yt' ht' => ?_) ((os s).length + 1) [] (os s) yt rfl (by omega) trivial⟩
    have h := ya_154 (post := post) (x2 := nI t) (n := (os s).length) (yw := yw) (yu := yu) (yi := yi) (yl := nI dl.length) (ys := nI (td_iw dl (ms s) 0 0 (os s)).length) (yp := yp) (yo := yo) (yn := yn) (ym := ym) (yk := yk) (yd := yd) (yr := yr') (yt := yt') p3 ?_ ((os s).length + 1) 0 (by omega) (by omega)
    · rw [td_cp_0] at h
      exact ⟨_, h⟩
    · refine yp_put ht (by rw [td_iw_l]; exact p2) hP hY hr' fun yo' yn' ym' hh => ?_
      exact K _ yo' yn' ym' _ yr' yt' hh (td_cp_AL ht' (by rw [List.length_map]; exact Nat.le_refl _))
  · show td_iv dl (ms s) 0 (td_nw (os s)).length (td_af (os s)) = td_iw dl (ms s) 0 0 (os s)
    rw [td_iw, Nat.zero_add]
end YWALK
end
section
/-! the reference's walks: gapOf, emitGap, emitBoth, carry -/
section YCARRY
variable {yw yu yi yl ys yp : Int32} {yo yn ym yk yd yr yt : Nat → Int32} {os : Nat → List Nat} {ms : Nat → Nat} {ow dl : List Nat} {mw uw : Nat}
theorem yg_5 {post : Int32 → Prop} {s e : Nat} {tl : List Nat} (hs : s < 4) (hP : td_PS os ms) (hY : td_YS os ms yo yn ym) : ∀ (N : Nat) (pre mid : List Nat) (g : Nat), os s = pre ++ (mid ++ tl) → pre.length + mid.length = e → mid.length < N → post (nI (td_gv g mid)) → wY_gapOf_5 post (nI s) (nI e) yw yu yi yl ys yp yo yn ym yk yd yr yt N (nI g) (nI pre.length) := by
  obtain ⟨y1, y2, y3⟩ := hY s hs
  obtain ⟨p1, p2, p3⟩ := hP s hs
  intro N
  induction N with
  | zero => intro pre mid g _ _ h; omega
  | succ N ih =>
    intro pre mid g h1 h2 h3 h4
    have hlen := congrArg List.length h1
    rw [List.length_append, List.length_append] at hlen
    rw [wY_gapOf_5]
    refine pk_le e pre.length (fun h => ?_) (fun h => ?_)
    · have e : mid = [] := List.length_eq_zero_iff.mp (by omega)
      subst e
      exact h4
    · cases mid with
      | nil => rw [List.length_nil] at h2; omega
      | cons c mid =>
        rw [List.length_cons] at h2 h3 hlen
        have hc : c < 10 + ms s := td_OK_lt p1 c (by rw [h1]; simp)
        have c1 : (nI (s * 40 + pre.length)).toNatClampNeg = s * 40 + pre.length := nI_clamp (by omega)
        have r1 : yo (s * 40 + pre.length) = nI c := by
          rw [h1] at y3
          exact (td_AL_ap.mp y3).2.1
        have h1' : os s = (pre ++ [c]) ++ (mid ++ tl) := by rw [h1, List.append_assoc]; rfl
        have e0 : (pre ++ [c]).length = pre.length + 1 := by rw [List.length_append]; rfl
        have hpl : nI pre.length + 1 = nI (pre ++ [c]).length := by rw [nI_1, e0]
        rw [td_gv] at h4
        rw [td_40, c1, r1]
        refine ⟨vp_in_nI (by omega) (by omega), pk_lt c 10 (fun h => ?_) (fun h => ?_)⟩
        · rw [if_pos h] at h4
          exact nm_r hpl (ih (pre ++ [c]) mid g h1' (by omega) (by omega) h4)
        · rw [if_neg (by omega)] at h4
          rw [td_s10 h, nI_1]
          exact ⟨vp_in_nI (by omega) (by omega), nm_e (nm_r hpl (ih (pre ++ [c]) mid _ h1' (by omega) (by omega) h4))⟩
theorem yg_gap {post : Int32 → Prop} {s : Nat} {pre tl : List Nat} (hs : s < 4) (hP : td_PS os ms) (hY : td_YS os ms yo yn ym) (he : os s = pre ++ tl) (h : post (nI (td_gv 0 pre))) : wpY_gapOf post (yw, yu, yi, yl, ys, yp, yo, yn, ym, yk, yd, yr, yt) (nI s) (nI pre.length) :=
  ⟨pre.length + 1, yg_5 (tl := tl) hs hP hY (pre.length + 1) [] pre 0 he (Nat.zero_add _) (by omega) h⟩
theorem yx_3 {post : SY → Prop} {s tg kp : Nat} {L : List Nat} (hs : s < 4) (htg : tg ≤ 41) (hkp : kp ≤ 1) (hP : td_PS os ms) (hY : td_YS os ms yo yn ym) (hL : L.length ≤ 80) (K : ∀ yr' : Nat → Int32, td_AL yr' 0 L → post (yw, yu, yi, yl, nI L.length, yp, yo, yn, ym, yk, yd, yr', yt)) :
    ∀ (N : Nat) (pre rest l : List Nat) (yr : Nat → Int32), os s = pre ++ rest → rest.length < N → l ++ td_gx tg kp pre.length (td_gv 0 pre) rest = L → td_AL yr 0 l → wY_emitGap_3 post (nI s) (nI tg) (nI kp) N (nI pre.length) yw yu yi yl (nI l.length) yp yo yn ym yk yd yr yt := by
  have cS : (nI s).toNatClampNeg = s := nI_clamp (by omega)
  have vS : vp_in (nI s) 4 := vp_in_nI hs (by omega)
  obtain ⟨y1, y2, y3⟩ := hY s hs
  obtain ⟨p1, p2, p3⟩ := hP s hs
  intro N
  induction N with
  | zero => intro pre rest l yr _ h; omega
  | succ N ih =>
    intro pre rest l yr h1 h2 h3 h4
    have hlen := congrArg List.length h1
    rw [List.length_append] at hlen
    rw [wY_emitGap_3]
    dsimp only
    rw [cS, y1]
    refine ⟨vS, pk_le (os s).length pre.length (fun h => ?_) (fun h => ?_)⟩
    · have e : rest = [] := List.length_eq_zero_iff.mp (by omega)
      subst e
      rw [td_gx, List.append_nil] at h3
      subst h3
      exact K yr h4
    · cases rest with
      | nil => rw [List.length_nil] at hlen; omega
      | cons c rest =>
        rw [List.length_cons] at h2
        have hc : c < 10 + ms s := td_OK_lt p1 c (by rw [h1]; simp)
        have hgv : td_gv 0 pre ≤ 41 := td_gv_le (fun x hx => by have := td_OK_lt p1 x (by rw [h1]; simp [hx]); omega) (by omega)
        have c1 : (nI (s * 40 + pre.length)).toNatClampNeg = s * 40 + pre.length := nI_clamp (by omega)
        have r1 : yo (s * 40 + pre.length) = nI c := by
          rw [h1] at y3
          exact (td_AL_ap.mp y3).2.1
        have h1' : os s = (pre ++ [c]) ++ rest := by rw [h1, List.append_assoc]; rfl
        have e0 : (pre ++ [c]).length = pre.length + 1 := by rw [List.length_append]; rfl
        have hpl : nI pre.length + 1 = nI (pre ++ [c]).length := by rw [nI_1, e0]
        have eg : td_gv 0 (pre ++ [c]) = if c < 10 then td_gv 0 pre else c - 10 + 1 := by rw [td_gv_ap]; rfl
        rw [td_gx] at h3
        rw [td_40, c1, r1]
        refine ⟨vp_in_nI (by omega) (by omega), fun x5 e5 => ?_⟩
        subst e5
        refine pk_le 10 c (fun h10 => ?_) (fun h10 => ?_)
        · rw [if_neg (by omega)] at h3 eg
          exact nm_r hpl (ih (pre ++ [c]) rest l yr h1' (by omega) (by rw [eg, e0]; exact h3) h4)
        · rw [if_pos h10] at h3 eg
          refine yg_gap hs hP hY h1 (pk_eq (td_gv 0 pre) tg (fun hg => ?_) (fun hg => ?_))
          · rw [if_pos hg] at h3
            have hlt := congrArg List.length h3
            rw [List.length_append, List.length_cons] at hlt
            have step : ∀ x : Nat, x = (if kp = 0 then c else 10 + pre.length) → wY_emitGap_61 post (wY_emitGap_3 post (nI s) (nI tg) (nI kp) N) (nI s) (nI tg) (nI kp) (nI pre.length) (nI x) yw yu yi yl (nI l.length) yp yo yn ym yk yd yr yt := by
              intro x hx
              unfold wY_emitGap_61
              refine ye_emit (by omega) h4 fun yr' h5 => ?_
              refine nm_r hpl (ih (pre ++ [c]) rest _ yr' h1' (by omega) ?_ h5)
              rw [eg, e0, hx, List.append_assoc]; exact h3
            refine pk_eq kp 0 (fun hk => step c (if_pos hk).symm) (fun hk => ?_)
            rw [td_10]
            exact step _ (if_neg hk).symm
          · rw [if_neg hg] at h3
            exact nm_r hpl (ih (pre ++ [c]) rest l yr h1' (by omega) (by rw [eg, e0]; exact h3) h4)
theorem yx_gap {post : SY → Prop} {s tg kp : Nat} {l : List Nat} (hs : s < 4) (htg : tg ≤ 41) (hkp : kp ≤ 1) (hP : td_PS os ms) (hY : td_YS os ms yo yn ym) (hL : (l ++ td_gx tg kp 0 0 (os s)).length ≤ 80) (hr : td_AL yr 0 l) (K : ∀ yr' : Nat → Int32, td_AL yr' 0 (l ++ td_gx tg kp 0 0 (os s)) → post (yw, yu, yi, yl, nI (l ++ td_gx tg kp 0 0 (os s)).length, yp, yo, yn, ym, yk, yd, yr', yt)) : wpY_emitGap post (yw, yu, yi, yl, nI l.length, yp, yo, yn, ym, yk, yd, yr, yt) (nI s) (nI tg) (nI kp) :=
  ⟨(os s).length + 1, yx_3 hs htg hkp hP hY hL K ((os s).length + 1) [] (os s) l yr rfl (by omega) rfl hr⟩
theorem yx_both {post : SY → Prop} {a b g : Nat} {z : Bool} {x4 : Int32} {l : List Nat} (ha : a < 4) (hb : b < 4) (hg : g ≤ 41) (hz0 : x4 = 0 → z = false) (hz1 : ¬ x4 = 0 → z = true) (hP : td_PS os ms) (hY : td_YS os ms yo yn ym) (hL : (l ++ td_bo z (td_gx g 0 0 0 (os a)) (td_gx g 1 0 0 (os b))).length ≤ 80) (hr : td_AL yr 0 l)
    (K : ∀ yr' : Nat → Int32, td_AL yr' 0 (l ++ td_bo z (td_gx g 0 0 0 (os a)) (td_gx g 1 0 0 (os b))) → post (yw, yu, yi, yl, nI (l ++ td_bo z (td_gx g 0 0 0 (os a)) (td_gx g 1 0 0 (os b))).length, yp, yo, yn, ym, yk, yd, yr', yt)) : wpY_emitBoth post (yw, yu, yi, yl, nI l.length, yp, yo, yn, ym, yk, yd, yr, yt) (nI a) (nI b) (nI g) x4 := by
  by_cases h : x4 = 0
  · have e := hz0 h
    subst e
    have eb : ∀ A B : List Nat, l ++ td_bo false A B = (l ++ B) ++ A := fun A B => by rw [td_bo, if_neg (by simp), List.append_assoc]
    rw [eb] at hL K
    have hL1 := hL
    rw [List.length_append] at hL1
    refine br_t h ?_
    unfold wY_emitBoth_12
    refine yx_gap (kp := 1) hb hg (by omega) hP hY (by omega) hr fun yr1 hr1 => ?_
    refine br_t h ?_
    exact yx_gap (kp := 0) ha hg (by omega) hP hY hL hr1 fun yr2 hr2 => K yr2 hr2
  · have e := hz1 h
    subst e
    have eb : ∀ A B : List Nat, l ++ td_bo true A B = (l ++ A) ++ B := fun A B => by rw [td_bo, if_pos rfl, List.append_assoc]
    rw [eb] at hL K
    have hL1 := hL
    rw [List.length_append] at hL1
    refine br_f h ?_
    refine yx_gap (kp := 0) ha hg (by omega) hP hY (by omega) hr fun yr1 hr1 => ?_
    show wY_emitBoth_12 _ _ _ _ _ _ _ _ _ _ _ _ _ _ _ _ _ _
    unfold wY_emitBoth_12
    refine yx_gap (kp := 1) hb hg (by omega) hP hY hL hr1 fun yr2 hr2 => ?_
    exact br_f h (K yr2 hr2)
theorem yc_69 {post : Int32 → SY → Prop} {a b t m : Nat} {z : Bool} {x3 : Int32} {L : List Nat} (ha : a < 4) (hb : b < 4) (ht : t < 4) (hz0 : x3 = 0 → z = false) (hz1 : ¬ x3 = 0 → z = true) (hP : td_PS os ms) (hY : td_YS os ms yo yn ym) (hma : ms a = m) (hmb : ms b = m) (hL : L.length ≤ 80)
    (K1 : L.length ≤ 40 → ∀ (yo' yn' ym' yr' : Nat → Int32), td_YS (td_up os t L) (td_up ms t (os b).length) yo' yn' ym' → post (nI L.length) (yw, yu, yi, yl, nI L.length, yp, yo', yn', ym', yk, yd, yr', yt))
    (K2 : ¬ L.length ≤ 40 → ∀ (yr' : Nat → Int32), post (-2) (yw, yu, yi, yl, nI L.length, yp, yo, yn, ym, yk, yd, yr', yt)) :
    ∀ (N n p : Nat) (pa ra pb rb l : List Nat) (yr : Nat → Int32), n < N → p + n = m → os a = pa ++ ra → os b = pb ++ rb → td_YI p pa ra → td_YI p pb rb → l ++ td_cs z n p pb.length ra rb = L → td_AL yr 0 l → wY_carry_69 post (nI a) (nI b) x3 (nI t) N (nI p) yw yu yi yl (nI l.length) yp yo yn ym yk yd yr yt := by
  have cA : (nI a).toNatClampNeg = a := nI_clamp (by omega)
  have cB : (nI b).toNatClampNeg = b := nI_clamp (by omega)
  have vA : vp_in (nI a) 4 := vp_in_nI ha (by omega)
  have vB : vp_in (nI b) 4 := vp_in_nI hb (by omega)
  obtain ⟨ya1, ya2, ya3⟩ := hY a ha
  obtain ⟨yb1, yb2, yb3⟩ := hY b hb
  obtain ⟨pa1, pa2, pa3⟩ := hP a ha
  obtain ⟨pb1, pb2, pb3⟩ := hP b hb
  rw [hma] at ya2
  intro N
  induction N with
  | zero => intro n p pa ra pb rb l yr h; omega
  | succ N ih =>
    intro n p pa ra pb rb l yr h1 h2 h3 h4 hA hB h5 h6
    rw [wY_carry_69]
    dsimp only
    rw [cA, cB, ya2, yb1]
    refine ⟨vA, pk_le m p (fun h => ?_) (fun h => ?_)⟩
    · have e : n = 0 := by omega
      subst e
      rw [td_cs, List.append_nil] at h5
      subst h5
      exact pk_le l.length 40 (fun h40 => ⟨vB, yp_put ht h40 hP hY h6 fun yo' yn' ym' hh => K1 h40 yo' yn' ym' yr hh⟩) (fun h40 => K2 (by omega) yr)
    · obtain ⟨n, rfl⟩ : ∃ k, n = k + 1 := ⟨n - 1, by omega⟩
      obtain ⟨q1, q2, q3, q4⟩ := td_YI_s hA
      obtain ⟨w1, w2, w3, w4⟩ := td_YI_s hB
      rw [← h3] at q3
      rw [← h4] at w3
      have qA : td_gx (p + 1) 0 0 0 (os a) = td_nw (td_ad p ra) := q3 0
      have wB : td_gx (p + 1) 1 0 0 (os b) = td_rg (10 + (td_pr p pb rb).length) (td_nw (td_ad p rb)).length := w3 1
      have e3 : os a = (td_pr p pa ra ++ td_nw (td_ad p ra)) ++ td_af (td_ad p ra) := by rw [h3, q1, List.append_assoc, td_nw_af]
      have e4 : os b = (td_pr p pb rb ++ td_nw (td_ad p rb)) ++ td_af (td_ad p rb) := by rw [h4, w1, List.append_assoc, td_nw_af]
      rw [td_cs_s, ← w2] at h5
      have step : ∀ (l' : List Nat) (yr' : Nat → Int32), l' ++ td_cr z n (p + 1) (td_pr p pb rb).length (td_ad p ra) (td_ad p rb) = L → td_AL yr' 0 l' → wY_carry_113 post (wY_carry_69 post (nI a) (nI b) x3 (nI t) N) (nI a) (nI b) x3 (nI t) (nI p) yw yu yi yl (nI l'.length) yp yo yn ym yk yd yr' yt := by
        intro l' yr' g1 g2
        have g1' := g1
        rw [td_cr, ← List.append_assoc] at g1
        have gl := congrArg List.length g1
        rw [List.length_append] at gl
        have H : ∀ x4 : Int32, (x4 = 0 → z = false) → (¬ x4 = 0 → z = true) → wY_carry_129 post (wY_carry_69 post (nI a) (nI b) x3 (nI t) N) (nI a) (nI b) x3 (nI t) (nI p) x4 (nI (p + 1)) (nI b) (nI a) yw yu yi yl (nI l'.length) yp yo yn ym yk yd yr' yt := by
          intro x4 k0 k1
          unfold wY_carry_129
          refine yx_both ha hb (by omega) k0 k1 hP hY (by rw [qA, wB]; omega) g2 fun yr2 g3 => ?_
          rw [qA, wB] at g3
          refine nm_r (nI_1 p) ?_
          rw [qA, wB]
          refine ih n (p + 1) _ _ _ _ _ yr2 (by omega) (by omega) e3 e4 q4 w4 ?_ g3
          rw [List.length_append]
          exact g1
        unfold wY_carry_113
        rw [nI_1]
        exact br_c (fun k => H 0 (fun _ => hz0 k) (fun w => absurd rfl w)) (fun k => H 1 (fun w => absurd w td_n10) (fun _ => hz1 k))
      have hpb := congrArg List.length h4
      rw [List.length_append] at hpb
      have hpa := congrArg List.length h3
      rw [List.length_append] at hpa
      refine yq_place hb (by omega) hP hY h4 hB (fun eB => ?_) (fun eB => ?_)
      · refine yq_place ha (by omega) hP hY h3 hA (fun eA => ?_) (fun eA => ?_)
        · rw [if_pos ⟨eA, eB⟩, ← List.append_assoc] at h5
          have gl := congrArg List.length h5
          rw [List.length_append, List.length_append] at gl
          have : [10 + pb.length].length = 1 := rfl
          rw [td_10]
          exact br_f (nI_pos (by omega)) (br_f (nI_pos (by omega)) (ye_emit (by omega) h6 fun yr' h7 => step _ yr' h5 h7))
        · rw [if_neg (fun w => eA w.1), List.nil_append] at h5
          exact br_t td_m1lt (step l yr h5 h6)
      · refine yq_place ha (by omega) hP hY h3 hA (fun eA => ?_) (fun eA => ?_)
        · rw [if_neg (fun w => eB w.2), List.nil_append] at h5
          exact br_f (nI_pos (by omega)) (br_t td_m1lt (step l yr h5 h6))
        · rw [if_neg (fun w => eB w.2), List.nil_append] at h5
          exact br_t td_m1lt (step l yr h5 h6)
theorem yc_carry {post : Int32 → SY → Prop} {a b t : Nat} {z : Bool} {x3 : Int32} (ha : a < 4) (hb : b < 4) (ht : t < 4) (hz0 : x3 = 0 → z = false) (hz1 : ¬ x3 = 0 → z = true) (hP : td_PS os ms) (hY : td_YS os ms yo yn ym) (he : ms a = ms b) (hL : (td_cr z (ms a) 0 0 (os a) (os b)).length ≤ 80)
    (K1 : (td_cr z (ms a) 0 0 (os a) (os b)).length ≤ 40 → ∀ (ys' : Int32) (yo' yn' ym' yr' : Nat → Int32), td_YS (td_up os t (td_cr z (ms a) 0 0 (os a) (os b))) (td_up ms t (os b).length) yo' yn' ym' → post (nI (td_cr z (ms a) 0 0 (os a) (os b)).length) (yw, yu, yi, yl, ys', yp, yo', yn', ym', yk, yd, yr', yt))
    (K2 : ¬ (td_cr z (ms a) 0 0 (os a) (os b)).length ≤ 40 → ∀ (ys' : Int32) (yr' : Nat → Int32), post (-2) (yw, yu, yi, yl, ys', yp, yo, yn, ym, yk, yd, yr', yt)) : wpY_carry post (yw, yu, yi, yl, ys, yp, yo, yn, ym, yk, yd, yr, yt) (nI a) (nI b) x3 (nI t) := by
  have cA : (nI a).toNatClampNeg = a := nI_clamp (by omega)
  have cB : (nI b).toNatClampNeg = b := nI_clamp (by omega)
  have vA : vp_in (nI a) 4 := vp_in_nI ha (by omega)
  have vB : vp_in (nI b) 4 := vp_in_nI hb (by omega)
  obtain ⟨pa1, pa2, pa3⟩ := hP a ha
  obtain ⟨pb1, pb2, pb3⟩ := hP b hb
  obtain ⟨q1, q2⟩ := td_YI_0 (td_OK_so pa1)
  obtain ⟨w1, w2⟩ := td_YI_0 (td_OK_so pb1)
  have qA : td_gx 0 0 0 0 (os a) = td_nw (os a) := q1 0
  have wB : td_gx 0 1 0 0 (os b) = td_rg (10 + 0) (td_nw (os b)).length := w1 1
  have hcr : td_cr z (ms a) 0 0 (os a) (os b) = td_bo z (td_nw (os a)) (td_rg (10 + 0) (td_nw (os b)).length) ++ td_cs z (ms a) 0 (0 + (td_nw (os b)).length) (td_af (os a)) (td_af (os b)) := rfl
  have hl := hL
  rw [hcr, List.length_append] at hl
  unfold wpY_carry
  dsimp only
  refine ys_slot1 ha (br_f td_n10 ?_)
  refine ys_slot1 hb (br_f td_n10 ?_)
  refine ys_slot1 ht (br_f td_n10 ?_)
  rw [cA, cB, (hY a ha).2.1, (hY b hb).2.1, he]
  have H : ∀ x4 : Int32, (x4 = 0 → z = false) → (¬ x4 = 0 → z = true) → wY_carry_63 post (nI a) (nI b) x3 (nI t) x4 0 (nI b) (nI a) yw yu yi yl 0 yp yo yn ym yk yd yr yt := by
    intro x4 k0 k1
    unfold wY_carry_63
    refine yx_both (g := 0) (l := []) ha hb (by omega) k0 k1 hP hY (by rw [qA, wB, List.nil_append]; omega) trivial fun yr' g => ?_
    rw [qA, wB, List.nil_append] at g
    refine ⟨ms a + 1, ?_⟩
    rw [qA, wB, List.nil_append]
    refine yc_69 ha hb ht hz0 hz1 hP hY rfl he.symm hL (fun h40 yo' yn' ym' yr' hh => K1 h40 _ yo' yn' ym' yr' hh) (fun h40 yr' => K2 h40 _ yr') (ms a + 1) (ms a) 0 (td_nw (os a)) (td_af (os a)) (td_nw (os b)) (td_af (os b)) _ yr' (by omega) (by omega) (td_nw_af (os a)).symm (td_nw_af (os b)).symm q2 w2 ?_ g
    rw [hcr, Nat.zero_add]
  exact ⟨vA, vB, br_t rfl (br_c (fun k => H 0 (fun _ => hz0 k) (fun w => absurd rfl w)) (fun k => H 1 (fun w => absurd w td_n10) (fun _ => hz1 k)))⟩
end YCARRY
end
section
/-! the reference's walks: the printed form, runs, run, added, same -/
theorem td_nm_ex : ∀ {R : List (Nat × Nat)} {q : Nat}, td_nm q R → ∀ c, c ∈ td_ex R → 1 ≤ c ∧ c ≤ 3 := by
  intro R
  induction R with
  | nil => intro q _ c hc; exact absurd hc (by simp [td_ex])
  | cons x t ih =>
    intro q h c hc
    obtain ⟨h1, h2, h3, h4, h5, h6⟩ := h
    rw [td_ex] at hc
    rcases List.mem_append.mp hc with hc | hc
    · have := List.eq_of_mem_replicate hc
      subst this
      exact ⟨h3, h4⟩
    · exact ih h6 c hc
theorem td_pq_o {o : List Nat} {m : Nat} (h : td_OK o m) : td_pq m 0 o = td_ex (td_rn o m) := by
  have := td_pq_R (td_rn o m) 0 (td_lt o) 0 (td_rn_nm h) (td_rn_aR h) (fun c hc => td_lt_m hc)
  rw [td_rn_iR h, td_rn_oR h] at this
  exact this
theorem td_ex_80 {o : List Nat} {m : Nat} (h : td_OK o m) (hm : m ≤ 40) (ho : o.length ≤ 40) : (td_ex (td_rn o m)).length ≤ 80 := by
  have h1 := td_lt_le o
  rw [td_ex_l, td_rn_iR h, td_rn_aR h]
  omega
section YPRINT
variable {yw yu yi yl ys yp : Int32} {yo yn ym yk yd yr yt : Nat → Int32} {os : Nat → List Nat} {ms : Nat → Nat} {ow dl : List Nat} {mw uw : Nat}
theorem yt_2 {post : SY → Prop} {s tg : Nat} {L : List Nat} (hs : s < 4) (htg : tg ≤ 41) (hP : td_PS os ms) (hY : td_YS os ms yo yn ym) (hL : L.length ≤ 80) (K : ∀ yt' : Nat → Int32, td_AL yt' 0 L → post (yw, yu, yi, yl, ys, nI L.length, yo, yn, ym, yk, yd, yr, yt')) :
    ∀ (N : Nat) (pre rest l : List Nat) (yt : Nat → Int32), os s = pre ++ rest → rest.length < N → l ++ List.replicate (td_gx tg 0 pre.length (td_gv 0 pre) rest).length 3 = L → td_AL yt 0 l → wY_printGap_2 post (nI s) (nI tg) yw yu yi yl ys N (nI pre.length) (nI l.length) yo yn ym yk yd yr yt := by
  have cS : (nI s).toNatClampNeg = s := nI_clamp (by omega)
  have vS : vp_in (nI s) 4 := vp_in_nI hs (by omega)
  obtain ⟨y1, y2, y3⟩ := hY s hs
  obtain ⟨p1, p2, p3⟩ := hP s hs
  intro N
  induction N with
  | zero => intro pre rest l yt _ h; omega
  | succ N ih =>
    intro pre rest l yt h1 h2 h3 h4
    have hlen := congrArg List.length h1
    rw [List.length_append] at hlen
    rw [wY_printGap_2]
    dsimp only
    rw [cS, y1]
    refine ⟨vS, pk_le (os s).length pre.length (fun h => ?_) (fun h => ?_)⟩
    · have e : rest = [] := List.length_eq_zero_iff.mp (by omega)
      subst e
      rw [td_gx, List.length_nil, List.replicate_zero, List.append_nil] at h3
      subst h3
      exact K yt h4
    · cases rest with
      | nil => rw [List.length_nil] at hlen; omega
      | cons c rest =>
        rw [List.length_cons] at h2
        have hc : c < 10 + ms s := td_OK_lt p1 c (by rw [h1]; simp)
        have hgv : td_gv 0 pre ≤ 41 := td_gv_le (fun x hx => by have := td_OK_lt p1 x (by rw [h1]; simp [hx]); omega) (by omega)
        have c1 : (nI (s * 40 + pre.length)).toNatClampNeg = s * 40 + pre.length := nI_clamp (by omega)
        have r1 : yo (s * 40 + pre.length) = nI c := by
          rw [h1] at y3
          exact (td_AL_ap.mp y3).2.1
        have h1' : os s = (pre ++ [c]) ++ rest := by rw [h1, List.append_assoc]; rfl
        have e0 : (pre ++ [c]).length = pre.length + 1 := by rw [List.length_append]; rfl
        have hpl : nI pre.length + 1 = nI (pre ++ [c]).length := by rw [nI_1, e0]
        have eg : td_gv 0 (pre ++ [c]) = if c < 10 then td_gv 0 pre else c - 10 + 1 := by rw [td_gv_ap]; rfl
        rw [td_gx] at h3
        rw [td_40, c1, r1]
        refine ⟨vp_in_nI (by omega) (by omega), pk_le 10 c (fun h10 => ?_) (fun h10 => ?_)⟩
        · rw [if_neg (by omega)] at h3 eg
          exact nm_r hpl (ih (pre ++ [c]) rest l yt h1' (by omega) (by rw [eg, e0]; exact h3) h4)
        · rw [if_pos h10] at h3 eg
          refine yg_gap hs hP hY h1 (pk_eq (td_gv 0 pre) tg (fun hg => ?_) (fun hg => ?_))
          · rw [if_pos hg, List.length_cons, List.replicate_succ] at h3
            have hlt := congrArg List.length h3
            rw [List.length_append, List.length_cons] at hlt
            have cl : (nI l.length).toNatClampNeg = l.length := nI_clamp (by omega)
            have el : (l ++ [3]).length = l.length + 1 := by rw [List.length_append]; rfl
            rw [cl]
            refine ⟨vp_in_nI (by omega) (by omega), nm_e (nm_r (e' := nI (l ++ [3]).length) (by rw [nI_1, el]) (nm_r hpl (ih (pre ++ [c]) rest (l ++ [3]) _ h1' (by omega) ?_ ?_)))⟩
            · rw [eg, e0, List.append_assoc]; exact h3
            · exact td_AL_sn.mpr ⟨td_AL_fr (fun j _ h => pk_un (by omega)) h4, by rw [Nat.zero_add]; exact pk_us⟩
          · rw [if_neg hg] at h3
            exact nm_r hpl (ih (pre ++ [c]) rest l yt h1' (by omega) (by rw [eg, e0]; exact h3) h4)
theorem yt_gap {post : SY → Prop} {s tg : Nat} {l L : List Nat} (hs : s < 4) (htg : tg ≤ 41) (hP : td_PS os ms) (hY : td_YS os ms yo yn ym) (hL : L.length ≤ 80) (hl : l ++ List.replicate (td_gx tg 0 0 0 (os s)).length 3 = L) (hr : td_AL yt 0 l) (K : ∀ yt' : Nat → Int32, td_AL yt' 0 L → post (yw, yu, yi, yl, ys, nI L.length, yo, yn, ym, yk, yd, yr, yt')) : wpY_printGap post (yw, yu, yi, yl, ys, nI l.length, yo, yn, ym, yk, yd, yr, yt) (nI s) (nI tg) :=
  ⟨(os s).length + 1, yt_2 hs htg hP hY hL K ((os s).length + 1) [] (os s) l yt rfl (by omega) hl hr⟩
theorem yt_13 {post : SY → Prop} {s : Nat} {L : List Nat} (hs : s < 4) (hP : td_PS os ms) (hY : td_YS os ms yo yn ym) (hL : L.length ≤ 80) (K : ∀ yt' : Nat → Int32, td_AL yt' 0 L → post (yw, yu, yi, yl, ys, nI L.length, yo, yn, ym, yk, yd, yr, yt')) :
    ∀ (N n p : Nat) (pa ra l : List Nat) (yt : Nat → Int32), n < N → p + n = ms s → os s = pa ++ ra → td_YI p pa ra → l ++ td_ps n p ra = L → td_AL yt 0 l → wY_print_13 post (nI s) N (nI p) yw yu yi yl ys (nI l.length) yo yn ym yk yd yr yt := by
  have cS : (nI s).toNatClampNeg = s := nI_clamp (by omega)
  have vS : vp_in (nI s) 4 := vp_in_nI hs (by omega)
  obtain ⟨y1, y2, y3⟩ := hY s hs
  obtain ⟨p1, p2, p3⟩ := hP s hs
  intro N
  induction N with
  | zero => intro n p pa ra l yt h; omega
  | succ N ih =>
    intro n p pa ra l yt h1 h2 h3 hI h4 h5
    rw [wY_print_13]
    dsimp only
    rw [cS, y2]
    refine ⟨vS, pk_le (ms s) p (fun h => ?_) (fun h => ?_)⟩
    · have e : n = 0 := by omega
      subst e
      rw [td_ps, List.append_nil] at h4
      subst h4
      exact K yt h5
    · obtain ⟨n, rfl⟩ : ∃ k, n = k + 1 := ⟨n - 1, by omega⟩
      obtain ⟨q1, q2, q3, q4⟩ := td_YI_s hI
      rw [← h3] at q3
      have qA : td_gx (p + 1) 0 0 0 (os s) = td_nw (td_ad p ra) := q3 0
      have e3 : os s = (td_pr p pa ra ++ td_nw (td_ad p ra)) ++ td_af (td_ad p ra) := by rw [h3, q1, List.append_assoc, td_nw_af]
      rw [td_ps_s] at h4
      have hlt := congrArg List.length h4
      rw [List.length_append, List.length_cons, td_pq, List.length_append] at hlt
      have cl : (nI l.length).toNatClampNeg = l.length := nI_clamp (by omega)
      have step : ∀ x : Nat, x = (if td_hd ra = 10 + p then 1 else 2) → wY_print_45 post (wY_print_13 post (nI s) N) (nI s) (nI p) (nI x) (nI l.length) yw yu yi yl ys (nI l.length) yo yn ym yk yd yr yt := by
        intro x hx
        have el : (l ++ [x]).length = l.length + 1 := by rw [List.length_append]; rfl
        unfold wY_print_45
        rw [cl]
        refine ⟨vp_in_nI (by omega) (by omega), nm_e (nm_r (e' := nI (l ++ [x]).length) (by rw [nI_1, el]) ?_)⟩
        rw [nI_1]
        have hA : td_AL (upd yt l.length (nI x)) 0 (l ++ [x]) := td_AL_sn.mpr ⟨td_AL_fr (fun j _ h => pk_un (by omega)) h5, by rw [Nat.zero_add]; exact pk_us⟩
        refine yt_gap (L := (l ++ [x]) ++ List.replicate (td_nw (td_ad p ra)).length 3) hs (by omega) hP hY (by rw [List.length_append, el]; omega) (by rw [qA]) hA fun yt' h6 => ?_
        refine nm_r (e' := nI (p + 1)) rfl (ih n (p + 1) _ _ _ yt' (by omega) (by omega) e3 q4 ?_ h6)
        rw [← h4, ← hx, List.append_assoc, List.append_assoc]
        rfl
      refine yq_place hs (by omega) hP hY h3 hI (fun e => ?_) (fun e => ?_)
      · have hpa := congrArg List.length h3
        rw [List.length_append] at hpa
        exact br_f (nI_pos (by omega)) (step 1 (if_pos e).symm)
      · exact br_t td_m1lt (step 2 (if_neg e).symm)
theorem yt_print {post : SY → Prop} {s : Nat} (hs : s < 4) (hP : td_PS os ms) (hY : td_YS os ms yo yn ym) (K : ∀ yt' : Nat → Int32, td_AL yt' 0 (td_ex (td_rn (os s) (ms s))) → post (yw, yu, yi, yl, ys, nI (td_ex (td_rn (os s) (ms s))).length, yo, yn, ym, yk, yd, yr, yt')) : wpY_print post (yw, yu, yi, yl, ys, yp, yo, yn, ym, yk, yd, yr, yt) (nI s) := by
  obtain ⟨p1, p2, p3⟩ := hP s hs
  obtain ⟨q1, q2⟩ := td_YI_0 (td_OK_so p1)
  have qA : td_gx 0 0 0 0 (os s) = td_nw (os s) := q1 0
  have h80 := td_ex_80 p1 p2 p3
  have hpq := td_pq_o p1
  have hlt := congrArg List.length hpq
  rw [td_pq, List.length_append] at hlt
  unfold wpY_print
  dsimp only
  refine yt_gap (tg := 0) (l := []) (L := List.replicate (td_nw (os s)).length 3) hs (by omega) hP hY (by omega) (by rw [qA]; rfl) trivial fun yt' h => ?_
  exact ⟨ms s + 1, yt_13 hs hP hY h80 K (ms s + 1) (ms s) 0 (td_nw (os s)) (td_af (os s)) _ yt' (by omega) (by omega) (td_nw_af (os s)).symm q2 hpq h⟩
theorem yr_19 {post : Int32 → SY → Prop} {E : List Nat} {n : Nat} (hE : E.length ≤ 80) (h13 : ∀ c, c ∈ E → 1 ≤ c ∧ c ≤ 3) (ht : td_AL yt 0 E) (K : post (nI n) (yw, yu, yi, yl, ys, nI E.length, yo, yn, ym, yk, yd, yr, yt)) :
    ∀ (N : Nat) (pre rest : List Nat) (cn q : Nat), E = pre ++ rest → rest.length < N → ((pre = [] ∧ q = 0) ∨ ∃ m, pre = m ++ [q]) → cn + td_ct q rest = n → wY_runs_19 post yw yu yi yl ys (nI E.length) yo yn ym yk yd yr yt N (nI cn) (nI pre.length) := by
  intro N
  induction N with
  | zero => intro pre rest cn q _ h; omega
  | succ N ih =>
    intro pre rest cn q h1 h2 h3 h4
    have hlen := congrArg List.length h1
    rw [List.length_append] at hlen
    rw [wY_runs_19]
    refine pk_le E.length pre.length (fun h => ?_) (fun h => ?_)
    · have e : rest = [] := List.length_eq_zero_iff.mp (by omega)
      subst e
      rw [td_ct, Nat.add_zero] at h4
      subst h4
      exact K
    · cases rest with
      | nil => rw [List.length_nil] at hlen; omega
      | cons c rest =>
        rw [List.length_cons] at h2
        have hc := h13 c (by rw [h1]; simp)
        have h1' : E = (pre ++ [c]) ++ rest := by rw [h1, List.append_assoc]; rfl
        have e0 : (pre ++ [c]).length = pre.length + 1 := by rw [List.length_append]; rfl
        have hpl : nI pre.length + 1 = nI (pre ++ [c]).length := by rw [nI_1, e0]
        have ht' := ht
        rw [h1] at ht'
        have a1 := td_AL_ap.mp ht'
        have r1 : yt pre.length = nI c := by
          have := a1.2.1
          rw [Nat.zero_add] at this
          exact this
        rw [td_ct] at h4
        have c1 : (nI pre.length).toNatClampNeg = pre.length := nI_clamp (by omega)
        rcases h3 with ⟨rfl, rfl⟩ | ⟨m, rfl⟩
        · rw [if_neg (by omega)] at h4
          exact br_t rfl (nm_r (nI_1 cn) (nm_r hpl (ih ([] ++ [c]) rest (cn + 1) c h1' (by omega) (Or.inr ⟨[], rfl⟩) (by omega))))
        · have em : (m ++ [q]).length = m.length + 1 := by rw [List.length_append]; rfl
          have hq := h13 q (by rw [h1]; simp)
          have r2 : yt m.length = nI q := by
            have := (td_AL_sn.mp a1.1).2
            rw [Nat.zero_add] at this
            exact this
          have e2 : nI (m ++ [q]).length - 1 = nI m.length := by rw [em, nI_pred]
          have c2 : (nI m.length).toNatClampNeg = m.length := nI_clamp (by omega)
          refine br_f (nI_ne0 (by omega) (by omega)) ?_
          rw [c1, e2, c2, r1, r2]
          refine ⟨vp_in_nI (by omega) (by omega), vp_in_nI (by omega) (by omega), pk_eq c q (fun hcq => ?_) (fun hcq => ?_)⟩
          · rw [if_pos hcq] at h4
            exact nm_r hpl (ih ((m ++ [q]) ++ [c]) rest cn c h1' (by omega) (Or.inr ⟨_, rfl⟩) (by omega))
          · rw [if_neg hcq] at h4
            exact nm_r (nI_1 cn) (nm_r hpl (ih ((m ++ [q]) ++ [c]) rest (cn + 1) c h1' (by omega) (Or.inr ⟨_, rfl⟩) (by omega)))
theorem yr_runs {post : Int32 → SY → Prop} {s : Nat} (hs : s < 4) (hP : td_PS os ms) (hY : td_YS os ms yo yn ym) (K : ∀ (yp' : Int32) (yt' : Nat → Int32), post (nI (td_rn (os s) (ms s)).length) (yw, yu, yi, yl, ys, yp', yo, yn, ym, yk, yd, yr, yt')) : wpY_runs post (yw, yu, yi, yl, ys, yp, yo, yn, ym, yk, yd, yr, yt) (nI s) := by
  obtain ⟨p1, p2, p3⟩ := hP s hs
  unfold wpY_runs
  dsimp only
  refine ys_slot1 hs (br_f td_n10 ?_)
  refine yt_print hs hP hY fun yt' h => ?_
  exact ⟨_, yr_19 (td_ex_80 p1 p2 p3) (td_nm_ex (td_rn_nm p1)) h (K _ yt') ((td_ex (td_rn (os s) (ms s))).length + 1) [] _ 0 0 rfl (by omega) (Or.inl ⟨rfl, rfl⟩) (by rw [Nat.zero_add]; exact td_ct_R _ 0 (td_rn_nm p1))⟩
theorem yr_26 {post : Int32 → SY → Prop} {E : List Nat} {j : Nat} {x2 : Int32} {w : Nat × Nat} (hE : E.length ≤ 80) (h13 : ∀ c, c ∈ E → 1 ≤ c ∧ c ≤ 3) (hj : ∀ i, i < 100 → (nI i = x2 ↔ i = j)) (ht : td_AL yt 0 E) (K0 : w.2 = 0 → post (-4) (yw, yu, yi, yl, ys, nI E.length, yo, yn, ym, yk, yd, yr, yt)) (K1 : w.2 ≠ 0 → post (nI w.1 + 4 * nI w.2) (yw, yu, yi, yl, ys, nI E.length, yo, yn, ym, yk, yd, yr, yt)) :
    ∀ (N : Nat) (pre rest : List Nat) (cn q : Nat) (v : Nat × Nat), E = pre ++ rest → rest.length < N → ((pre = [] ∧ q = 0 ∧ cn = 0) ∨ (1 ≤ cn ∧ ∃ m, pre = m ++ [q])) → cn ≤ pre.length → v.2 ≤ pre.length → td_ru j q cn v rest = w → wY_run_26 post x2 yw yu yi yl ys (nI E.length) yo yn ym yk yd yr yt N (nI cn - 1) (nI v.1) (nI v.2) (nI pre.length) := by
  intro N
  induction N with
  | zero => intro pre rest cn q v _ h; omega
  | succ N ih =>
    intro pre rest cn q v h1 h2 h3 hcn hv h4
    have hlen := congrArg List.length h1
    rw [List.length_append] at hlen
    rw [wY_run_26]
    refine pk_le E.length pre.length (fun h => ?_) (fun h => ?_)
    · have e : rest = [] := List.length_eq_zero_iff.mp (by omega)
      subst e
      rw [td_ru] at h4
      subst h4
      exact pk_eq v.2 0 K0 K1
    · cases rest with
      | nil => rw [List.length_nil] at hlen; omega
      | cons c rest =>
        rw [List.length_cons] at h2
        have hc := h13 c (by rw [h1]; simp)
        have h1' : E = (pre ++ [c]) ++ rest := by rw [h1, List.append_assoc]; rfl
        have e0 : (pre ++ [c]).length = pre.length + 1 := by rw [List.length_append]; rfl
        have hpl : nI pre.length + 1 = nI (pre ++ [c]).length := by rw [nI_1, e0]
        have ht' := ht
        rw [h1] at ht'
        have a1 := td_AL_ap.mp ht'
        have r1 : yt pre.length = nI c := by
          have := a1.2.1
          rw [Nat.zero_add] at this
          exact this
        rw [td_ru] at h4
        have c1 : (nI pre.length).toNatClampNeg = pre.length := nI_clamp (by omega)
        have v1 : vp_in (nI pre.length) 80 := vp_in_nI (by omega) (by omega)
        have s62 : ∀ cn' : Nat, 1 ≤ cn' → cn' ≤ pre.length + 1 → td_ru j c cn' (if cn' = j + 1 then (c, v.2 + 1) else v) rest = w → wY_run_62 post (wY_run_26 post x2 yw yu yi yl ys (nI E.length) yo yn ym yk yd yr yt N) x2 (nI cn' - 1) (nI v.1) (nI v.2) (nI pre.length) yw yu yi yl ys (nI E.length) yo yn ym yk yd yr yt := by
          intro cn' g1 g2 g3
          have e1 : nI cn' - 1 = nI (cn' - 1) := by
            obtain ⟨d, rfl⟩ : ∃ d, cn' = d + 1 := ⟨cn' - 1, by omega⟩
            rw [nI_pred]; rfl
          unfold wY_run_62
          by_cases hh : cn' = j + 1
          · rw [if_pos hh] at g3
            refine br_t (by rw [e1]; exact (hj _ (by omega)).mpr (by omega)) ?_
            rw [c1, r1]
            exact ⟨v1, nm_e (nm_r (nI_1 v.2) (nm_r hpl (ih (pre ++ [c]) rest cn' c (c, v.2 + 1) h1' (by omega) (Or.inr ⟨g1, pre, rfl⟩) (by omega) (by dsimp only; omega) g3)))⟩
          · rw [if_neg hh] at g3
            refine br_f (fun z => hh ?_) ?_
            · rw [e1] at z
              have := (hj _ (by omega)).mp z
              omega
            · exact nm_r hpl (ih (pre ++ [c]) rest cn' c v h1' (by omega) (Or.inr ⟨g1, pre, rfl⟩) (by omega) (by omega) g3)
        have s59 : td_ru j c (cn + 1) (if cn + 1 = j + 1 then (c, v.2 + 1) else v) rest = w → wY_run_59 post (wY_run_26 post x2 yw yu yi yl ys (nI E.length) yo yn ym yk yd yr yt N) x2 (nI cn - 1) (nI v.1) (nI v.2) (nI pre.length) yw yu yi yl ys (nI E.length) yo yn ym yk yd yr yt := by
          intro g3
          unfold wY_run_59
          refine nm_r (e' := nI (cn + 1) - 1) ?_ (s62 (cn + 1) (by omega) (by omega) g3)
          rw [nI_pred, Int32.sub_add_cancel]
        rcases h3 with ⟨rfl, rfl, rfl⟩ | ⟨g1, m, rfl⟩
        · rw [if_neg (by omega)] at h4
          exact br_t rfl (s59 h4)
        · have em : (m ++ [q]).length = m.length + 1 := by rw [List.length_append]; rfl
          have hq := h13 q (by rw [h1]; simp)
          have r2 : yt m.length = nI q := by
            have := (td_AL_sn.mp a1.1).2
            rw [Nat.zero_add] at this
            exact this
          have e2 : nI (m ++ [q]).length - 1 = nI m.length := by rw [em, nI_pred]
          have c2 : (nI m.length).toNatClampNeg = m.length := nI_clamp (by omega)
          refine br_f (nI_ne0 (by omega) (by omega)) ?_
          rw [c1, e2, c2, r1, r2]
          refine ⟨v1, vp_in_nI (by omega) (by omega), pk_eq c q (fun hcq => ?_) (fun hcq => ?_)⟩
          · rw [if_pos hcq] at h4
            exact s62 cn g1 (by omega) h4
          · rw [if_neg hcq] at h4
            exact s59 h4
theorem yr_run {post : Int32 → SY → Prop} {s j : Nat} {x2 : Int32} (hs : s < 4) (hj : ∀ i, i < 100 → (nI i = x2 ↔ i = j)) (hP : td_PS os ms) (hY : td_YS os ms yo yn ym)
    (K0 : ((td_rn (os s) (ms s))[j]?.getD (0, 0)).2 = 0 → ∀ (yp' : Int32) (yt' : Nat → Int32), post (-4) (yw, yu, yi, yl, ys, yp', yo, yn, ym, yk, yd, yr, yt'))
    (K1 : ((td_rn (os s) (ms s))[j]?.getD (0, 0)).2 ≠ 0 → ∀ (yp' : Int32) (yt' : Nat → Int32), post (nI ((td_rn (os s) (ms s))[j]?.getD (0, 0)).1 + 4 * nI ((td_rn (os s) (ms s))[j]?.getD (0, 0)).2) (yw, yu, yi, yl, ys, yp', yo, yn, ym, yk, yd, yr, yt')) : wpY_run post (yw, yu, yi, yl, ys, yp, yo, yn, ym, yk, yd, yr, yt) (nI s) x2 := by
  obtain ⟨p1, p2, p3⟩ := hP s hs
  unfold wpY_run
  dsimp only
  refine ys_slot1 hs (br_f td_n10 ?_)
  refine yt_print hs hP hY fun yt' h => ?_
  have h26 := yr_26 (post := post) (yw := yw) (yu := yu) (yi := yi) (yl := yl) (ys := ys) (yo := yo) (yn := yn) (ym := ym) (yk := yk) (yd := yd) (yr := yr) (td_ex_80 p1 p2 p3) (td_nm_ex (td_rn_nm p1)) hj h (fun z => K0 z _ yt') (fun z => K1 z _ yt') ((td_ex (td_rn (os s) (ms s))).length + 1) [] _ 0 0 (0, 0) rfl (by omega) (Or.inl ⟨rfl, rfl, rfl⟩) (Nat.le_refl _) (Nat.le_refl _) (td_ru_R _ 0 0 (td_rn_nm p1) (Nat.zero_le _))
  have e : nI 0 - 1 = -1 := by decide
  rw [e] at h26
  exact ⟨_, h26⟩
theorem yd_15 {post : Int32 → Prop} {s j : Nat} {x2 : Int32} (hs : s < 4) (hj : ∀ i, i < 100 → (nI i = x2 ↔ i = j)) (hP : td_PS os ms) (hY : td_YS os ms yo yn ym) (K0 : (td_lt (os s))[j]? = none → post (-4)) (K1 : ∀ c, (td_lt (os s))[j]? = some c → post (nI c)) :
    ∀ (N : Nat) (pre rest : List Nat) (k : Nat), os s = pre ++ rest → rest.length < N → k ≤ pre.length → k ≤ j → (td_lt (os s))[j]? = (td_lt rest)[j - k]? → wY_added_15 post (nI s) x2 yw yu yi yl ys yp yo yn ym yk yd yr yt N (nI k) (nI pre.length) := by
  have cS : (nI s).toNatClampNeg = s := nI_clamp (by omega)
  have vS : vp_in (nI s) 4 := vp_in_nI hs (by omega)
  obtain ⟨y1, y2, y3⟩ := hY s hs
  obtain ⟨p1, p2, p3⟩ := hP s hs
  intro N
  induction N with
  | zero => intro pre rest k _ h; omega
  | succ N ih =>
    intro pre rest k h1 h2 hk hkj h3
    have hlen := congrArg List.length h1
    rw [List.length_append] at hlen
    rw [wY_added_15]
    dsimp only
    rw [cS, y1]
    refine ⟨vS, pk_le (os s).length pre.length (fun h => ?_) (fun h => ?_)⟩
    · have e : rest = [] := List.length_eq_zero_iff.mp (by omega)
      subst e
      exact K0 h3
    · cases rest with
      | nil => rw [List.length_nil] at hlen; omega
      | cons c rest =>
        rw [List.length_cons] at h2
        have hc : c < 10 + ms s := td_OK_lt p1 c (by rw [h1]; simp)
        have c1 : (nI (s * 40 + pre.length)).toNatClampNeg = s * 40 + pre.length := nI_clamp (by omega)
        have r1 : yo (s * 40 + pre.length) = nI c := by
          rw [h1] at y3
          exact (td_AL_ap.mp y3).2.1
        have h1' : os s = (pre ++ [c]) ++ rest := by rw [h1, List.append_assoc]; rfl
        have e0 : (pre ++ [c]).length = pre.length + 1 := by rw [List.length_append]; rfl
        have hpl : nI pre.length + 1 = nI (pre ++ [c]).length := by rw [nI_1, e0]
        have elt : td_lt (c :: rest) = td_lt [c] ++ td_lt rest := td_lt_ap [c] rest
        rw [elt] at h3
        have w : vp_in (nI (s * 40 + pre.length)) 160 := vp_in_nI (by omega) (by omega)
        rw [td_40, c1, r1]
        refine ⟨w, pk_le 10 c (fun h10 => ?_) (fun h10 => ?_)⟩
        · rw [td_lt_ge h10, List.nil_append] at h3
          exact nm_r hpl (ih (pre ++ [c]) rest k h1' (by omega) (by omega) hkj h3)
        · rw [td_lt_10 h10] at h3
          by_cases e : k = j
          · rw [e, Nat.sub_self] at h3
            exact br_t ((hj k (by omega)).mpr e) ⟨w, K1 c h3⟩
          · refine br_f (fun z => e ((hj k (by omega)).mp z)) (nm_r (nI_1 k) (nm_r hpl (ih (pre ++ [c]) rest (k + 1) h1' (by omega) (by omega) (by omega) ?_)))
            obtain ⟨d, hd⟩ : ∃ d, j - k = d + 1 := ⟨j - k - 1, by omega⟩
            rw [h3, hd, show j - (k + 1) = d by omega]
            rfl
theorem yd_added {post : Int32 → Prop} {s j : Nat} {x2 : Int32} (hs : s < 4) (hj : ∀ i, i < 100 → (nI i = x2 ↔ i = j)) (hP : td_PS os ms) (hY : td_YS os ms yo yn ym) (K0 : (td_lt (os s))[j]? = none → post (-4)) (K1 : ∀ c, (td_lt (os s))[j]? = some c → post (nI c)) : wpY_added post (yw, yu, yi, yl, ys, yp, yo, yn, ym, yk, yd, yr, yt) (nI s) x2 := by
  unfold wpY_added
  dsimp only
  refine ys_slot1 hs (br_f td_n10 ?_)
  exact ⟨(os s).length + 1, yd_15 hs hj hP hY K0 K1 ((os s).length + 1) [] (os s) 0 rfl (by omega) (by omega) (by omega) rfl⟩
theorem yz_52 {post : Int32 → Prop} {a b : Nat} (ha : a < 4) (hb : b < 4) (hP : td_PS os ms) (hY : td_YS os ms yo yn ym) :
    ∀ (N i : Nat) (A B : List Nat), A.length = B.length → i + A.length = (os a).length → A.length < N → td_AL yo (a * 40 + i) A → td_AL yo (b * 40 + i) B → (∀ c, c ∈ A → c < 50) → (∀ c, c ∈ B → c < 50) → (A = B → post 1) → (A ≠ B → post 0) → wY_same_52 post (nI a) (nI b) yw yu yi yl ys yp yo yn ym yk yd yr yt N (nI i) := by
  have cA : (nI a).toNatClampNeg = a := nI_clamp (by omega)
  have vA : vp_in (nI a) 4 := vp_in_nI ha (by omega)
  have y1 := (hY a ha).1
  have p3 := (hP a ha).2.2
  intro N
  induction N with
  | zero => intro i A B _ _ h; omega
  | succ N ih =>
    intro i A B h1 h2 h3 h4 h5 h6 h7 K1 K0
    rw [wY_same_52]
    dsimp only
    rw [cA, y1]
    refine ⟨vA, pk_le (os a).length i (fun h => ?_) (fun h => ?_)⟩
    · have e : A = [] := List.length_eq_zero_iff.mp (by omega)
      have e' : B = [] := List.length_eq_zero_iff.mp (by omega)
      exact K1 (e.trans e'.symm)
    · cases A with
      | nil => rw [List.length_nil] at h2; omega
      | cons x A =>
        cases B with
        | nil => exact absurd h1 (by simp)
        | cons y B =>
          rw [List.length_cons] at h2 h3
          rw [List.length_cons, List.length_cons] at h1
          have c1 : (nI (a * 40 + i)).toNatClampNeg = a * 40 + i := nI_clamp (by omega)
          have c2 : (nI (b * 40 + i)).toNatClampNeg = b * 40 + i := nI_clamp (by omega)
          have hx := h6 x (by simp)
          have hy := h7 y (by simp)
          rw [td_40, td_40, c1, c2, h4.1, h5.1]
          refine ⟨vp_in_nI (by omega) (by omega), vp_in_nI (by omega) (by omega), pk_eq x y (fun e => ?_) (fun e => K0 (fun z => e (List.cons.inj z).1))⟩
          subst e
          exact nm_r (nI_1 i) (ih (i + 1) A B (by omega) (by omega) (by omega) h4.2 h5.2 (fun c hc => h6 c (by simp [hc])) (fun c hc => h7 c (by simp [hc])) (fun z => K1 (by rw [z])) (fun z => K0 (fun w => z (List.cons.inj w).2)))
theorem yz_same {post : Int32 → Prop} {a b : Nat} (ha : a < 4) (hb : b < 4) (hP : td_PS os ms) (hY : td_YS os ms yo yn ym) (K1 : ms a = ms b → os a = os b → post 1) (K0 : ¬ (ms a = ms b ∧ os a = os b) → post 0) : wpY_same post (yw, yu, yi, yl, ys, yp, yo, yn, ym, yk, yd, yr, yt) (nI a) (nI b) := by
  have cA : (nI a).toNatClampNeg = a := nI_clamp (by omega)
  have cB : (nI b).toNatClampNeg = b := nI_clamp (by omega)
  have vA : vp_in (nI a) 4 := vp_in_nI ha (by omega)
  have vB : vp_in (nI b) 4 := vp_in_nI hb (by omega)
  obtain ⟨ya1, ya2, ya3⟩ := hY a ha
  obtain ⟨yb1, yb2, yb3⟩ := hY b hb
  obtain ⟨pa1, pa2, pa3⟩ := hP a ha
  obtain ⟨pb1, pb2, pb3⟩ := hP b hb
  unfold wpY_same
  dsimp only
  refine ys_slot1 ha (br_f td_n10 ?_)
  refine ys_slot1 hb (br_f td_n10 ?_)
  rw [cA, cB, ya1, yb1, ya2, yb2]
  refine ⟨vA, vB, pk_eq (ms a) (ms b) (fun e1 => ⟨vA, vB, pk_eq (os a).length (os b).length (fun e2 => ?_) (fun e2 => K0 (fun z => e2 (by rw [z.2])))⟩) (fun e1 => K0 (fun z => e1 z.1))⟩
  exact ⟨(os a).length + 1, yz_52 ha hb hP hY ((os a).length + 1) 0 (os a) (os b) e2 (Nat.zero_add _) (by omega) ya3 yb3 (fun c hc => by have := td_OK_lt pa1 c hc; omega) (fun c hc => by have := td_OK_lt pb1 c hc; omega) (K1 e1) (fun z => K0 (fun w => z w.2))⟩
end YPRINT
end
section
/-! the component's small readers; refused calls on both sides; keep on the reference's side -/
theorem td_nb {a : Nat} (h : a < 4) : ¬ td_bad (nI a) := fun z => z.elim (nI_pos (by omega)) (nI_nlt (a := 3) (by omega) (by omega))
theorem td_gd {x : Int32} (h : ¬ td_bad x) : ∃ j, j < 4 ∧ x = nI j := (td_sl x).resolve_left h
theorem td_jx (x : Int32) : ∃ j : Nat, (∀ i, i < 100 → (nI i = x ↔ i = j)) ∧ ((x < 0 ∧ 100 ≤ j) ∨ (¬ x < 0 ∧ x = nI j ∧ j < 2 ^ 31)) := by
  by_cases h : x < 0
  · refine ⟨100, fun i hi => ⟨fun e => ?_, fun e => by omega⟩, Or.inl ⟨h, Nat.le_refl _⟩⟩
    rw [← e] at h
    exact absurd h (nI_pos (by omega))
  · obtain ⟨j, hj, rfl⟩ := nI_of h
    exact ⟨j, fun i hi => nI_eq (by omega) hj, Or.inr ⟨h, rfl, hj⟩⟩
theorem td_nm_pos : ∀ {R : List (Nat × Nat)} {q : Nat}, td_nm q R → ∀ x, x ∈ R → 1 ≤ x.2 ∧ x.1 ≤ 3 := by
  intro R
  induction R with
  | nil => intro q _ x hx; exact absurd hx (by simp)
  | cons y t ih =>
    intro q h x hx
    rcases List.mem_cons.mp hx with rfl | hx
    · exact ⟨h.2.2.2.2.1, h.2.2.2.1⟩
    · exact ih h.2.2.2.2.2 x hx
theorem td_el_le : ∀ {R : List (Nat × Nat)} {x : Nat × Nat}, x ∈ R → x.2 ≤ td_iR R + td_aR R := by
  intro R
  induction R with
  | nil => intro x hx; exact absurd hx (by simp)
  | cons y t ih =>
    intro x hx
    rw [td_iR, td_aR]
    rcases List.mem_cons.mp hx with rfl | hx
    · split
      · omega
      · split <;> omega
    · have := ih hx
      omega
section XSMALL
variable {xu xl aD aR aL aF bD bR bL bF : Int32} {il ol rc fc kd st fr tx nx : Nat → Int32} {os : Nat → List Nat} {ms : Nat → Nat} {ow dl : List Nat} {mw uw : Nat}
variable {yw yu yi yl ys yp : Int32} {yo yn ym yk yd yr yt : Nat → Int32}
theorem xr_run {post : Int32 → Prop} {s j : Nat} {x2 : Int32} (hs : s < 4) (hj : (x2 < 0 ∧ 100 ≤ j) ∨ (¬ x2 < 0 ∧ x2 = nI j ∧ j < 2 ^ 31)) (hS : td_SL il ol rc fc kd st fr os ms)
    (K0 : ((td_rn (os s) (ms s))[j]?.getD (0, 0)).2 = 0 → post (-4))
    (K1 : ((td_rn (os s) (ms s))[j]?.getD (0, 0)).2 ≠ 0 → post (nI ((td_rn (os s) (ms s))[j]?.getD (0, 0)).1 + 4 * nI ((td_rn (os s) (ms s))[j]?.getD (0, 0)).2)) : wpX_run post (xu, xl, aD, aR, aL, aF, bD, bR, bL, bF, il, ol, rc, fc, kd, st, fr, tx, nx) (nI s) x2 := by
  obtain ⟨ta, m40, o40⟩ := hS s hs
  have r60 := td_rn_60 ta.2.2.2.2.1 m40 o40
  have cS : (nI s).toNatClampNeg = s := nI_clamp (by omega)
  have vS : vp_in (nI s) 6 := vp_in_nI (by omega) (by omega)
  unfold wpX_run
  dsimp only
  refine xs_slot1 hs (br_f td_n10 ?_)
  have hnone : (td_rn (os s) (ms s)).length ≤ j → post (-4) := fun h => K0 (by rw [List.getElem?_eq_none h]; rfl)
  rcases hj with ⟨h, hj⟩ | ⟨h, rfl, hj⟩
  · exact br_t h (hnone (by omega))
  · refine br_f h ?_
    rw [cS, ta.2.2.2.2.2.1]
    refine ⟨vS, pk_lt j (td_rn (os s) (ms s)).length (fun h2 => ?_) hnone⟩
    have c2 : (nI (s * 64 + j)).toNatClampNeg = s * 64 + j := nI_clamp (by omega)
    have w : vp_in (nI (s * 64 + j)) 448 := vp_in_nI (by omega) (by omega)
    have g1 := td_AL_get ta.2.2.2.2.2.2.1 (i := j) (by rw [List.length_map]; exact h2)
    have g2 := td_AL_get ta.2.2.2.2.2.2.2 (i := j) (by rw [List.length_map]; exact h2)
    rw [List.getD_eq_getElem?_getD, List.getElem?_map, List.getElem?_eq_getElem h2] at g1 g2
    rw [List.getElem?_eq_getElem h2] at K1
    have h1 := (td_nm_pos (td_rn_nm ta.2.2.2.2.1) _ (List.getElem_mem h2)).1
    rw [td_64, c2, g1, g2]
    exact ⟨w, w, K1 (show (td_rn (os s) (ms s))[j].2 ≠ 0 by omega)⟩
theorem xd_added {post : Int32 → Prop} {s j : Nat} {x2 : Int32} (hs : s < 4) (hj : (x2 < 0 ∧ 100 ≤ j) ∨ (¬ x2 < 0 ∧ x2 = nI j ∧ j < 2 ^ 31)) (hS : td_SL il ol rc fc kd st fr os ms) (K0 : (td_lt (os s))[j]? = none → post (-4)) (K1 : ∀ c, (td_lt (os s))[j]? = some c → post (nI c)) : wpX_added post (xu, xl, aD, aR, aL, aF, bD, bR, bL, bF, il, ol, rc, fc, kd, st, fr, tx, nx) (nI s) x2 := by
  obtain ⟨ta, m40, o40⟩ := hS s hs
  have l40 := td_lt_le (os s)
  have cS : (nI s).toNatClampNeg = s := nI_clamp (by omega)
  have vS : vp_in (nI s) 6 := vp_in_nI (by omega) (by omega)
  unfold wpX_added
  dsimp only
  refine xs_slot1 hs (br_f td_n10 ?_)
  rcases hj with ⟨h, hj⟩ | ⟨h, rfl, hj⟩
  · exact br_t h (K0 (List.getElem?_eq_none (by omega)))
  · refine br_f h ?_
    rw [cS, ta.2.2.1]
    refine ⟨vS, pk_lt j (td_lt (os s)).length (fun h2 => ?_) (fun h2 => K0 (List.getElem?_eq_none h2))⟩
    have c2 : (nI (s * 40 + j)).toNatClampNeg = s * 40 + j := nI_clamp (by omega)
    have w : vp_in (nI (s * 40 + j)) 240 := vp_in_nI (by omega) (by omega)
    have g1 := td_AL_get ta.2.2.2.1 (i := j) h2
    rw [List.getD_eq_getElem?_getD, List.getElem?_eq_getElem h2] at g1
    rw [td_40, c2, g1]
    exact ⟨w, K1 _ (List.getElem?_eq_getElem h2)⟩
theorem xz_137 {post : Int32 → Prop} {a b n : Nat} (ha : a < 4) (hb : b < 4) (hn : n ≤ 40) (hf : fc a = nI n) :
    ∀ (N i : Nat) (A B : List Nat), A.length = B.length → i + A.length = n → A.length < N → td_AL fr (a * 40 + i) A → td_AL fr (b * 40 + i) B → (∀ c, c ∈ A → c < 10) → (∀ c, c ∈ B → c < 10) → (A = B → post 1) → (A ≠ B → post 0) → wX_same_137 post (nI a) (nI b) xu xl aD aR aL aF bD bR bL bF il ol rc fc kd st fr tx nx N (nI i) := by
  have cA : (nI a).toNatClampNeg = a := nI_clamp (by omega)
  have vA : vp_in (nI a) 6 := vp_in_nI (by omega) (by omega)
  intro N
  induction N with
  | zero => intro i A B _ _ h; omega
  | succ N ih =>
    intro i A B h1 h2 h3 h4 h5 h6 h7 K1 K0
    rw [wX_same_137]
    dsimp only
    rw [cA, hf]
    refine ⟨vA, pk_le n i (fun h => ?_) (fun h => ?_)⟩
    · have e : A = [] := List.length_eq_zero_iff.mp (by omega)
      have e' : B = [] := List.length_eq_zero_iff.mp (by omega)
      exact K1 (e.trans e'.symm)
    · cases A with
      | nil => rw [List.length_nil] at h2; omega
      | cons x A =>
        cases B with
        | nil => exact absurd h1 (by simp)
        | cons y B =>
          rw [List.length_cons] at h2 h3
          rw [List.length_cons, List.length_cons] at h1
          have c1 : (nI (a * 40 + i)).toNatClampNeg = a * 40 + i := nI_clamp (by omega)
          have c2 : (nI (b * 40 + i)).toNatClampNeg = b * 40 + i := nI_clamp (by omega)
          have hx := h6 x (by simp)
          have hy := h7 y (by simp)
          rw [td_40, td_40, c1, c2, h4.1, h5.1]
          refine ⟨vp_in_nI (by omega) (by omega), vp_in_nI (by omega) (by omega), pk_eq x y (fun e => ?_) (fun e => K0 (fun z => e (List.cons.inj z).1))⟩
          subst e
          exact nm_r (nI_1 i) (ih (i + 1) A B (by omega) (by omega) (by omega) h4.2 h5.2 (fun c hc => h6 c (by simp [hc])) (fun c hc => h7 c (by simp [hc])) (fun z => K1 (by rw [z])) (fun z => K0 (fun w => z (List.cons.inj w).2)))
theorem xz_67 {post : Int32 → Prop} {a b n : Nat} (ha : a < 4) (hb : b < 4) (hn : n ≤ 60) (hf : rc a = nI n) :
    ∀ (N i : Nat) (A B : List (Nat × Nat)), A.length = B.length → i + A.length = n → A.length < N → td_AL kd (a * 64 + i) (A.map Prod.fst) → td_AL st (a * 64 + i) (A.map Prod.snd) → td_AL kd (b * 64 + i) (B.map Prod.fst) → td_AL st (b * 64 + i) (B.map Prod.snd) → (∀ c, c ∈ A → c.1 ≤ 3 ∧ c.2 ≤ 80) → (∀ c, c ∈ B → c.1 ≤ 3 ∧ c.2 ≤ 80) → (A = B → ∃ m, wX_same_137 post (nI a) (nI b) xu xl aD aR aL aF bD bR bL bF il ol rc fc kd st fr tx nx m 0) → (A ≠ B → post 0) → wX_same_67 post (nI a) (nI b) xu xl aD aR aL aF bD bR bL bF il ol rc fc kd st fr tx nx N (nI i) := by
  have cA : (nI a).toNatClampNeg = a := nI_clamp (by omega)
  have vA : vp_in (nI a) 6 := vp_in_nI (by omega) (by omega)
  intro N
  induction N with
  | zero => intro i A B _ _ h; omega
  | succ N ih =>
    intro i A B h1 h2 h3 h4 h4' h5 h5' h6 h7 K1 K0
    rw [wX_same_67]
    dsimp only
    rw [cA, hf]
    refine ⟨vA, pk_le n i (fun h => ?_) (fun h => ?_)⟩
    · have e : A = [] := List.length_eq_zero_iff.mp (by omega)
      have e' : B = [] := List.length_eq_zero_iff.mp (by omega)
      exact K1 (e.trans e'.symm)
    · cases A with
      | nil => rw [List.length_nil] at h2; omega
      | cons x A =>
        cases B with
        | nil => exact absurd h1 (by simp)
        | cons y B =>
          rw [List.length_cons] at h2 h3
          rw [List.length_cons, List.length_cons] at h1
          have c1 : (nI (a * 64 + i)).toNatClampNeg = a * 64 + i := nI_clamp (by omega)
          have c2 : (nI (b * 64 + i)).toNatClampNeg = b * 64 + i := nI_clamp (by omega)
          have w1 : vp_in (nI (a * 64 + i)) 448 := vp_in_nI (by omega) (by omega)
          have w2 : vp_in (nI (b * 64 + i)) 448 := vp_in_nI (by omega) (by omega)
          have hx := h6 x (by simp)
          have hy := h7 y (by simp)
          rw [td_64, td_64, c1, c2, h4.1, h5.1, h4'.1, h5'.1]
          refine ⟨w1, w2, pk_eq x.1 y.1 (fun e => ⟨w1, w2, pk_eq x.2 y.2 (fun e' => ?_) (fun e' => K0 (fun z => e' (by rw [(List.cons.inj z).1])))⟩) (fun e => K0 (fun z => e (by rw [(List.cons.inj z).1])))⟩
          have exy : x = y := Prod.ext e e'
          subst exy
          exact nm_r (nI_1 i) (ih (i + 1) A B (by omega) (by omega) (by omega) h4.2 h4'.2 h5.2 h5'.2 (fun c hc => h6 c (by simp [hc])) (fun c hc => h7 c (by simp [hc])) (fun z => K1 (by rw [z])) (fun z => K0 (fun w => z (List.cons.inj w).2)))
theorem xz_same {post : Int32 → Prop} {a b : Nat} (ha : a < 4) (hb : b < 4) (hS : td_SL il ol rc fc kd st fr os ms) (K1 : ms a = ms b → os a = os b → post 1) (K0 : ¬ (ms a = ms b ∧ os a = os b) → post 0) : wpX_same post (xu, xl, aD, aR, aL, aF, bD, bR, bL, bF, il, ol, rc, fc, kd, st, fr, tx, nx) (nI a) (nI b) := by
  obtain ⟨ta, ma40, oa40⟩ := hS a ha
  obtain ⟨tb, mb40, ob40⟩ := hS b hb
  have okA := ta.2.2.2.2.1
  have okB := tb.2.2.2.2.1
  have ra := td_rn_60 okA ma40 oa40
  have rb := td_rn_60 okB mb40 ob40
  have la := td_lt_le (os a)
  have lb := td_lt_le (os b)
  have cA : (nI a).toNatClampNeg = a := nI_clamp (by omega)
  have cB : (nI b).toNatClampNeg = b := nI_clamp (by omega)
  have vA : vp_in (nI a) 6 := vp_in_nI (by omega) (by omega)
  have vB : vp_in (nI b) 6 := vp_in_nI (by omega) (by omega)
  unfold wpX_same
  dsimp only
  refine xs_slot1 ha (br_f td_n10 ?_)
  refine xs_slot1 hb (br_f td_n10 ?_)
  rw [cA, cB, ta.1, tb.1, ta.2.2.2.2.2.1, tb.2.2.2.2.2.1, ta.2.2.1, tb.2.2.1]
  have eqs : ms a = ms b ∧ os a = os b → td_rn (os a) (ms a) = td_rn (os b) (ms b) ∧ td_lt (os a) = td_lt (os b) := fun z => by rw [z.1, z.2]; exact ⟨rfl, rfl⟩
  refine ⟨vA, vB, pk_eq (ms a) (ms b) (fun e1 => ⟨vA, vB, pk_eq (td_rn (os a) (ms a)).length (td_rn (os b) (ms b)).length (fun e2 => ⟨vA, vB, pk_eq (td_lt (os a)).length (td_lt (os b)).length (fun e3 => ?_) (fun e3 => K0 (fun z => e3 (by rw [(eqs z).2])))⟩) (fun e2 => K0 (fun z => e2 (by rw [(eqs z).1])))⟩) (fun e1 => K0 (fun z => e1 z.1))⟩
  have elA : ∀ c, c ∈ td_rn (os a) (ms a) → c.1 ≤ 3 ∧ c.2 ≤ 80 := fun c hc => by
    have h1 := td_el_le hc
    rw [td_rn_iR okA, td_rn_aR okA] at h1
    exact ⟨(td_nm_pos (td_rn_nm okA) c hc).2, by omega⟩
  have elB : ∀ c, c ∈ td_rn (os b) (ms b) → c.1 ≤ 3 ∧ c.2 ≤ 80 := fun c hc => by
    have h1 := td_el_le hc
    rw [td_rn_iR okB, td_rn_aR okB] at h1
    exact ⟨(td_nm_pos (td_rn_nm okB) c hc).2, by omega⟩
  refine ⟨100, xz_67 ha hb ra ta.2.2.2.2.2.1 100 0 _ _ e2 (Nat.zero_add _) (by omega) ta.2.2.2.2.2.2.1 ta.2.2.2.2.2.2.2 tb.2.2.2.2.2.2.1 tb.2.2.2.2.2.2.2 elA elB (fun eR => ?_) (fun z => K0 (fun w => z (eqs w).1))⟩
  refine ⟨100, xz_137 ha hb (Nat.le_trans la oa40) ta.2.2.1 100 0 _ _ e3 (Nat.zero_add _) (by omega) ta.2.2.2.1 tb.2.2.2.1 (fun c hc => td_lt_m hc) (fun c hc => td_lt_m hc) (fun eF => K1 e1 ?_) (fun z => K0 (fun w => z (eqs w).2))⟩
  rw [← td_rn_oR okA, ← td_rn_oR okB, eR, eF]
/-! refused calls -/
theorem xj_s0 {post : Int32 → SX → Prop} {x y w : Int32} (h : td_bad x ∨ td_bad y ∨ td_bad w) (K : post (-1) (xu, xl, aD, aR, aL, aF, bD, bR, bL, bF, il, ol, rc, fc, kd, st, fr, tx, nx)) : wpX_join post (xu, xl, aD, aR, aL, aF, bD, bR, bL, bF, il, ol, rc, fc, kd, st, fr, tx, nx) x y w := by
  unfold wpX_join
  dsimp only
  rcases td_sl x with b | ⟨a, ha, rfl⟩
  · exact xs_slot0 b (br_t rfl K)
  · refine xs_slot1 ha (br_f td_n10 ?_)
    rcases td_sl y with b | ⟨c, hc, rfl⟩
    · exact xs_slot0 b (br_t rfl K)
    · refine xs_slot1 hc (br_f td_n10 ?_)
      exact xs_slot0 ((h.resolve_left (td_nb ha)).resolve_left (td_nb hc)) (br_t rfl K)
theorem yj_s0 {post : Int32 → SY → Prop} {x y w : Int32} (h : td_bad x ∨ td_bad y ∨ td_bad w) (K : post (-1) (yw, yu, yi, yl, ys, yp, yo, yn, ym, yk, yd, yr, yt)) : wpY_join post (yw, yu, yi, yl, ys, yp, yo, yn, ym, yk, yd, yr, yt) x y w := by
  unfold wpY_join
  dsimp only
  rcases td_sl x with b | ⟨a, ha, rfl⟩
  · exact ys_slot0 b (br_t rfl K)
  · refine ys_slot1 ha (br_f td_n10 ?_)
    rcases td_sl y with b | ⟨c, hc, rfl⟩
    · exact ys_slot0 b (br_t rfl K)
    · refine ys_slot1 hc (br_f td_n10 ?_)
      exact ys_slot0 ((h.resolve_left (td_nb ha)).resolve_left (td_nb hc)) (br_t rfl K)
theorem xv_s0 {post : Int32 → SX → Prop} {x y q w : Int32} (h : td_bad x ∨ td_bad y ∨ td_bad w) (K : post (-1) (xu, xl, aD, aR, aL, aF, bD, bR, bL, bF, il, ol, rc, fc, kd, st, fr, tx, nx)) : wpX_carry post (xu, xl, aD, aR, aL, aF, bD, bR, bL, bF, il, ol, rc, fc, kd, st, fr, tx, nx) x y q w := by
  unfold wpX_carry
  dsimp only
  rcases td_sl x with b | ⟨a, ha, rfl⟩
  · exact xs_slot0 b (br_t rfl K)
  · refine xs_slot1 ha (br_f td_n10 ?_)
    rcases td_sl y with b | ⟨c, hc, rfl⟩
    · exact xs_slot0 b (br_t rfl K)
    · refine xs_slot1 hc (br_f td_n10 ?_)
      exact xs_slot0 ((h.resolve_left (td_nb ha)).resolve_left (td_nb hc)) (br_t rfl K)
theorem yc_s0 {post : Int32 → SY → Prop} {x y q w : Int32} (h : td_bad x ∨ td_bad y ∨ td_bad w) (K : post (-1) (yw, yu, yi, yl, ys, yp, yo, yn, ym, yk, yd, yr, yt)) : wpY_carry post (yw, yu, yi, yl, ys, yp, yo, yn, ym, yk, yd, yr, yt) x y q w := by
  unfold wpY_carry
  dsimp only
  rcases td_sl x with b | ⟨a, ha, rfl⟩
  · exact ys_slot0 b (br_t rfl K)
  · refine ys_slot1 ha (br_f td_n10 ?_)
    rcases td_sl y with b | ⟨c, hc, rfl⟩
    · exact ys_slot0 b (br_t rfl K)
    · refine ys_slot1 hc (br_f td_n10 ?_)
      exact ys_slot0 ((h.resolve_left (td_nb ha)).resolve_left (td_nb hc)) (br_t rfl K)
theorem xy_s0 {post : Int32 → SX → Prop} {x y : Int32} (h : td_bad x ∨ td_bad y) (K : post (-1) (xu, xl, aD, aR, aL, aF, bD, bR, bL, bF, il, ol, rc, fc, kd, st, fr, tx, nx)) : wpX_apply post (xu, xl, aD, aR, aL, aF, bD, bR, bL, bF, il, ol, rc, fc, kd, st, fr, tx, nx) x y := by
  unfold wpX_apply
  dsimp only
  rcases td_sl x with b | ⟨a, ha, rfl⟩
  · exact xs_slot0 b (br_t rfl K)
  · refine xs_slot1 ha (br_f td_n10 ?_)
    exact xs_slot0 (h.resolve_left (td_nb ha)) (br_t rfl K)
theorem ya_s0 {post : Int32 → SY → Prop} {x y : Int32} (h : td_bad x ∨ td_bad y) (K : post (-1) (yw, yu, yi, yl, ys, yp, yo, yn, ym, yk, yd, yr, yt)) : wpY_apply post (yw, yu, yi, yl, ys, yp, yo, yn, ym, yk, yd, yr, yt) x y := by
  unfold wpY_apply
  dsimp only
  rcases td_sl x with b | ⟨a, ha, rfl⟩
  · exact ys_slot0 b (br_t rfl K)
  · refine ys_slot1 ha (br_f td_n10 ?_)
    exact ys_slot0 (h.resolve_left (td_nb ha)) (br_t rfl K)
theorem xz_s0 {post : Int32 → Prop} {x y : Int32} (h : td_bad x ∨ td_bad y) (K : post 0) : wpX_same post (xu, xl, aD, aR, aL, aF, bD, bR, bL, bF, il, ol, rc, fc, kd, st, fr, tx, nx) x y := by
  unfold wpX_same
  dsimp only
  rcases td_sl x with b | ⟨a, ha, rfl⟩
  · exact xs_slot0 b (br_t rfl K)
  · refine xs_slot1 ha (br_f td_n10 ?_)
    exact xs_slot0 (h.resolve_left (td_nb ha)) (br_t rfl K)
theorem yz_s0 {post : Int32 → Prop} {x y : Int32} (h : td_bad x ∨ td_bad y) (K : post 0) : wpY_same post (yw, yu, yi, yl, ys, yp, yo, yn, ym, yk, yd, yr, yt) x y := by
  unfold wpY_same
  dsimp only
  rcases td_sl x with b | ⟨a, ha, rfl⟩
  · exact ys_slot0 b (br_t rfl K)
  · refine ys_slot1 ha (br_f td_n10 ?_)
    exact ys_slot0 (h.resolve_left (td_nb ha)) (br_t rfl K)
theorem xj_bad {post : Int32 → SX → Prop} {a b t : Nat} (ha : a < 4) (hb : b < 4) (ht : t < 4) (hS : td_SL il ol rc fc kd st fr os ms) (he : (os a).length ≠ ms b) (K : post (-3) (xu, xl, aD, aR, aL, aF, bD, bR, bL, bF, il, ol, rc, fc, kd, st, fr, tx, nx)) : wpX_join post (xu, xl, aD, aR, aL, aF, bD, bR, bL, bF, il, ol, rc, fc, kd, st, fr, tx, nx) (nI a) (nI b) (nI t) := by
  obtain ⟨ta, ma40, oa40⟩ := hS a ha
  obtain ⟨tb, mb40, ob40⟩ := hS b hb
  unfold wpX_join
  dsimp only
  refine xs_slot1 ha (br_f td_n10 ?_)
  refine xs_slot1 hb (br_f td_n10 ?_)
  refine xs_slot1 ht (br_f td_n10 ?_)
  rw [nI_clamp (show a < 2 ^ 31 by omega), nI_clamp (show b < 2 ^ 31 by omega), ta.2.1, tb.1]
  exact ⟨vp_in_nI (by omega) (by omega), vp_in_nI (by omega) (by omega), br_f (fun z => he ((nI_eq (by omega) (by omega)).mp z)) K⟩
theorem yj_bad {post : Int32 → SY → Prop} {a b t : Nat} (ha : a < 4) (hb : b < 4) (ht : t < 4) (hP : td_PS os ms) (hY : td_YS os ms yo yn ym) (he : (os a).length ≠ ms b) (K : post (-3) (yw, yu, yi, yl, ys, yp, yo, yn, ym, yk, yd, yr, yt)) : wpY_join post (yw, yu, yi, yl, ys, yp, yo, yn, ym, yk, yd, yr, yt) (nI a) (nI b) (nI t) := by
  obtain ⟨pa1, pa2, pa3⟩ := hP a ha
  obtain ⟨pb1, pb2, pb3⟩ := hP b hb
  unfold wpY_join
  dsimp only
  refine ys_slot1 ha (br_f td_n10 ?_)
  refine ys_slot1 hb (br_f td_n10 ?_)
  refine ys_slot1 ht (br_f td_n10 ?_)
  rw [nI_clamp (show a < 2 ^ 31 by omega), nI_clamp (show b < 2 ^ 31 by omega), (hY a ha).1, (hY b hb).2.1]
  exact ⟨vp_in_nI (by omega) (by omega), vp_in_nI (by omega) (by omega), br_f (fun z => he ((nI_eq (by omega) (by omega)).mp z)) K⟩
theorem xv_bad {post : Int32 → SX → Prop} {a b t : Nat} {q : Int32} (ha : a < 4) (hb : b < 4) (ht : t < 4) (hS : td_SL il ol rc fc kd st fr os ms) (he : ms a ≠ ms b) (K : post (-3) (xu, xl, aD, aR, aL, aF, bD, bR, bL, bF, il, ol, rc, fc, kd, st, fr, tx, nx)) : wpX_carry post (xu, xl, aD, aR, aL, aF, bD, bR, bL, bF, il, ol, rc, fc, kd, st, fr, tx, nx) (nI a) (nI b) q (nI t) := by
  obtain ⟨ta, ma40, oa40⟩ := hS a ha
  obtain ⟨tb, mb40, ob40⟩ := hS b hb
  unfold wpX_carry
  dsimp only
  refine xs_slot1 ha (br_f td_n10 ?_)
  refine xs_slot1 hb (br_f td_n10 ?_)
  refine xs_slot1 ht (br_f td_n10 ?_)
  rw [nI_clamp (show a < 2 ^ 31 by omega), nI_clamp (show b < 2 ^ 31 by omega), ta.1, tb.1]
  exact ⟨vp_in_nI (by omega) (by omega), vp_in_nI (by omega) (by omega), br_f (fun z => he ((nI_eq (by omega) (by omega)).mp z)) K⟩
theorem yc_bad {post : Int32 → SY → Prop} {a b t : Nat} {q : Int32} (ha : a < 4) (hb : b < 4) (ht : t < 4) (hP : td_PS os ms) (hY : td_YS os ms yo yn ym) (he : ms a ≠ ms b) (K : post (-3) (yw, yu, yi, yl, ys, yp, yo, yn, ym, yk, yd, yr, yt)) : wpY_carry post (yw, yu, yi, yl, ys, yp, yo, yn, ym, yk, yd, yr, yt) (nI a) (nI b) q (nI t) := by
  obtain ⟨pa1, pa2, pa3⟩ := hP a ha
  obtain ⟨pb1, pb2, pb3⟩ := hP b hb
  unfold wpY_carry
  dsimp only
  refine ys_slot1 ha (br_f td_n10 ?_)
  refine ys_slot1 hb (br_f td_n10 ?_)
  refine ys_slot1 ht (br_f td_n10 ?_)
  rw [nI_clamp (show a < 2 ^ 31 by omega), nI_clamp (show b < 2 ^ 31 by omega), (hY a ha).2.1, (hY b hb).2.1]
  exact ⟨vp_in_nI (by omega) (by omega), vp_in_nI (by omega) (by omega), br_f (fun z => he ((nI_eq (by omega) (by omega)).mp z)) K⟩
theorem xy_bad {post : Int32 → SX → Prop} {s t : Nat} (hs : s < 4) (ht : t < 4) (hS : td_SL il ol rc fc kd st fr os ms) (hd : dl.length ≤ 40) (he : dl.length ≠ ms s) (K : post (-3) (xu, nI dl.length, aD, aR, aL, aF, bD, bR, bL, bF, il, ol, rc, fc, kd, st, fr, tx, nx)) : wpX_apply post (xu, nI dl.length, aD, aR, aL, aF, bD, bR, bL, bF, il, ol, rc, fc, kd, st, fr, tx, nx) (nI s) (nI t) := by
  obtain ⟨ta, ma40, oa40⟩ := hS s hs
  unfold wpX_apply
  dsimp only
  refine xs_slot1 hs (br_f td_n10 ?_)
  refine xs_slot1 ht (br_f td_n10 ?_)
  rw [nI_clamp (show s < 2 ^ 31 by omega), ta.1]
  exact ⟨vp_in_nI (by omega) (by omega), br_f (fun z => he ((nI_eq (by omega) (by omega)).mp z)) K⟩
theorem ya_bad {post : Int32 → SY → Prop} {s t : Nat} (hs : s < 4) (ht : t < 4) (hP : td_PS os ms) (hY : td_YS os ms yo yn ym) (hd : dl.length ≤ 40) (he : dl.length ≠ ms s) (K : post (-3) (yw, yu, yi, nI dl.length, ys, yp, yo, yn, ym, yk, yd, yr, yt)) : wpY_apply post (yw, yu, yi, nI dl.length, ys, yp, yo, yn, ym, yk, yd, yr, yt) (nI s) (nI t) := by
  obtain ⟨pa1, pa2, pa3⟩ := hP s hs
  unfold wpY_apply
  dsimp only
  refine ys_slot1 hs (br_f td_n10 ?_)
  refine ys_slot1 ht (br_f td_n10 ?_)
  rw [nI_clamp (show s < 2 ^ 31 by omega), (hY s hs).2.1]
  exact ⟨vp_in_nI (by omega) (by omega), br_f (fun z => he ((nI_eq (by omega) (by omega)).mp z)) K⟩
theorem yk_39 {post : Int32 → SY → Prop} {k : Nat} (hk : ow.length + k ≤ 40) (hu : uw + k ≤ 40) (K : ∀ yk' : Nat → Int32, td_AL yk' 0 (ow ++ td_rg (10 + uw) k) → post (nI (ow.length + k)) (yw, nI (uw + k), nI (ow.length + k), yl, ys, yp, yo, yn, ym, yk', yd, yr, yt)) :
    ∀ (N i : Nat) (yk : Nat → Int32), k < N + i → i ≤ k → td_AL yk 0 (ow ++ td_rg (10 + uw) i) → wY_keep_39 post (nI k) yw yl ys yp N (nI i) (nI (uw + i)) (nI (ow.length + i)) yo yn ym yk yd yr yt := by
  intro N
  induction N with
  | zero => intro i yk h1 h2; omega
  | succ N ih =>
    intro i yk h1 h2 h3
    rw [wY_keep_39]
    refine pk_le k i (fun h => ?_) (fun h => ?_)
    · have e : i = k := by omega
      subst e
      exact K yk h3
    · have c1 : (nI (ow.length + i)).toNatClampNeg = ow.length + i := nI_clamp (by omega)
      have el : (ow ++ td_rg (10 + uw) i).length = ow.length + i := by rw [List.length_append, td_rg_l]
      rw [c1, td_10]
      refine ⟨vp_in_nI (by omega) (by omega), nm_e (nm_r (nI_1 _) (nm_r (nI_1 _) (nm_r (nI_1 i) (ih (i + 1) _ (by omega) (by omega) ?_))))⟩
      rw [td_rg_ap, ← List.append_assoc]
      refine td_AL_sn.mpr ⟨td_AL_fr (fun j _ hj => pk_un (by omega)) h3, ?_⟩
      rw [el, Nat.zero_add, pk_us]
      exact congrArg nI (by omega)
end XSMALL
end
section
/-! the relation, and what is owed -/
def td_RX (os : Nat → List Nat) (ms : Nat → Nat) (ow : List Nat) (mw uw : Nat) (dl : List Nat) (u : SX) : Prop := match u with
  | (xu, xl, aD, aR, aL, aF, bD, bR, bL, bF, il, ol, rc, fc, kd, st, fr, tx, nx) => xu = nI uw ∧ xl = nI dl.length ∧ td_AL tx 0 dl ∧ td_SL il ol rc fc kd st fr os ms ∧ td_TB il ol rc fc kd st fr 4 mw ow uw
def td_RY (os : Nat → List Nat) (ms : Nat → Nat) (ow : List Nat) (mw uw : Nat) (dl : List Nat) (v : SY) : Prop := match v with
  | (yw, yu, yi, yl, ys, yp, yo, yn, ym, yk, yd, yr, yt) => yw = nI mw ∧ yu = nI uw ∧ yi = nI ow.length ∧ yl = nI dl.length ∧ td_AL yd 0 dl ∧ td_AL yk 0 ow ∧ td_YS os ms yo yn ym
def td_IV (ow : List Nat) (mw uw : Nat) (dl : List Nat) : Prop := uw ≤ mw ∧ mw ≤ 40 ∧ ow.length ≤ 40 ∧ dl.length ≤ 40 ∧ ∀ c, c ∈ dl → c < 10
/-- four slots, the work delta and the document, alike on both sides -/
def i_Rel (k : Nat) (u : SX) (v : SY) : Prop := ∃ (os : Nat → List Nat) (ms : Nat → Nat) (ow : List Nat) (mw uw : Nat) (dl : List Nat), td_IV ow mw uw dl ∧ td_RX os ms ow mw uw dl u ∧ td_RY os ms ow mw uw dl v
theorem i_up {k : Nat} {u : SX} {v : SY} (h : i_Rel k u v) : i_Rel (k + 5) u v := h
theorem td_PS_of {il ol rc fc kd st fr : Nat → Int32} {os : Nat → List Nat} {ms : Nat → Nat} (h : td_SL il ol rc fc kd st fr os ms) : td_PS os ms := fun s hs => ⟨(h s hs).1.2.2.2.2.1, (h s hs).2⟩
theorem td_BS_r {il ol rc fc kd st fr : Nat → Int32} {d m u : Nat} {o : List Nat} (h : td_TB il ol rc fc kd st fr d m o u) : td_BS il ol rc fc kd st fr il ol rc fc kd st fr d m o u := ⟨fun _ _ => ⟨rfl, rfl, rfl, rfl⟩, fun _ _ => ⟨rfl, rfl⟩, fun _ _ => rfl, h⟩
theorem i_vc0 : wpX_init (fun u => wpY_init (fun v => i_Rel 0 u v)) :=
  ⟨fun _ => [], fun _ => 0, [], 0, 0, [], ⟨by omega, by omega, by simp, by simp, fun c hc => absurd hc (by simp)⟩, ⟨rfl, rfl, trivial, fun s _ => ⟨⟨rfl, rfl, rfl, trivial, td_OK_0, rfl, trivial, trivial⟩, Nat.zero_le _, by simp⟩, ⟨rfl, rfl, rfl, trivial, td_OK_0, rfl, trivial, trivial⟩⟩, ⟨rfl, rfl, rfl, rfl, trivial, trivial, fun s _ => ⟨rfl, rfl, trivial⟩⟩⟩
theorem td_1le {x : Int32} (h : (1 : Int32) ≤ x) : ∃ j, 1 ≤ j ∧ j < 2 ^ 31 ∧ x = nI j := by
  have h0 : ¬ x < 0 := fun z => absurd (Int32.lt_of_le_of_lt h z) (by decide)
  obtain ⟨j, hj, rfl⟩ := nI_of h0
  refine ⟨j, ?_, hj, rfl⟩
  have : nI 1 ≤ nI j := h
  rw [nI_leI (by omega) hj] at this
  exact this
theorem td_09 {x : Int32} {M : Int32} {n : Nat} (hM : M.toInt = n) : x < 0 ∨ (¬ x < 0 ∧ ¬ x ≤ M) ∨ (¬ x < 0 ∧ x ≤ M ∧ ∃ j, j ≤ n ∧ x = nI j) := by
  by_cases h : x < 0
  · exact Or.inl h
  · by_cases h2 : x ≤ M
    · exact Or.inr (Or.inr ⟨h, h2, nI_of2 hM h h2⟩)
    · exact Or.inr (Or.inl ⟨h, h2⟩)
theorem i_vc_begin {k : Nat} {u : SX} {v : SY} (I : i_Rel k u v) (hk : k + 5 ≤ 2560) (v1 : Int32) : wpX_begin (fun r u' => wpY_begin (fun r' v' => r' = r ∧ i_Rel (k + 5) u' v') v v1) u v1 := by
  have hR := i_up I
  obtain ⟨os, ms, ow, mw, uw, dl, hV, hX, hY⟩ := I
  obtain ⟨xu, xl, aD, aR, aL, aF, bD, bR, bL, bF, il, ol, rc, fc, kd, st, fr, tx, nx⟩ := u
  obtain ⟨yw, yu, yi, yl, ys, yp, yo, yn, ym, yk, yd, yr, yt⟩ := v
  obtain ⟨rfl, rfl, x3, x4, x5⟩ := hX
  obtain ⟨rfl, rfl, rfl, rfl, y5, y6, y7⟩ := hY
  obtain ⟨v1', v2', v3', v4', v5'⟩ := hV
  rcases td_09 (x := v1) (M := 40) (n := 40) (by decide) with h | ⟨h0, h4⟩ | ⟨h0, h4, m, hm, rfl⟩
  · exact br_t h (br_t h ⟨rfl, hR⟩)
  · exact br_f h0 (br_f h4 (br_f h0 (br_f h4 ⟨rfl, hR⟩)))
  · refine br_f h0 (br_t h4 ?_)
    refine xw_wipe (d := 4) (by omega) fun il' ol' rc' fc' hB => ?_
    exact br_f h0 (br_t h4 ⟨rfl, os, ms, [], m, 0, dl, ⟨by omega, hm, by simp, v4', v5'⟩, ⟨rfl, rfl, x3, td_SL_bs hB (by omega) x4, hB.2.2.2⟩, ⟨rfl, rfl, rfl, rfl, y5, trivial, y7⟩⟩)
theorem i_vc_keep {k : Nat} {u : SX} {v : SY} (I : i_Rel k u v) (hk : k + 5 ≤ 2560) (v1 : Int32) : wpX_keep (fun r u' => wpY_keep (fun r' v' => r' = r ∧ i_Rel (k + 5) u' v') v v1) u v1 := by
  have hR := i_up I
  obtain ⟨os, ms, ow, mw, uw, dl, hV, hX, hY⟩ := I
  obtain ⟨xu, xl, aD, aR, aL, aF, bD, bR, bL, bF, il, ol, rc, fc, kd, st, fr, tx, nx⟩ := u
  obtain ⟨yw, yu, yi, yl, ys, yp, yo, yn, ym, yk, yd, yr, yt⟩ := v
  obtain ⟨rfl, rfl, x3, x4, x5⟩ := hX
  obtain ⟨rfl, rfl, rfl, rfl, y5, y6, y7⟩ := hY
  obtain ⟨v1', v2', v3', v4', v5'⟩ := hV
  by_cases h1 : (1 : Int32) ≤ v1
  · obtain ⟨j, hj1, hj, rfl⟩ := td_1le h1
    have lw := td_lt_le ow
    unfold wpX_keep wpY_keep
    dsimp only
    rw [x5.1, x5.2.1, pk_sub v1', nI_add]
    refine br_t h1 (pk_le j (mw - uw) (fun h2 => ?_) (fun h2 => ?_))
    · refine pk_le (ow.length + j) 40 (fun h3 => ?_) (fun h3 => ?_)
      · refine xp_keep (d := 4) (by omega) (td_BS_r x5) (by omega) (by omega) fun ol' rc' kd' st' hB' => ?_
        refine nm_r (nI_add uw j) ?_
        refine br_t h1 (br_t (nI_le h2 (by omega)) (br_t (nI_le (b := 40) h3 (by omega)) ⟨j + 1, yk_39 h3 (by omega) (fun yk' hk' => ?_) (j + 1) 0 yk (by omega) (by omega) (by rw [td_rg, List.append_nil]; exact y6)⟩))
        have el : (ow ++ td_rg (10 + uw) j).length = ow.length + j := by rw [List.length_append, td_rg_l]
        refine ⟨?_, os, ms, ow ++ td_rg (10 + uw) j, mw, uw + j, dl, ⟨by omega, v2', by omega, v4', v5'⟩, ⟨rfl, rfl, x3, td_SL_bs hB' (by omega) x4, hB'.2.2.2⟩, ⟨rfl, rfl, by rw [el], rfl, y5, hk', y7⟩⟩
        show nI (ow.length + j) = ol' 4
        rw [hB'.2.2.2.2.1, el]
      · exact br_t h1 (br_t (nI_le h2 (by omega)) (br_f (nI_ge (a := 40) h3 (by omega)) ⟨rfl, hR⟩))
    · exact br_t h1 (br_f (nI_ge h2 (by omega)) ⟨rfl, hR⟩)
  · exact br_f h1 (br_f h1 ⟨rfl, hR⟩)
theorem i_vc_drop {k : Nat} {u : SX} {v : SY} (I : i_Rel k u v) (hk : k + 5 ≤ 2560) (v1 : Int32) : wpX_drop (fun r u' => wpY_drop (fun r' v' => r' = r ∧ i_Rel (k + 5) u' v') v v1) u v1 := by
  have hR := i_up I
  obtain ⟨os, ms, ow, mw, uw, dl, hV, hX, hY⟩ := I
  obtain ⟨xu, xl, aD, aR, aL, aF, bD, bR, bL, bF, il, ol, rc, fc, kd, st, fr, tx, nx⟩ := u
  obtain ⟨yw, yu, yi, yl, ys, yp, yo, yn, ym, yk, yd, yr, yt⟩ := v
  obtain ⟨rfl, rfl, x3, x4, x5⟩ := hX
  obtain ⟨rfl, rfl, rfl, rfl, y5, y6, y7⟩ := hY
  obtain ⟨v1', v2', v3', v4', v5'⟩ := hV
  by_cases h1 : (1 : Int32) ≤ v1
  · obtain ⟨j, hj1, hj, rfl⟩ := td_1le h1
    have lw := td_lt_le ow
    unfold wpX_drop wpY_drop
    dsimp only
    rw [x5.1, pk_sub v1']
    refine br_t h1 (pk_le j (mw - uw) (fun h2 => ?_) (fun h2 => ?_))
    · refine xp_drop (d := 4) (by omega) (td_BS_r x5) (by omega) (by omega) fun rc' kd' st' hB' => ?_
      refine nm_r (nI_add uw j) ?_
      refine br_t h1 (br_t (nI_le h2 (by omega)) (nm_r (nI_add uw j) ?_))
      exact ⟨rfl, os, ms, ow, mw, uw + j, dl, ⟨by omega, v2', v3', v4', v5'⟩, ⟨rfl, rfl, x3, td_SL_bs hB' (by omega) x4, hB'.2.2.2⟩, ⟨rfl, rfl, rfl, rfl, y5, y6, y7⟩⟩
    · exact br_t h1 (br_f (nI_ge h2 (by omega)) ⟨rfl, hR⟩)
  · exact br_f h1 (br_f h1 ⟨rfl, hR⟩)
theorem i_vc_add {k : Nat} {u : SX} {v : SY} (I : i_Rel k u v) (hk : k + 5 ≤ 2560) (v1 : Int32) : wpX_add (fun r u' => wpY_add (fun r' v' => r' = r ∧ i_Rel (k + 5) u' v') v v1) u v1 := by
  have hR := i_up I
  obtain ⟨os, ms, ow, mw, uw, dl, hV, hX, hY⟩ := I
  obtain ⟨xu, xl, aD, aR, aL, aF, bD, bR, bL, bF, il, ol, rc, fc, kd, st, fr, tx, nx⟩ := u
  obtain ⟨yw, yu, yi, yl, ys, yp, yo, yn, ym, yk, yd, yr, yt⟩ := v
  obtain ⟨rfl, rfl, x3, x4, x5⟩ := hX
  obtain ⟨rfl, rfl, rfl, rfl, y5, y6, y7⟩ := hY
  obtain ⟨v1', v2', v3', v4', v5'⟩ := hV
  rcases td_09 (x := v1) (M := 9) (n := 9) (by decide) with h | ⟨h0, h4⟩ | ⟨h0, h4, c, hc, rfl⟩
  · exact br_t h (br_t h ⟨rfl, hR⟩)
  · exact br_f h0 (br_f h4 (br_f h0 (br_f h4 ⟨rfl, hR⟩)))
  · have lw := td_lt_le ow
    have c1 : (nI ow.length).toNatClampNeg = ow.length := nI_clamp (by omega)
    unfold wpX_add wpY_add
    dsimp only
    rw [x5.2.1, c1]
    refine br_f h0 (br_t h4 (pk_eq ow.length 40 (fun e => ?_) (fun e => ?_)))
    · exact br_f h0 (br_t h4 (br_t (congrArg nI e) ⟨rfl, hR⟩))
    · refine xp_add (d := 4) (by omega) (by omega) (td_BS_r x5) (by omega) (by omega) fun ol' rc' fc' kd' st' fr' hB' => ?_
      have el : (ow ++ [c]).length = ow.length + 1 := by rw [List.length_append]; rfl
      refine br_f h0 (br_t h4 (br_f (fun z => e ((nI_eq (b := 40) (by omega) (by omega)).mp z)) ⟨vp_in_nI (by omega) (by omega), nm_e (nm_r (nI_1 ow.length) ?_)⟩))
      refine ⟨?_, os, ms, ow ++ [c], mw, uw, dl, ⟨v1', v2', by omega, v4', v5'⟩, ⟨rfl, rfl, x3, td_SL_bs hB' (by omega) x4, hB'.2.2.2⟩, ⟨rfl, rfl, by rw [el], rfl, y5, ?_, y7⟩⟩
      · show nI (ow.length + 1) = ol' 4
        rw [hB'.2.2.2.2.1, el]
      · exact td_AL_sn.mpr ⟨td_AL_fr (fun j _ h => pk_un (by omega)) y6, by rw [Nat.zero_add]; exact pk_us⟩
theorem i_vc_finish {k : Nat} {u : SX} {v : SY} (I : i_Rel k u v) (hk : k + 5 ≤ 2560) (v1 : Int32) : wpX_finish (fun r u' => wpY_finish (fun r' v' => r' = r ∧ i_Rel (k + 5) u' v') v v1) u v1 := by
  have hR := i_up I
  obtain ⟨os, ms, ow, mw, uw, dl, hV, hX, hY⟩ := I
  obtain ⟨xu, xl, aD, aR, aL, aF, bD, bR, bL, bF, il, ol, rc, fc, kd, st, fr, tx, nx⟩ := u
  obtain ⟨yw, yu, yi, yl, ys, yp, yo, yn, ym, yk, yd, yr, yt⟩ := v
  obtain ⟨rfl, rfl, x3, x4, x5⟩ := hX
  obtain ⟨rfl, rfl, rfl, rfl, y5, y6, y7⟩ := hY
  have hP := td_PS_of x4
  have hV' := hV
  obtain ⟨v1', v2', v3', v4', v5'⟩ := hV
  rcases td_sl v1 with b | ⟨t, ht, rfl⟩
  · unfold wpX_finish wpY_finish
    dsimp only
    exact xs_slot0 b (br_t rfl (ys_slot0 b (br_t rfl ⟨rfl, hR⟩)))
  · refine xf_finish ht x4 x5 v1' v2' v3' rfl (fun h il' ol' rc' fc' kd' st' fr' s1 s2 => ?_) (fun h => ?_)
    · refine yf_finish ht hP y7 v1' v2' v3' y6 (fun _ ys' yo' yn' ym' yr' hh => ?_) (fun h' => absurd h h')
      exact ⟨rfl, _, _, ow, mw, uw, dl, hV', ⟨rfl, rfl, x3, s1, s2⟩, ⟨rfl, rfl, rfl, rfl, y5, y6, hh⟩⟩
    · exact yf_finish ht hP y7 v1' v2' v3' y6 (fun h' => absurd h' h) (fun _ => ⟨rfl, hR⟩)
theorem i_vc_join {k : Nat} {u : SX} {v : SY} (I : i_Rel k u v) (hk : k + 5 ≤ 2560) (v1 : Int32) (v2 : Int32) (v3 : Int32) : wpX_join (fun r u' => wpY_join (fun r' v' => r' = r ∧ i_Rel (k + 5) u' v') v v1 v2 v3) u v1 v2 v3 := by
  have hR := i_up I
  obtain ⟨os, ms, ow, mw, uw, dl, hV, hX, hY⟩ := I
  obtain ⟨xu, xl, aD, aR, aL, aF, bD, bR, bL, bF, il, ol, rc, fc, kd, st, fr, tx, nx⟩ := u
  obtain ⟨yw, yu, yi, yl, ys, yp, yo, yn, ym, yk, yd, yr, yt⟩ := v
  obtain ⟨rfl, rfl, x3, x4, x5⟩ := hX
  obtain ⟨rfl, rfl, rfl, rfl, y5, y6, y7⟩ := hY
  have hP := td_PS_of x4
  have hV' := hV
  obtain ⟨v1', v2', v3', v4', v5'⟩ := hV
  by_cases hb : td_bad v1 ∨ td_bad v2 ∨ td_bad v3
  · exact xj_s0 hb (yj_s0 hb ⟨rfl, hR⟩)
  · obtain ⟨a, ha, rfl⟩ := td_gd (fun z => hb (Or.inl z))
    obtain ⟨b, hbb, rfl⟩ := td_gd (fun z => hb (Or.inr (Or.inl z)))
    obtain ⟨t, ht, rfl⟩ := td_gd (fun z => hb (Or.inr (Or.inr z)))
    by_cases he : (os a).length = ms b
    · refine xj_join ha hbb ht x4 x5 (by omega) v3' he fun aD aR aL aF bD bR bL bF il ol rc fc kd st fr s1 s2 => ?_
      refine yj_join ha hbb ht hP y7 he fun ys' yo' yn' ym' yr' hh => ?_
      exact ⟨rfl, _, _, ow, mw, uw, dl, hV', ⟨rfl, rfl, x3, s1, s2⟩, ⟨rfl, rfl, rfl, rfl, y5, y6, hh⟩⟩
    · exact xj_bad ha hbb ht x4 he (yj_bad ha hbb ht hP y7 he ⟨rfl, hR⟩)
theorem i_vc_carry {k : Nat} {u : SX} {v : SY} (I : i_Rel k u v) (hk : k + 5 ≤ 2560) (v1 : Int32) (v2 : Int32) (v3 : Int32) (v4 : Int32) : wpX_carry (fun r u' => wpY_carry (fun r' v' => r' = r ∧ i_Rel (k + 5) u' v') v v1 v2 v3 v4) u v1 v2 v3 v4 := by
  have hR := i_up I
  obtain ⟨os, ms, ow, mw, uw, dl, hV, hX, hY⟩ := I
  obtain ⟨xu, xl, aD, aR, aL, aF, bD, bR, bL, bF, il, ol, rc, fc, kd, st, fr, tx, nx⟩ := u
  obtain ⟨yw, yu, yi, yl, ys, yp, yo, yn, ym, yk, yd, yr, yt⟩ := v
  obtain ⟨rfl, rfl, x3, x4, x5⟩ := hX
  obtain ⟨rfl, rfl, rfl, rfl, y5, y6, y7⟩ := hY
  have hP := td_PS_of x4
  have hV' := hV
  obtain ⟨v1', v2', v3', v4', v5'⟩ := hV
  by_cases hb : td_bad v1 ∨ td_bad v2 ∨ td_bad v4
  · exact xv_s0 hb (yc_s0 hb ⟨rfl, hR⟩)
  · obtain ⟨a, ha, rfl⟩ := td_gd (fun z => hb (Or.inl z))
    obtain ⟨b, hbb, rfl⟩ := td_gd (fun z => hb (Or.inr (Or.inl z)))
    obtain ⟨t, ht, rfl⟩ := td_gd (fun z => hb (Or.inr (Or.inr z)))
    by_cases he : ms a = ms b
    · obtain ⟨z, hz0, hz1⟩ : ∃ z : Bool, (v3 = 0 → z = false) ∧ (¬ v3 = 0 → z = true) := by
        by_cases h : v3 = 0
        · exact ⟨false, fun _ => rfl, fun w => absurd h w⟩
        · exact ⟨true, fun w => absurd w h, fun _ => rfl⟩
      refine xv_carry (z := z) ha hbb ht hz0 hz1 x4 x5 (by omega) v3' he (fun h40 aD aR aL aF bD bR bL bF il ol rc fc kd st fr s1 s2 => ?_) (fun h40 h80 aD aR aL aF bD bR bL bF il ol rc fc kd st fr s1 s2 => ?_)
      · refine yc_carry ha hbb ht hz0 hz1 hP y7 he (by omega) (fun _ ys' yo' yn' ym' yr' hh => ?_) (fun w => absurd h40 w)
        exact ⟨rfl, _, _, ow, mw, uw, dl, hV', ⟨rfl, rfl, x3, s1, s2⟩, ⟨rfl, rfl, rfl, rfl, y5, y6, hh⟩⟩
      · refine yc_carry ha hbb ht hz0 hz1 hP y7 he h80 (fun w => absurd w h40) (fun _ ys' yr' => ?_)
        exact ⟨rfl, os, ms, ow, mw, uw, dl, hV', ⟨rfl, rfl, x3, s1, s2⟩, ⟨rfl, rfl, rfl, rfl, y5, y6, y7⟩⟩
    · exact xv_bad ha hbb ht x4 he (yc_bad ha hbb ht hP y7 he ⟨rfl, hR⟩)
theorem i_vc_apply {k : Nat} {u : SX} {v : SY} (I : i_Rel k u v) (hk : k + 5 ≤ 2560) (v1 : Int32) (v2 : Int32) : wpX_apply (fun r u' => wpY_apply (fun r' v' => r' = r ∧ i_Rel (k + 5) u' v') v v1 v2) u v1 v2 := by
  have hR := i_up I
  obtain ⟨os, ms, ow, mw, uw, dl, hV, hX, hY⟩ := I
  obtain ⟨xu, xl, aD, aR, aL, aF, bD, bR, bL, bF, il, ol, rc, fc, kd, st, fr, tx, nx⟩ := u
  obtain ⟨yw, yu, yi, yl, ys, yp, yo, yn, ym, yk, yd, yr, yt⟩ := v
  obtain ⟨rfl, rfl, x3, x4, x5⟩ := hX
  obtain ⟨rfl, rfl, rfl, rfl, y5, y6, y7⟩ := hY
  have hP := td_PS_of x4
  have hV' := hV
  obtain ⟨v1', v2', v3', v4', v5'⟩ := hV
  by_cases hb : td_bad v1 ∨ td_bad v2
  · exact xy_s0 hb (ya_s0 hb ⟨rfl, hR⟩)
  · obtain ⟨s, hs, rfl⟩ := td_gd (fun z => hb (Or.inl z))
    obtain ⟨t, ht, rfl⟩ := td_gd (fun z => hb (Or.inr z))
    by_cases he : dl.length = ms s
    · refine xy_apply hs ht x4 x5 (by omega) v3' he v5' rfl x3 fun il ol rc fc kd st fr tx nx s1 s2 s3 => ?_
      refine ya_apply hs ht hP y7 y5 he fun ys' yo' yn' ym' yd' yr' yt' hh hd => ?_
      have el : ((os s).map (td_f dl)).length = (os s).length := List.length_map _
      refine ⟨rfl, _, _, ow, mw, uw, (os s).map (td_f dl), ⟨v1', v2', v3', by rw [el]; exact (hP s hs).2.2, fun c hc => ?_⟩, ⟨rfl, by rw [el], s3, s1, s2⟩, ⟨rfl, rfl, rfl, by rw [el], hd, y6, hh⟩⟩
      obtain ⟨x, hx, rfl⟩ := List.mem_map.mp hc
      rw [td_f]
      split
      · assumption
      · have := td_OK_lt (hP s hs).1 x hx
        exact v5' _ (td_gD_m (by omega))
    · exact xy_bad hs ht x4 v4' he (ya_bad hs ht hP y7 v4' he ⟨rfl, hR⟩)
theorem i_vc_type {k : Nat} {u : SX} {v : SY} (I : i_Rel k u v) (hk : k + 5 ≤ 2560) (v1 : Int32) : wpX_type (fun r u' => wpY_type (fun r' v' => r' = r ∧ i_Rel (k + 5) u' v') v v1) u v1 := by
  have hR := i_up I
  obtain ⟨os, ms, ow, mw, uw, dl, hV, hX, hY⟩ := I
  obtain ⟨xu, xl, aD, aR, aL, aF, bD, bR, bL, bF, il, ol, rc, fc, kd, st, fr, tx, nx⟩ := u
  obtain ⟨yw, yu, yi, yl, ys, yp, yo, yn, ym, yk, yd, yr, yt⟩ := v
  obtain ⟨rfl, rfl, x3, x4, x5⟩ := hX
  obtain ⟨rfl, rfl, rfl, rfl, y5, y6, y7⟩ := hY
  obtain ⟨v1', v2', v3', v4', v5'⟩ := hV
  rcases td_09 (x := v1) (M := 9) (n := 9) (by decide) with h | ⟨h0, h4⟩ | ⟨h0, h4, c, hc, rfl⟩
  · exact br_t h (br_t h ⟨rfl, hR⟩)
  · exact br_f h0 (br_f h4 (br_f h0 (br_f h4 ⟨rfl, hR⟩)))
  · have c1 : (nI dl.length).toNatClampNeg = dl.length := nI_clamp (by omega)
    unfold wpX_type wpY_type
    dsimp only
    rw [c1]
    refine br_f h0 (br_t h4 (pk_eq dl.length 40 (fun e => ?_) (fun e => ?_)))
    · exact br_f h0 (br_t h4 (br_t (congrArg nI e) ⟨rfl, hR⟩))
    · have el : (dl ++ [c]).length = dl.length + 1 := by rw [List.length_append]; rfl
      have hin : vp_in (nI dl.length) 40 := vp_in_nI (by omega) (by omega)
      refine ⟨hin, nm_e (nm_r (nI_1 dl.length) ?_)⟩
      refine br_f h0 (br_t h4 (br_f (fun z => e ((nI_eq (b := 40) (by omega) (by omega)).mp z)) ⟨hin, nm_e (nm_r (nI_1 dl.length) ?_)⟩))
      refine ⟨rfl, os, ms, ow, mw, uw, dl ++ [c], ⟨v1', v2', v3', by omega, fun x hx => ?_⟩, ⟨rfl, by rw [el], ?_, x4, x5⟩, ⟨rfl, rfl, rfl, by rw [el], ?_, y6, y7⟩⟩
      · rcases List.mem_append.mp hx with hx | hx
        · exact v5' x hx
        · have : x = c := by simpa using hx
          omega
      · exact td_AL_sn.mpr ⟨td_AL_fr (fun j _ h => pk_un (by omega)) x3, by rw [Nat.zero_add]; exact pk_us⟩
      · exact td_AL_sn.mpr ⟨td_AL_fr (fun j _ h => pk_un (by omega)) y5, by rw [Nat.zero_add]; exact pk_us⟩
theorem i_vc_clear {k : Nat} {u : SX} {v : SY} (I : i_Rel k u v) (hk : k + 5 ≤ 2560) : wpX_clear (fun u' => wpY_clear (fun v' => i_Rel (k + 5) u' v') v) u := by
  obtain ⟨os, ms, ow, mw, uw, dl, hV, hX, hY⟩ := I
  obtain ⟨xu, xl, aD, aR, aL, aF, bD, bR, bL, bF, il, ol, rc, fc, kd, st, fr, tx, nx⟩ := u
  obtain ⟨yw, yu, yi, yl, ys, yp, yo, yn, ym, yk, yd, yr, yt⟩ := v
  obtain ⟨rfl, rfl, x3, x4, x5⟩ := hX
  obtain ⟨rfl, rfl, rfl, rfl, y5, y6, y7⟩ := hY
  obtain ⟨v1', v2', v3', v4', v5'⟩ := hV
  exact ⟨os, ms, ow, mw, uw, [], ⟨v1', v2', v3', by simp, fun c hc => absurd hc (by simp)⟩, ⟨rfl, rfl, trivial, x4, x5⟩, ⟨rfl, rfl, rfl, rfl, trivial, y6, y7⟩⟩
theorem i_vc_length {k : Nat} {u : SX} {v : SY} (I : i_Rel k u v) (hk : k + 5 ≤ 2560) : wpX_length (fun r => wpY_length (fun r' => r' = r ∧ i_Rel (k + 5) u v) v) u := by
  have hR := i_up I
  obtain ⟨os, ms, ow, mw, uw, dl, hV, hX, hY⟩ := I
  obtain ⟨xu, xl, aD, aR, aL, aF, bD, bR, bL, bF, il, ol, rc, fc, kd, st, fr, tx, nx⟩ := u
  obtain ⟨yw, yu, yi, yl, ys, yp, yo, yn, ym, yk, yd, yr, yt⟩ := v
  obtain ⟨rfl, rfl, x3, x4, x5⟩ := hX
  obtain ⟨rfl, rfl, rfl, rfl, y5, y6, y7⟩ := hY
  exact ⟨rfl, hR⟩
theorem i_vc_at {k : Nat} {u : SX} {v : SY} (I : i_Rel k u v) (hk : k + 5 ≤ 2560) (v1 : Int32) : wpX_at (fun r => wpY_at (fun r' => r' = r ∧ i_Rel (k + 5) u v) v v1) u v1 := by
  have hR := i_up I
  obtain ⟨os, ms, ow, mw, uw, dl, hV, hX, hY⟩ := I
  obtain ⟨xu, xl, aD, aR, aL, aF, bD, bR, bL, bF, il, ol, rc, fc, kd, st, fr, tx, nx⟩ := u
  obtain ⟨yw, yu, yi, yl, ys, yp, yo, yn, ym, yk, yd, yr, yt⟩ := v
  obtain ⟨rfl, rfl, x3, x4, x5⟩ := hX
  obtain ⟨rfl, rfl, rfl, rfl, y5, y6, y7⟩ := hY
  obtain ⟨v1', v2', v3', v4', v5'⟩ := hV
  by_cases h : v1 < 0
  · exact br_t h (br_t h ⟨rfl, hR⟩)
  · obtain ⟨j, hj, rfl⟩ := nI_of h
    have c1 : (nI j).toNatClampNeg = j := nI_clamp hj
    unfold wpX_at wpY_at
    dsimp only
    rw [c1]
    refine br_f h (pk_lt j dl.length (fun h2 => ?_) (fun h2 => ?_))
    · have g1 := td_AL_get x3 h2
      have g2 := td_AL_get y5 h2
      rw [Nat.zero_add] at g1 g2
      have hin : vp_in (nI j) 40 := vp_in_nI (by omega) (by omega)
      exact ⟨hin, br_f h (br_t (nI_lt h2 (by omega)) ⟨hin, by rw [g1, g2], hR⟩)⟩
    · exact br_f h (br_f (nI_nlt h2 hj) ⟨rfl, hR⟩)
theorem i_vc_inLength {k : Nat} {u : SX} {v : SY} (I : i_Rel k u v) (hk : k + 5 ≤ 2560) (v1 : Int32) : wpX_inLength (fun r => wpY_inLength (fun r' => r' = r ∧ i_Rel (k + 5) u v) v v1) u v1 := by
  have hR := i_up I
  obtain ⟨os, ms, ow, mw, uw, dl, hV, hX, hY⟩ := I
  obtain ⟨xu, xl, aD, aR, aL, aF, bD, bR, bL, bF, il, ol, rc, fc, kd, st, fr, tx, nx⟩ := u
  obtain ⟨yw, yu, yi, yl, ys, yp, yo, yn, ym, yk, yd, yr, yt⟩ := v
  obtain ⟨rfl, rfl, x3, x4, x5⟩ := hX
  obtain ⟨rfl, rfl, rfl, rfl, y5, y6, y7⟩ := hY
  unfold wpX_inLength wpY_inLength
  dsimp only
  rcases td_sl v1 with b | ⟨s, hs, rfl⟩
  · exact xs_slot0 b (br_t rfl (ys_slot0 b (br_t rfl ⟨rfl, hR⟩)))
  · rw [nI_clamp (show s < 2 ^ 31 by omega)]
    exact xs_slot1 hs (br_f td_n10 ⟨vp_in_nI (by omega) (by omega), ys_slot1 hs (br_f td_n10 ⟨vp_in_nI (by omega) (by omega), by rw [(x4 s hs).1.1, (y7 s hs).2.1], hR⟩)⟩)
theorem i_vc_outLength {k : Nat} {u : SX} {v : SY} (I : i_Rel k u v) (hk : k + 5 ≤ 2560) (v1 : Int32) : wpX_outLength (fun r => wpY_outLength (fun r' => r' = r ∧ i_Rel (k + 5) u v) v v1) u v1 := by
  have hR := i_up I
  obtain ⟨os, ms, ow, mw, uw, dl, hV, hX, hY⟩ := I
  obtain ⟨xu, xl, aD, aR, aL, aF, bD, bR, bL, bF, il, ol, rc, fc, kd, st, fr, tx, nx⟩ := u
  obtain ⟨yw, yu, yi, yl, ys, yp, yo, yn, ym, yk, yd, yr, yt⟩ := v
  obtain ⟨rfl, rfl, x3, x4, x5⟩ := hX
  obtain ⟨rfl, rfl, rfl, rfl, y5, y6, y7⟩ := hY
  unfold wpX_outLength wpY_outLength
  dsimp only
  rcases td_sl v1 with b | ⟨s, hs, rfl⟩
  · exact xs_slot0 b (br_t rfl (ys_slot0 b (br_t rfl ⟨rfl, hR⟩)))
  · rw [nI_clamp (show s < 2 ^ 31 by omega)]
    exact xs_slot1 hs (br_f td_n10 ⟨vp_in_nI (by omega) (by omega), ys_slot1 hs (br_f td_n10 ⟨vp_in_nI (by omega) (by omega), by rw [(x4 s hs).1.2.1, (y7 s hs).1], hR⟩)⟩)
theorem i_vc_runs {k : Nat} {u : SX} {v : SY} (I : i_Rel k u v) (hk : k + 5 ≤ 2560) (v1 : Int32) : wpX_runs (fun r => wpY_runs (fun r' v' => r' = r ∧ i_Rel (k + 5) u v') v v1) u v1 := by
  have hR := i_up I
  obtain ⟨os, ms, ow, mw, uw, dl, hV, hX, hY⟩ := I
  obtain ⟨xu, xl, aD, aR, aL, aF, bD, bR, bL, bF, il, ol, rc, fc, kd, st, fr, tx, nx⟩ := u
  obtain ⟨yw, yu, yi, yl, ys, yp, yo, yn, ym, yk, yd, yr, yt⟩ := v
  obtain ⟨rfl, rfl, x3, x4, x5⟩ := hX
  obtain ⟨rfl, rfl, rfl, rfl, y5, y6, y7⟩ := hY
  have hP := td_PS_of x4
  rcases td_sl v1 with b | ⟨s, hs, rfl⟩
  · unfold wpX_runs wpY_runs
    dsimp only
    exact xs_slot0 b (br_t rfl (ys_slot0 b (br_t rfl ⟨rfl, hR⟩)))
  · unfold wpX_runs
    dsimp only
    rw [nI_clamp (show s < 2 ^ 31 by omega)]
    refine xs_slot1 hs (br_f td_n10 ⟨vp_in_nI (by omega) (by omega), ?_⟩)
    refine yr_runs hs hP y7 fun yp' yt' => ⟨(x4 s hs).1.2.2.2.2.2.1.symm, os, ms, ow, mw, uw, dl, hV, ⟨rfl, rfl, x3, x4, x5⟩, ⟨rfl, rfl, rfl, rfl, y5, y6, y7⟩⟩
theorem i_vc_run {k : Nat} {u : SX} {v : SY} (I : i_Rel k u v) (hk : k + 5 ≤ 2560) (v1 : Int32) (v2 : Int32) : wpX_run (fun r => wpY_run (fun r' v' => r' = r ∧ i_Rel (k + 5) u v') v v1 v2) u v1 v2 := by
  have hR := i_up I
  obtain ⟨os, ms, ow, mw, uw, dl, hV, hX, hY⟩ := I
  obtain ⟨xu, xl, aD, aR, aL, aF, bD, bR, bL, bF, il, ol, rc, fc, kd, st, fr, tx, nx⟩ := u
  obtain ⟨yw, yu, yi, yl, ys, yp, yo, yn, ym, yk, yd, yr, yt⟩ := v
  obtain ⟨rfl, rfl, x3, x4, x5⟩ := hX
  obtain ⟨rfl, rfl, rfl, rfl, y5, y6, y7⟩ := hY
  have hP := td_PS_of x4
  rcases td_sl v1 with b | ⟨s, hs, rfl⟩
  · unfold wpX_run wpY_run
    dsimp only
    exact xs_slot0 b (br_t rfl (ys_slot0 b (br_t rfl ⟨rfl, hR⟩)))
  · obtain ⟨j, hj, hj2⟩ := td_jx v2
    have hE : ∀ (yp' : Int32) (yt' : Nat → Int32), i_Rel (k + 5) (nI uw, nI dl.length, aD, aR, aL, aF, bD, bR, bL, bF, il, ol, rc, fc, kd, st, fr, tx, nx) (nI mw, nI uw, nI ow.length, nI dl.length, ys, yp', yo, yn, ym, yk, yd, yr, yt') := fun yp' yt' => ⟨os, ms, ow, mw, uw, dl, hV, ⟨rfl, rfl, x3, x4, x5⟩, ⟨rfl, rfl, rfl, rfl, y5, y6, y7⟩⟩
    refine xr_run hs hj2 x4 (fun e => ?_) (fun e => ?_)
    · exact yr_run hs hj hP y7 (fun _ yp' yt' => ⟨rfl, hE yp' yt'⟩) (fun e' => absurd e e')
    · exact yr_run hs hj hP y7 (fun e' => absurd e' e) (fun _ yp' yt' => ⟨rfl, hE yp' yt'⟩)
theorem i_vc_added {k : Nat} {u : SX} {v : SY} (I : i_Rel k u v) (hk : k + 5 ≤ 2560) (v1 : Int32) (v2 : Int32) : wpX_added (fun r => wpY_added (fun r' => r' = r ∧ i_Rel (k + 5) u v) v v1 v2) u v1 v2 := by
  have hR := i_up I
  obtain ⟨os, ms, ow, mw, uw, dl, hV, hX, hY⟩ := I
  obtain ⟨xu, xl, aD, aR, aL, aF, bD, bR, bL, bF, il, ol, rc, fc, kd, st, fr, tx, nx⟩ := u
  obtain ⟨yw, yu, yi, yl, ys, yp, yo, yn, ym, yk, yd, yr, yt⟩ := v
  obtain ⟨rfl, rfl, x3, x4, x5⟩ := hX
  obtain ⟨rfl, rfl, rfl, rfl, y5, y6, y7⟩ := hY
  have hP := td_PS_of x4
  rcases td_sl v1 with b | ⟨s, hs, rfl⟩
  · unfold wpX_added wpY_added
    dsimp only
    exact xs_slot0 b (br_t rfl (ys_slot0 b (br_t rfl ⟨rfl, hR⟩)))
  · obtain ⟨j, hj, hj2⟩ := td_jx v2
    refine xd_added hs hj2 x4 (fun e => ?_) (fun c e => ?_)
    · exact yd_added hs hj hP y7 (fun _ => ⟨rfl, hR⟩) (fun c' e' => by rw [e] at e'; exact absurd e' (by simp))
    · exact yd_added hs hj hP y7 (fun e' => by rw [e] at e'; exact absurd e' (by simp)) (fun c' e' => by
        rw [e] at e'
        have : c = c' := Option.some.inj e'
        subst this
        exact ⟨rfl, hR⟩)
theorem i_vc_same {k : Nat} {u : SX} {v : SY} (I : i_Rel k u v) (hk : k + 5 ≤ 2560) (v1 : Int32) (v2 : Int32) : wpX_same (fun r => wpY_same (fun r' => r' = r ∧ i_Rel (k + 5) u v) v v1 v2) u v1 v2 := by
  have hR := i_up I
  obtain ⟨os, ms, ow, mw, uw, dl, hV, hX, hY⟩ := I
  obtain ⟨xu, xl, aD, aR, aL, aF, bD, bR, bL, bF, il, ol, rc, fc, kd, st, fr, tx, nx⟩ := u
  obtain ⟨yw, yu, yi, yl, ys, yp, yo, yn, ym, yk, yd, yr, yt⟩ := v
  obtain ⟨rfl, rfl, x3, x4, x5⟩ := hX
  obtain ⟨rfl, rfl, rfl, rfl, y5, y6, y7⟩ := hY
  have hP := td_PS_of x4
  by_cases hb : td_bad v1 ∨ td_bad v2
  · exact xz_s0 hb (yz_s0 hb ⟨rfl, hR⟩)
  · obtain ⟨a, ha, rfl⟩ := td_gd (fun z => hb (Or.inl z))
    obtain ⟨b, hbb, rfl⟩ := td_gd (fun z => hb (Or.inr z))
    refine xz_same ha hbb x4 (fun e1 e2 => ?_) (fun e => ?_)
    · exact yz_same ha hbb hP y7 (fun _ _ => ⟨rfl, hR⟩) (fun e => absurd ⟨e1, e2⟩ e)
    · exact yz_same ha hbb hP y7 (fun e1 e2 => absurd ⟨e1, e2⟩ e) (fun _ => ⟨rfl, hR⟩)
end
