section
/-! rows of the kit's PURE-ROWS (starting text), those that this claim uses -/
theorem pk_us {f : Nat → Int32} {k : Nat} {x : Int32} : upd f k x k = x := if_pos rfl
theorem pk_un {f : Nat → Int32} {k j : Nat} {x : Int32} (h : j ≠ k) : upd f k x j = f j := if_neg h
theorem pk_sub {a b : Nat} (h : b ≤ a) : nI a - nI b = nI (a - b) := by
  obtain ⟨c, rfl⟩ : ∃ c, a = c + b := ⟨a - b, by omega⟩
  rw [← nI_add, Int32.add_sub_cancel, Nat.add_sub_cancel]
theorem pk_m1 (n : Nat) : nI (n + 1) + (-1) = nI n := by
  rw [← nI_1, Int32.add_assoc, show (1 : Int32) + (-1) = 0 from rfl, Int32.add_zero]
theorem pk_mul (a b : Nat) : nI a * nI b = nI (a * b) := (Int32.ofNat_mul a b).symm
theorem pk_le {x y : Int32} {A B : Prop} (a b : Nat) (f : a ≤ b → A) (g : b < a → B) (hx : x = nI a := by rfl) (hy : y = nI b := by rfl) (ha : a < 2 ^ 31 := by omega) (hb : b < 2 ^ 31 := by omega) : (x ≤ y → A) ∧ (¬ x ≤ y → B) := by
  subst hx hy
  rw [nI_leI ha hb]
  exact ⟨f, fun z => g (by omega)⟩
theorem pk_lt {x y : Int32} {A B : Prop} (a b : Nat) (f : a < b → A) (g : b ≤ a → B) (hx : x = nI a := by rfl) (hy : y = nI b := by rfl) (ha : a < 2 ^ 31 := by omega) (hb : b < 2 ^ 31 := by omega) : (x < y → A) ∧ (¬ x < y → B) := by
  subst hx hy
  rw [nI_ltI ha hb]
  exact ⟨f, fun z => g (by omega)⟩
theorem pk_eq {x y : Int32} {A B : Prop} (a b : Nat) (f : a = b → A) (g : a ≠ b → B) (hx : x = nI a := by rfl) (hy : y = nI b := by rfl) (ha : a < 2 ^ 31 := by omega) (hb : b < 2 ^ 31 := by omega) : (x = y → A) ∧ (¬ x = y → B) := by
  subst hx hy
  rw [nI_eq ha hb]
  exact ⟨f, g⟩
theorem pk_in {x : Int32} (n N : Nat) (h : n < N) (hx : x = nI n := by rfl) (hN : N < 2 ^ 31 := by omega) : vp_in x N := by
  subst hx
  exact vp_in_nI h hN
theorem pk_cl {x : Int32} (n : Nat) (hx : x = nI n := by rfl) (h : n < 2 ^ 31 := by omega) : x.toNatClampNeg = n := by
  subst hx
  exact nI_clamp h
end
section
/-! Words are lists of letters, THE LAST LETTER FIRST. ft_sf p w: p is a beginning of the word w. -/
def ft_sf (p : List Nat) : List Nat → Bool
  | [] => decide (p = [])
  | c :: t => decide (p = c :: t) || ft_sf p t
theorem ft_sf_cons {p t : List Nat} {c : Nat} : ft_sf p (c :: t) = true ↔ p = c :: t ∨ ft_sf p t = true := by
  simp [ft_sf]
theorem ft_sf_n {p : List Nat} : ft_sf p [] = true ↔ p = [] := by
  simp [ft_sf]
theorem ft_sf_refl (p : List Nat) : ft_sf p p = true := by
  cases p with
  | nil => exact ft_sf_n.mpr rfl
  | cons c t => exact ft_sf_cons.mpr (Or.inl rfl)
theorem ft_sf_nil (w : List Nat) : ft_sf [] w = true := by
  induction w with
  | nil => exact ft_sf_n.mpr rfl
  | cons c t ih => exact ft_sf_cons.mpr (Or.inr ih)
theorem ft_sf_len {p w : List Nat} (h : ft_sf p w = true) : p.length ≤ w.length := by
  induction w with
  | nil => rw [ft_sf_n.mp h]; exact Nat.le_refl _
  | cons c t ih =>
    rcases ft_sf_cons.mp h with e | e
    · rw [e]; exact Nat.le_refl _
    · exact Nat.le_trans (ih e) (Nat.le_succ _)
theorem ft_sf_tl {c : Nat} {p w : List Nat} (h : ft_sf (c :: p) w = true) : ft_sf p w = true := by
  induction w with
  | nil => cases ft_sf_n.mp h
  | cons d t ih =>
    rcases ft_sf_cons.mp h with e | e
    · cases e; exact ft_sf_cons.mpr (Or.inr (ft_sf_refl _))
    · exact ft_sf_cons.mpr (Or.inr (ih e))
theorem ft_sf_trans {p q w : List Nat} (h1 : ft_sf p q = true) (h2 : ft_sf q w = true) : ft_sf p w = true := by
  induction w with
  | nil => rw [ft_sf_n.mp h2] at h1; exact h1
  | cons c t ih =>
    rcases ft_sf_cons.mp h2 with e | e
    · rw [e] at h1; exact h1
    · exact ft_sf_cons.mpr (Or.inr (ih e))
theorem ft_sf_le {p w : List Nat} (h : ft_sf p w = true) (hl : w.length ≤ p.length) : p = w := by
  cases w with
  | nil => exact ft_sf_n.mp h
  | cons c t =>
    rcases ft_sf_cons.mp h with e | e
    · exact e
    · have := ft_sf_len e
      simp only [List.length_cons] at hl
      omega
theorem ft_sf_no (c : Nat) (p : List Nat) : ft_sf (c :: p) p = false := by
  cases h : ft_sf (c :: p) p with
  | false => rfl
  | true =>
    have := ft_sf_len h
    simp only [List.length_cons] at this
    omega
theorem ft_sf_comp {p q w : List Nat} (h1 : ft_sf p w = true) (h2 : ft_sf q w = true) (hl : p.length ≤ q.length) : ft_sf p q = true := by
  induction w with
  | nil => rw [ft_sf_n.mp h1]; exact ft_sf_nil _
  | cons c t ih =>
    rcases ft_sf_cons.mp h2 with e | e
    · rw [e]; exact h1
    · rcases ft_sf_cons.mp h1 with e1 | e1
      · have := ft_sf_len e
        rw [e1] at hl
        simp only [List.length_cons] at hl
        omega
      · exact ih e1 e
/-- the i-th letter -/
def ft_lt : List Nat → Nat → Nat
  | [], _ => 0
  | c :: p, i => if i = p.length then c else ft_lt p i
/-- the first i letters -/
def ft_tk : List Nat → Nat → List Nat
  | [], _ => []
  | c :: p, i => if p.length < i then c :: p else ft_tk p i
theorem ft_tk_len {w : List Nat} {i : Nat} (h : i ≤ w.length) : (ft_tk w i).length = i := by
  induction w with
  | nil => simp only [List.length_nil] at h; simp only [ft_tk, List.length_nil]; omega
  | cons c p ih =>
    simp only [List.length_cons] at h
    simp only [ft_tk]
    split
    · simp only [List.length_cons]; omega
    · exact ih (by omega)
theorem ft_tk_all (w : List Nat) : ft_tk w w.length = w := by
  cases w with
  | nil => rfl
  | cons c p => simp only [ft_tk, List.length_cons]; rw [if_pos (by omega)]
theorem ft_tk_0 (w : List Nat) : ft_tk w 0 = [] := by
  induction w with
  | nil => rfl
  | cons c p ih => simp only [ft_tk]; rw [if_neg (by omega)]; exact ih
theorem ft_tk_s {w : List Nat} {i : Nat} (h : i < w.length) : ft_tk w (i + 1) = ft_lt w i :: ft_tk w i := by
  induction w with
  | nil => simp only [List.length_nil] at h; omega
  | cons c p ih =>
    simp only [List.length_cons] at h
    simp only [ft_tk, ft_lt]
    by_cases e : i = p.length
    · rw [if_pos (by omega), if_pos e, if_neg (by omega), e, ft_tk_all]
    · rw [if_neg (by omega), if_neg e, if_neg (by omega)]
      exact ih (by omega)
theorem ft_tk_sf (w : List Nat) (i : Nat) : ft_sf (ft_tk w i) w = true := by
  induction w with
  | nil => exact ft_sf_n.mpr rfl
  | cons c p ih =>
    simp only [ft_tk]
    split
    · exact ft_sf_refl _
    · exact ft_sf_cons.mpr (Or.inr ih)
theorem ft_sf_tk {p w : List Nat} (h : ft_sf p w = true) : ft_tk w p.length = p := by
  have hl := ft_sf_len h
  exact ft_sf_le (ft_sf_comp (ft_tk_sf w _) h (by rw [ft_tk_len hl]; exact Nat.le_refl _)) (by rw [ft_tk_len hl]; exact Nat.le_refl _)
theorem ft_tk_tk {w : List Nat} {i j : Nat} (h : i ≤ j) (hj : j ≤ w.length) : ft_tk (ft_tk w j) i = ft_tk w i := by
  have h1 : ft_sf (ft_tk (ft_tk w j) i) w = true := ft_sf_trans (ft_tk_sf _ _) (ft_tk_sf _ _)
  have h2 := ft_sf_tk h1
  rw [ft_tk_len (by rw [ft_tk_len hj]; exact h)] at h2
  exact h2.symm
/-- one letter more of the word behind its beginning p -/
theorem ft_sf_more {p w : List Nat} (h : ft_sf p w = true) (hl : p.length < w.length) : ft_sf (ft_lt w p.length :: p) w = true := by
  have h1 := ft_tk_s hl
  rw [ft_sf_tk h] at h1
  rw [← h1]
  exact ft_tk_sf _ _
theorem ft_sf_lt {c : Nat} {p w : List Nat} (h : ft_sf (c :: p) w = true) : p.length < w.length ∧ ft_lt w p.length = c := by
  have hl := ft_sf_len h
  simp only [List.length_cons] at hl
  have h1 := ft_sf_more (ft_sf_tl h) (by omega)
  have h2 := ft_sf_comp h1 h (by simp only [List.length_cons]; omega)
  have h3 := ft_sf_le h2 (by simp only [List.length_cons]; omega)
  exact ⟨by omega, (List.cons.inj h3).1⟩
theorem ft_lt_tk {w : List Nat} {i j : Nat} (h : i < j) (hj : j ≤ w.length) : ft_lt (ft_tk w j) i = ft_lt w i := by
  have h1 := ft_tk_s (w := ft_tk w j) (i := i) (by rw [ft_tk_len hj]; exact h)
  rw [ft_tk_tk (by omega) hj, ft_tk_tk (by omega) hj, ft_tk_s (by omega)] at h1
  exact (List.cons.inj h1).1.symm
theorem ft_sf_of {p w : List Nat} (hl : p.length ≤ w.length) (h : ∀ i, i < p.length → ft_lt p i = ft_lt w i) : ft_sf p w = true := by
  have h1 : ∀ i, i ≤ p.length → ft_tk p i = ft_tk w i := by
    intro i
    induction i with
    | zero => intro _; rw [ft_tk_0, ft_tk_0]
    | succ i ih => intro hi; rw [ft_tk_s (by omega), ft_tk_s (by omega), ih (by omega), h i (by omega)]
  have h2 := h1 p.length (Nat.le_refl _)
  rw [ft_tk_all] at h2
  rw [h2]
  exact ft_tk_sf _ _
theorem ft_sf_lts {p w : List Nat} (h : ft_sf p w = true) {i : Nat} (hi : i < p.length) : ft_lt p i = ft_lt w i := by
  have h1 := ft_lt_tk (w := w) (j := p.length) hi (ft_sf_len h)
  rw [ft_sf_tk h] at h1
  exact h1
/-- all letters are below 4 -/
def ft_ok : List Nat → Prop
  | [] => True
  | c :: p => c < 4 ∧ ft_ok p
theorem ft_ok_sf {p w : List Nat} (h : ft_ok w) (hs : ft_sf p w = true) : ft_ok p := by
  induction w with
  | nil => rw [ft_sf_n.mp hs]; trivial
  | cons c t ih =>
    rcases ft_sf_cons.mp hs with e | e
    · rw [e]; exact h
    · exact ih h.2 e
theorem ft_ok_lt {w : List Nat} (h : ft_ok w) (i : Nat) : ft_lt w i < 4 := by
  induction w with
  | nil => simp only [ft_lt]; omega
  | cons c t ih =>
    simp only [ft_lt]
    split
    · exact h.1
    · exact ih h.2
/-- the word w stands in A from b on -/
def ft_At (A : Nat → Int32) (b : Nat) : List Nat → Prop
  | [] => True
  | c :: p => A (b + p.length) = nI c ∧ c < 4 ∧ ft_At A b p
theorem ft_At_ok {A : Nat → Int32} {b : Nat} {w : List Nat} (h : ft_At A b w) : ft_ok w := by
  induction w with
  | nil => trivial
  | cons c p ih => exact ⟨h.2.1, ih h.2.2⟩
theorem ft_At_lt {A : Nat → Int32} {b : Nat} {w : List Nat} (h : ft_At A b w) {i : Nat} (hi : i < w.length) : A (b + i) = nI (ft_lt w i) := by
  induction w with
  | nil => simp only [List.length_nil] at hi; omega
  | cons c p ih =>
    simp only [List.length_cons] at hi
    simp only [ft_lt]
    split
    · rename_i e; rw [e]; exact h.1
    · exact ih h.2.2 (by omega)
theorem ft_At_mk {A : Nat → Int32} {b : Nat} {w : List Nat} (ho : ft_ok w) (h : ∀ i, i < w.length → A (b + i) = nI (ft_lt w i)) : ft_At A b w := by
  induction w with
  | nil => trivial
  | cons c p ih =>
    refine ⟨?_, ho.1, ih ho.2 ?_⟩
    · have h1 := h p.length (by simp only [List.length_cons]; omega)
      simp only [ft_lt] at h1
      rw [if_pos trivial] at h1
      exact h1
    · intro i hi
      have h1 := h i (by simp only [List.length_cons]; omega)
      simp only [ft_lt] at h1
      rw [if_neg (by omega)] at h1
      exact h1
theorem ft_At_eq {A A' : Nat → Int32} {b b' : Nat} {w : List Nat} (h : ft_At A b w) (he : ∀ i, i < w.length → A' (b' + i) = A (b + i)) : ft_At A' b' w :=
  ft_At_mk (ft_At_ok h) fun i hi => (he i hi).trans (ft_At_lt h hi)
theorem ft_At_sf {A : Nat → Int32} {b : Nat} {p w : List Nat} (h : ft_At A b w) (hs : ft_sf p w = true) : ft_At A b p :=
  ft_At_mk (ft_ok_sf (ft_At_ok h) hs) fun i hi => by
    rw [ft_sf_lts hs hi]
    exact ft_At_lt h (Nat.lt_of_lt_of_le hi (ft_sf_len hs))
theorem ft_At_out {A : Nat → Int32} {b j : Nat} {v : Int32} {w : List Nat} (h : ft_At A b w) (hj : j < b ∨ b + w.length ≤ j) : ft_At (upd A j v) b w :=
  ft_At_eq h fun i hi => pk_un (by omega)
theorem ft_At_push {A : Nat → Int32} {b c : Nat} {w : List Nat} (h : ft_At A b w) (hc : c < 4) : ft_At (upd A (b + w.length) (nI c)) b (c :: w) :=
  ⟨pk_us, hc, ft_At_out h (Or.inr (Nat.le_refl _))⟩
end
section
/-! counting -/
def ft_cn (P : Nat → Bool) : Nat → Nat
  | 0 => 0
  | m + 1 => ft_cn P m + (P m).toNat
theorem ft_tN (b : Bool) : b.toNat ≤ 1 := by cases b <;> decide
theorem ft_cn_le (P : Nat → Bool) (m : Nat) : ft_cn P m ≤ m := by
  induction m with
  | zero => exact Nat.le_refl _
  | succ m ih => simp only [ft_cn]; have := ft_tN (P m); omega
theorem ft_cn_cg {P P' : Nat → Bool} {m : Nat} (h : ∀ w, w < m → P w = P' w) : ft_cn P m = ft_cn P' m := by
  induction m with
  | zero => rfl
  | succ m ih => simp only [ft_cn]; rw [ih fun w hw => h w (by omega), h m (by omega)]
theorem ft_cn_ex {P : Nat → Bool} {m : Nat} (h : 0 < ft_cn P m) : ∃ w, w < m ∧ P w = true := by
  induction m with
  | zero => simp only [ft_cn] at h; omega
  | succ m ih =>
    simp only [ft_cn] at h
    cases hp : P m with
    | true => exact ⟨m, by omega, hp⟩
    | false =>
      rw [hp] at h
      simp only [Bool.toNat_false] at h
      obtain ⟨w, hw, e⟩ := ih (by omega)
      exact ⟨w, by omega, e⟩
theorem ft_cn_pos {P : Nat → Bool} {m w : Nat} (hw : w < m) (h : P w = true) : 0 < ft_cn P m := by
  induction m with
  | zero => omega
  | succ m ih =>
    simp only [ft_cn]
    by_cases e : w = m
    · rw [← e, h]; simp only [Bool.toNat_true]; omega
    · have := ih (by omega); omega
theorem ft_cn_mono {P P' : Nat → Bool} {m : Nat} (h : ∀ w, w < m → P w = true → P' w = true) : ft_cn P m ≤ ft_cn P' m := by
  induction m with
  | zero => exact Nat.le_refl _
  | succ m ih =>
    simp only [ft_cn]
    have h1 := ih fun w hw => h w (by omega)
    have h2 := h m (by omega)
    cases hp : P m with
    | true => rw [h2 hp]; omega
    | false => simp only [Bool.toNat_false]; omega
theorem ft_cn_up {P P' : Nat → Bool} {m j : Nat} (hj : j < m) (h : ∀ w, w < m → w ≠ j → P' w = P w) : ft_cn P' m + (P j).toNat = ft_cn P m + (P' j).toNat := by
  induction m with
  | zero => omega
  | succ m ih =>
    simp only [ft_cn]
    by_cases e : j = m
    · rw [e, ft_cn_cg (P := P') (P' := P) fun w hw => h w (by omega) (by omega)]; omega
    · have h1 := ih (by omega) fun w hw => h w (by omega)
      rw [h m (by omega) (by omega)]
      omega
theorem ft_cn_all {P : Nat → Bool} {m : Nat} (h : ∀ w, w < m → P w = true) : ft_cn P m = m := by
  induction m with
  | zero => rfl
  | succ m ih => simp only [ft_cn]; rw [ih fun w hw => h w (by omega), h m (by omega)]; rfl
/-- is w among f 0 .. f (k - 1) -/
def ft_ex (f : Nat → Nat) : Nat → Nat → Bool
  | 0, _ => false
  | k + 1, w => decide (f k = w) || ft_ex f k w
theorem ft_ex_iff {f : Nat → Nat} {k w : Nat} : ft_ex f k w = true ↔ ∃ r, r < k ∧ f r = w := by
  induction k with
  | zero => simp [ft_ex]
  | succ k ih =>
    simp only [ft_ex, Bool.or_eq_true, decide_eq_true_eq, ih]
    constructor
    · rintro (e | ⟨r, hr, e⟩)
      · exact ⟨k, by omega, e⟩
      · exact ⟨r, by omega, e⟩
    · rintro ⟨r, hr, e⟩
      by_cases h : r = k
      · rw [h] at e; exact Or.inl e
      · exact Or.inr ⟨r, by omega, e⟩
theorem ft_ex_cn {f : Nat → Nat} {k m : Nat} (hm : ∀ r, r < k → f r < m) (hi : ∀ r s, r < k → s < k → f r = f s → r = s) : ft_cn (ft_ex f k) m = k := by
  induction k with
  | zero =>
    have h : ∀ m, ft_cn (ft_ex f 0) m = 0 := by
      intro m
      induction m with
      | zero => rfl
      | succ m ih => simp only [ft_cn, ih]; rfl
    exact h m
  | succ k ih =>
    have h1 := ih (fun r hr => hm r (by omega)) (fun r s hr hs => hi r s (by omega) (by omega))
    have h2 : ft_ex f k (f k) = false := by
      cases h : ft_ex f k (f k) with
      | false => rfl
      | true =>
        obtain ⟨r, hr, e⟩ := ft_ex_iff.mp h
        have := hi r k (by omega) (by omega) e
        omega
    have h3 : ft_ex f (k + 1) (f k) = true := ft_ex_iff.mpr ⟨k, by omega, rfl⟩
    have h4 := ft_cn_up (P := ft_ex f k) (P' := ft_ex f (k + 1)) (hm k (by omega)) (fun w hw e => by
      simp only [ft_ex]
      rw [decide_eq_false (fun z => e z.symm), Bool.false_or])
    rw [h2, h3, h1] at h4
    simp only [Bool.toNat_false, Bool.toNat_true] at h4
    omega
/-- what σ meets, one to one, is counted -/
theorem ft_cn_of {P : Nat → Bool} {f : Nat → Nat} {k m : Nat} (hm : ∀ r, r < k → f r < m) (hi : ∀ r s, r < k → s < k → f r = f s → r = s) (hp : ∀ w, w < m → (P w = true ↔ ∃ r, r < k ∧ f r = w)) : ft_cn P m = k := by
  rw [← ft_ex_cn hm hi]
  refine ft_cn_cg fun w hw => ?_
  rw [Bool.eq_iff_iff, hp w hw, ft_ex_iff]
theorem ft_ph {f : Nat → Nat} {k m : Nat} (hm : ∀ r, r < k → f r < m) (hi : ∀ r s, r < k → s < k → f r = f s → r = s) : k ≤ m := by
  rw [← ft_ex_cn hm hi]
  exact ft_cn_le _ _
theorem ft_cover {g : Nat → Nat} {k n : Nat} (h : ∀ x, x < n → ∃ r, r < k ∧ g r = x) : n ≤ k := by
  have h' : ∀ x, ∃ r, x < n → r < k ∧ g r = x := fun x => by
    by_cases hx : x < n
    · obtain ⟨r, hr⟩ := h x hx
      exact ⟨r, fun _ => hr⟩
    · exact ⟨0, fun z => absurd z hx⟩
  obtain ⟨f, hf⟩ := Classical.axiomOfChoice h'
  exact ft_ph (f := f) (fun r hr => (hf r hr).1) (fun r s hr hs e => by
    have h1 := (hf r hr).2
    have h2 := (hf s hs).2
    rw [e] at h1
    omega)
theorem ft_nodup {α : Type} {l : List α} {n : Nat} (N : α → Nat) (hl : ∀ x, x ∈ l → N x < n) (hp : l.Pairwise fun x y => N x ≠ N y) : l.length ≤ n := by
  cases l with
  | nil => exact Nat.zero_le _
  | cons a t =>
    refine ft_ph (f := fun r => N ((a :: t).getD r a)) (m := n) ?_ ?_
    · intro r hr
      refine hl _ ?_
      rw [List.getD_eq_getElem?_getD, List.getElem?_eq_getElem hr]
      exact List.getElem_mem hr
    · intro r s hr hs e
      have hw := List.pairwise_iff_getElem.mp hp
      simp only [List.getD_eq_getElem?_getD, List.getElem?_eq_getElem hr, List.getElem?_eq_getElem hs, Option.getD_some] at e
      rcases Nat.lt_trichotomy r s with h | h | h
      · exact absurd e (hw r s hr hs h)
      · exact h
      · exact absurd e.symm (hw s r hs hr h)
/-! distances -/
def ft_er (f : List Nat → Nat) (a : Nat) : List Nat → Nat
  | [] => f [] + 1
  | b :: p => min (f p + (if b = a then 0 else 1)) (min (f (b :: p)) (ft_er f a p) + 1)
/-- the edit distance -/
def ft_ed : List Nat → List Nat → Nat
  | [] => List.length
  | a :: s => ft_er (ft_ed s) a
theorem ft_ed_nil (s : List Nat) : ft_ed s [] = s.length := by
  induction s with
  | nil => rfl
  | cons a s ih => show ft_ed s [] + 1 = _; rw [ih]; rfl
/-- the least distance of a beginning of the word -/
def ft_rc (Q : List Nat) : List Nat → Nat
  | [] => ft_ed Q []
  | c :: p => min (ft_ed Q (c :: p)) (ft_rc Q p)
theorem ft_rc_le (Q p : List Nat) : ft_rc Q p ≤ Q.length := by
  induction p with
  | nil => simp only [ft_rc, ft_ed_nil]; exact Nat.le_refl _
  | cons c p ih => simp only [ft_rc]; omega
def ft_cap (L d : Nat) : Nat := if d ≤ L then d else L + 1
theorem ft_cap_le (L d : Nat) : ft_cap L d ≤ L + 1 := by unfold ft_cap; split <;> omega
theorem ft_cap_iff {L d : Nat} : ft_cap L d ≤ L ↔ d ≤ L := by unfold ft_cap; split <;> omega
theorem ft_cap_eq {L d : Nat} (h : d ≤ L) : ft_cap L d = d := if_pos h
theorem ft_cap_min (L a b : Nat) : ft_cap L (min a b) = min (ft_cap L a) (ft_cap L b) := by
  unfold ft_cap
  split <;> split <;> split <;> omega
theorem ft_cap_st0 (L x : Nat) : ft_cap L (ft_cap L x + 1) = ft_cap L (x + 1) := by
  unfold ft_cap
  by_cases h : x ≤ L
  · rw [if_pos h]
  · rw [if_neg h, if_neg (by omega), if_neg (by omega)]
theorem ft_cap_st (L x y z e : Nat) (he : e ≤ 1) : ft_cap L (min (ft_cap L z + 1) (min (ft_cap L y + e) (ft_cap L x + 1))) = ft_cap L (min (y + e) (min x z + 1)) := by
  unfold ft_cap
  by_cases hx : x ≤ L <;> by_cases hy : y ≤ L <;> by_cases hz : z ≤ L <;> simp only [hx, hy, hz, if_true, if_false] <;> (split <;> split <;> omega)
/-! the order of the dictionary, as a number -/
def ft_co : List Nat → Nat
  | [] => 0
  | c :: p => ft_co p * 5 + c + 1
def ft_z (p : List Nat) : Nat := 5 ^ (6 - p.length)
def ft_kk (p : List Nat) : Nat := ft_co p * ft_z p
theorem ft_z_pos (p : List Nat) : 1 ≤ ft_z p := Nat.one_le_pow _ _ (by decide)
theorem ft_z_c {p : List Nat} (h : p.length < 6) (c : Nat) : ft_z p = 5 * ft_z (c :: p) := by
  unfold ft_z
  simp only [List.length_cons]
  obtain ⟨d, hd⟩ : ∃ d, p.length + 1 + d = 6 := ⟨6 - (p.length + 1), by omega⟩
  rw [show 6 - p.length = d + 1 by omega, show 6 - (p.length + 1) = d by omega, Nat.pow_succ, Nat.mul_comm]
theorem ft_kk_c {p : List Nat} (h : p.length < 6) (c : Nat) : ft_kk (c :: p) = ft_kk p + (c + 1) * ft_z (c :: p) := by
  unfold ft_kk
  rw [ft_z_c h c, ft_co, Nat.add_assoc, Nat.add_mul, Nat.mul_assoc]
theorem ft_co_le (p : List Nat) (ho : ft_ok p) (hl : p.length ≤ 6) : ft_co p < 15625 := by
  have h : ∀ q : List Nat, ft_ok q → ft_co q + 1 ≤ 5 ^ q.length := by
    intro q
    induction q with
    | nil => intro _; decide
    | cons c q ih =>
      intro ho
      have h1 := ih ho.2
      have h2 := ho.1
      simp only [ft_co, List.length_cons, Nat.pow_succ]
      omega
  have h1 := h p ho
  have h2 : 5 ^ p.length ≤ 5 ^ 6 := Nat.pow_le_pow_right (by decide) hl
  have h3 : 5 ^ 6 = 15625 := by decide
  omega
theorem ft_kk_sf {p q : List Nat} (h : ft_sf p q = true) (ho : ft_ok q) (hl : q.length ≤ 6) : ft_kk p ≤ ft_kk q ∧ ft_kk q + ft_z q ≤ ft_kk p + ft_z p := by
  induction q with
  | nil => rw [ft_sf_n.mp h]; exact ⟨Nat.le_refl _, Nat.le_refl _⟩
  | cons c t ih =>
    rcases ft_sf_cons.mp h with e | e
    · rw [e]; exact ⟨Nat.le_refl _, Nat.le_refl _⟩
    · simp only [List.length_cons] at hl
      have h1 := ih e ho.2 (by omega)
      have h2 := ft_kk_c (p := t) (by omega) c
      have h3 := ft_z_c (p := t) (by omega) c
      have h4 := ho.1
      generalize ft_z (c :: t) = y at h2 h3 ⊢
      have h5 : c = 0 ∨ c = 1 ∨ c = 2 ∨ c = 3 := by omega
      rcases h5 with rfl | rfl | rfl | rfl <;> omega
theorem ft_kk_lt {c d : Nat} {p a b : List Nat} (ha : ft_sf (c :: p) a = true) (hb : ft_sf (d :: p) b = true) (oa : ft_ok a) (ob : ft_ok b) (la : a.length ≤ 6) (lb : b.length ≤ 6) (h : c < d) : ft_kk a < ft_kk b := by
  have h1 := ft_kk_sf ha oa la
  have h2 := ft_kk_sf hb ob lb
  have hp : p.length < 6 := by have := ft_sf_len ha; simp only [List.length_cons] at this; omega
  have h3 := ft_kk_c hp c
  have h4 := ft_kk_c hp d
  have h5 : ft_z (d :: p) = ft_z (c :: p) := rfl
  have h6 := ft_z_pos a
  have hd := (ft_ok_sf ob hb).1
  rw [h5] at h4 h2
  generalize ft_z (c :: p) = y at *
  have h7 : (c + 1) * y + y ≤ (d + 1) * y := by
    have : (c + 1) * y + y = (c + 2) * y := by rw [← Nat.succ_mul]
    rw [this]
    exact Nat.mul_le_mul_right _ (by omega)
  omega
theorem ft_kk_pr {p q : List Nat} (h : ft_sf p q = true) (ho : ft_ok q) (hl : q.length ≤ 6) (hn : p.length < q.length) : ft_kk p < ft_kk q := by
  have h1 := ft_sf_more h hn
  have h2 := (ft_kk_sf h1 ho hl).1
  have h3 := ft_kk_c (p := p) (by omega) (ft_lt q p.length)
  have h4 := ft_z_pos (ft_lt q p.length :: p)
  have h5 : ft_z (ft_lt q p.length :: p) ≤ (ft_lt q p.length + 1) * ft_z (ft_lt q p.length :: p) := Nat.le_mul_of_pos_left _ (by omega)
  omega
end
section
/-! the letter tree: C p words lie at or below p -/
def ft_in (C : List Nat → Nat) (p : List Nat) : Prop := p = [] ∨ 0 < C p
def ft_Cg (C : List Nat → Nat) : Prop := ∀ c p, 0 < C (c :: p) → ft_in C p ∧ p.length < 6 ∧ c < 4 ∧ C (c :: p) ≤ 12
theorem ft_in_nil (C : List Nat → Nat) : ft_in C [] := Or.inl rfl
theorem ft_in_c {C : List Nat → Nat} {c : Nat} {p : List Nat} (h : ft_in C (c :: p)) : 0 < C (c :: p) := by
  rcases h with h | h
  · cases h
  · exact h
theorem ft_in_sf {C : List Nat → Nat} (hC : ft_Cg C) {p q : List Nat} (h : ft_in C q) (hs : ft_sf p q = true) : ft_in C p := by
  induction q with
  | nil => rw [ft_sf_n.mp hs]; exact ft_in_nil C
  | cons c t ih =>
    rcases ft_sf_cons.mp hs with e | e
    · rw [e]; exact h
    · exact ih (hC c t (ft_in_c h)).1 e
theorem ft_in_ok {C : List Nat → Nat} (hC : ft_Cg C) {p : List Nat} (h : ft_in C p) : ft_ok p ∧ p.length ≤ 6 := by
  induction p with
  | nil => exact ⟨trivial, Nat.zero_le _⟩
  | cons c t ih =>
    have h1 := hC c t (ft_in_c h)
    exact ⟨⟨h1.2.2.1, (ih h1.1).1⟩, by simp only [List.length_cons]; omega⟩
/-- the tree from p on, in the order of a dictionary, k levels -/
def ft_pre (C : List Nat → Nat) : Nat → List Nat → List (List Nat)
  | 0, p => [p]
  | k + 1, p => p :: ((if 0 < C (0 :: p) then ft_pre C k (0 :: p) else []) ++ ((if 0 < C (1 :: p) then ft_pre C k (1 :: p) else []) ++ ((if 0 < C (2 :: p) then ft_pre C k (2 :: p) else []) ++ (if 0 < C (3 :: p) then ft_pre C k (3 :: p) else []))))
def ft_bk (C : List Nat → Nat) (k : Nat) (p : List Nat) (c : Nat) : List (List Nat) := if 0 < C (c :: p) then ft_pre C k (c :: p) else []
theorem ft_pre_s (C : List Nat → Nat) (k : Nat) (p : List Nat) : ft_pre C (k + 1) p = p :: (ft_bk C k p 0 ++ (ft_bk C k p 1 ++ (ft_bk C k p 2 ++ ft_bk C k p 3))) := rfl
theorem ft_bk_mem {C : List Nat → Nat} {k c : Nat} {p q : List Nat} : q ∈ ft_bk C k p c ↔ 0 < C (c :: p) ∧ q ∈ ft_pre C k (c :: p) := by
  unfold ft_bk
  split
  · rename_i h; exact ⟨fun z => ⟨h, z⟩, fun z => z.2⟩
  · rename_i h; exact ⟨fun z => absurd z List.not_mem_nil, fun z => absurd z.1 h⟩
theorem ft_pre_ms {C : List Nat → Nat} {k : Nat} {p q : List Nat} : q ∈ ft_pre C (k + 1) p ↔ q = p ∨ ∃ c, c < 4 ∧ 0 < C (c :: p) ∧ q ∈ ft_pre C k (c :: p) := by
  rw [ft_pre_s, List.mem_cons, List.mem_append, List.mem_append, List.mem_append, ft_bk_mem, ft_bk_mem, ft_bk_mem, ft_bk_mem]
  constructor
  · rintro (e | e | e | e | e)
    · exact Or.inl e
    · exact Or.inr ⟨0, by omega, e⟩
    · exact Or.inr ⟨1, by omega, e⟩
    · exact Or.inr ⟨2, by omega, e⟩
    · exact Or.inr ⟨3, by omega, e⟩
  · rintro (e | ⟨c, hc, e⟩)
    · exact Or.inl e
    · have h5 : c = 0 ∨ c = 1 ∨ c = 2 ∨ c = 3 := by omega
      rcases h5 with rfl | rfl | rfl | rfl
      · exact Or.inr (Or.inl e)
      · exact Or.inr (Or.inr (Or.inl e))
      · exact Or.inr (Or.inr (Or.inr (Or.inl e)))
      · exact Or.inr (Or.inr (Or.inr (Or.inr e)))
theorem ft_pre_mem {C : List Nat → Nat} : ∀ (k : Nat) {p q : List Nat}, ft_in C p → q ∈ ft_pre C k p → ft_sf p q = true ∧ ft_in C q := by
  intro k
  induction k with
  | zero =>
    intro p q hp h
    have e : q = p := List.mem_singleton.mp h
    rw [e]
    exact ⟨ft_sf_refl _, hp⟩
  | succ k ih =>
    intro p q hp h
    rcases ft_pre_ms.mp h with e | ⟨c, _, h1, h2⟩
    · rw [e]; exact ⟨ft_sf_refl _, hp⟩
    · have h3 := ih (Or.inr h1) h2
      exact ⟨ft_sf_tl h3.1, h3.2⟩
theorem ft_pre_has {C : List Nat → Nat} (hC : ft_Cg C) {q : List Nat} (hq : ft_in C q) : ∀ (k : Nat) {p : List Nat}, ft_sf p q = true → q.length ≤ p.length + k → q ∈ ft_pre C k p := by
  intro k
  induction k with
  | zero =>
    intro p hs hl
    rw [ft_sf_le hs (by omega)]
    exact List.mem_singleton.mpr rfl
  | succ k ih =>
    intro p hs hl
    refine ft_pre_ms.mpr ?_
    by_cases h : q.length ≤ p.length
    · exact Or.inl (ft_sf_le hs h).symm
    · have h1 := ft_sf_more hs (by omega)
      have h2 := ft_in_c (ft_in_sf hC hq h1)
      exact Or.inr ⟨_, (hC _ _ h2).2.2.1, h2, ih h1 (by simp only [List.length_cons]; omega)⟩
theorem ft_pre_so {C : List Nat → Nat} (hC : ft_Cg C) : ∀ (k : Nat) {p : List Nat}, ft_in C p → p.length + k ≤ 6 → (ft_pre C k p).Pairwise fun a b => ft_kk a < ft_kk b := by
  intro k
  induction k with
  | zero => intro p _ _; exact List.pairwise_singleton _ _
  | succ k ih =>
    intro p hp hl
    have hb : ∀ c, (ft_bk C k p c).Pairwise fun a b => ft_kk a < ft_kk b := by
      intro c
      unfold ft_bk
      split
      · rename_i h; exact ih (Or.inr h) (by simp only [List.length_cons]; omega)
      · exact List.Pairwise.nil
    have hx : ∀ c d, c < d → ∀ a, a ∈ ft_bk C k p c → ∀ b, b ∈ ft_bk C k p d → ft_kk a < ft_kk b := by
      intro c d hcd a ha b hb
      obtain ⟨a1, a2⟩ := ft_bk_mem.mp ha
      obtain ⟨b1, b2⟩ := ft_bk_mem.mp hb
      have a3 := ft_pre_mem k (Or.inr a1) a2
      have b3 := ft_pre_mem k (Or.inr b1) b2
      have a4 := ft_in_ok hC a3.2
      have b4 := ft_in_ok hC b3.2
      exact ft_kk_lt a3.1 b3.1 a4.1 b4.1 a4.2 b4.2 hcd
    have h0 : ∀ c a, a ∈ ft_bk C k p c → ft_kk p < ft_kk a := by
      intro c a ha
      obtain ⟨a1, a2⟩ := ft_bk_mem.mp ha
      have a3 := ft_pre_mem k (Or.inr a1) a2
      have a4 := ft_in_ok hC a3.2
      have a5 := ft_sf_len a3.1
      simp only [List.length_cons] at a5
      exact ft_kk_pr (ft_sf_tl a3.1) a4.1 a4.2 (by omega)
    rw [ft_pre_s]
    refine List.pairwise_cons.mpr ⟨?_, ?_⟩
    · intro a ha
      rw [List.mem_append, List.mem_append, List.mem_append] at ha
      rcases ha with e | e | e | e
      · exact h0 _ _ e
      · exact h0 _ _ e
      · exact h0 _ _ e
      · exact h0 _ _ e
    · refine List.pairwise_append.mpr ⟨hb 0, List.pairwise_append.mpr ⟨hb 1, List.pairwise_append.mpr ⟨hb 2, hb 3, hx 2 3 (by omega)⟩, ?_⟩, ?_⟩
      · intro a ha b hb'
        rw [List.mem_append] at hb'
        rcases hb' with e | e
        · exact hx 1 2 (by omega) a ha b e
        · exact hx 1 3 (by omega) a ha b e
      · intro a ha b hb'
        rw [List.mem_append, List.mem_append] at hb'
        rcases hb' with e | e | e
        · exact hx 0 1 (by omega) a ha b e
        · exact hx 0 2 (by omega) a ha b e
        · exact hx 0 3 (by omega) a ha b e
/-- what a stack of nodes still has to meet -/
def ft_pa (C : List Nat → Nat) : List (List Nat) → List (List Nat)
  | [] => []
  | p :: st => ft_pre C (6 - p.length) p ++ ft_pa C st
def ft_kd (C : List Nat → Nat) (p : List Nat) (c : Nat) (st : List (List Nat)) : List (List Nat) := if 0 < C (c :: p) then (c :: p) :: st else st
theorem ft_pa_kd {C : List Nat → Nat} {p : List Nat} {k : Nat} (hk : 6 - p.length = k + 1) (c : Nat) (st : List (List Nat)) : ft_pa C (ft_kd C p c st) = ft_bk C k p c ++ ft_pa C st := by
  unfold ft_kd ft_bk
  split
  · show ft_pre C (6 - (p.length + 1)) (c :: p) ++ ft_pa C st = _
    rw [show 6 - (p.length + 1) = k by omega]
  · rfl
def ft_kds (C : List Nat → Nat) (p : List Nat) (st : List (List Nat)) : List (List Nat) := ft_kd C p 0 (ft_kd C p 1 (ft_kd C p 2 (ft_kd C p 3 st)))
theorem ft_pa_s {C : List Nat → Nat} (hC : ft_Cg C) {p : List Nat} (hp : ft_in C p) (st : List (List Nat)) : ft_pa C (p :: st) = p :: ft_pa C (ft_kds C p st) := by
  have hl := (ft_in_ok hC hp).2
  unfold ft_kds
  show ft_pre C (6 - p.length) p ++ ft_pa C st = _
  by_cases h : p.length < 6
  · obtain ⟨k, hk⟩ : ∃ k, 6 - p.length = k + 1 := ⟨5 - p.length, by omega⟩
    rw [ft_pa_kd hk, ft_pa_kd hk, ft_pa_kd hk, ft_pa_kd hk, hk, ft_pre_s]
    simp only [List.cons_append, List.append_assoc]
  · have h0 : ∀ c st, ft_kd C p c st = st := by
      intro c st
      unfold ft_kd
      rw [if_neg]
      intro z
      have := (hC c p z).2.1
      omega
    rw [h0, h0, h0, h0, show 6 - p.length = 0 by omega]
    rfl
/-- a stack's height is at most what it has to meet -/
theorem ft_pa_len (C : List Nat → Nat) (st : List (List Nat)) : st.length ≤ (ft_pa C st).length := by
  induction st with
  | nil => exact Nat.zero_le _
  | cons p st ih =>
    have h : 1 ≤ (ft_pre C (6 - p.length) p).length := by
      cases 6 - p.length with
      | zero => exact Nat.le_refl _
      | succ k => rw [ft_pre_s, List.length_cons]; omega
    simp only [ft_pa, List.length_append, List.length_cons]
    omega
/-! the tree in the arrays: N p is the node of p -/
def ft_T (C N : List Nat → Nat) (qb qc qp ql qe qo : Nat → Int32) : Prop :=
  N [] = 0 ∧
  (∀ p, ft_in C p → N p < 80 ∧ qe (N p) = nI p.length ∧ qo (N p) = nI (ft_co p)) ∧
  (∀ c p, 0 < C (c :: p) → 1 ≤ N (c :: p) ∧ qb (N (c :: p)) = nI (C (c :: p)) ∧ qp (N (c :: p)) = nI (N p) ∧ ql (N (c :: p)) = nI c) ∧
  (∀ p q, ft_in C p → ft_in C q → N p = N q → p = q) ∧
  (∀ p c, ft_in C p → c < 4 → qc (N p * 4 + c) = nI (if 0 < C (c :: p) then N (c :: p) else 0)) ∧
  (∀ n, 1 ≤ n → n < 80 → (∃ p, ft_in C p ∧ N p = n) ∨ qb n = 0)
def ft_up (f : List Nat → Nat) (q : List Nat) (v : Nat) : List Nat → Nat := fun x => if x = q then v else f x
theorem ft_up_s {f : List Nat → Nat} {q : List Nat} {v : Nat} : ft_up f q v q = v := if_pos rfl
theorem ft_up_n {f : List Nat → Nat} {q x : List Nat} {v : Nat} (h : x ≠ q) : ft_up f q v x = f x := if_neg h
section
variable {C C' N : List Nat → Nat} {qb qc qp ql qe qo qc' : Nat → Int32} {c v n0 : Nat} {p : List Nat}
theorem ft_T_cg (h : ∀ c p, C' (c :: p) = C (c :: p)) (T : ft_T C N qb qc qp ql qe qo) : ft_T C' N qb qc qp ql qe qo := by
  have hin : ∀ p, ft_in C' p ↔ ft_in C p := by
    intro p
    cases p with
    | nil => exact ⟨fun _ => ft_in_nil C, fun _ => ft_in_nil C'⟩
    | cons c t => exact ⟨fun z => Or.inr (h c t ▸ ft_in_c z), fun z => Or.inr ((h c t).symm ▸ ft_in_c z)⟩
  obtain ⟨T1, T2, T3, T4, T5, T6⟩ := T
  refine ⟨T1, fun p hp => T2 p ((hin p).mp hp), fun c p hp => ?_, fun p q hp hq => T4 p q ((hin p).mp hp) ((hin q).mp hq), fun p c hp hc => ?_, fun n h1 h2 => ?_⟩
  · rw [h] at hp ⊢; exact T3 c p hp
  · rw [h]; exact T5 p c ((hin p).mp hp) hc
  · rcases T6 n h1 h2 with ⟨x, hx, e⟩ | e
    · exact Or.inl ⟨x, (hin x).mpr hx, e⟩
    · exact Or.inr e
/-- the count of one node in the tree -/
theorem ft_T_set (T : ft_T C N qb qc qp ql qe qo) (h0 : 0 < C (c :: p)) (hv : 0 < v) : ft_T (ft_up C (c :: p) v) N (upd qb (N (c :: p)) (nI v)) qc qp ql qe qo := by
  have hpos : ∀ x, 0 < ft_up C (c :: p) v x ↔ 0 < C x := by
    intro x
    by_cases e : x = c :: p
    · rw [e, ft_up_s]; exact ⟨fun _ => h0, fun _ => hv⟩
    · rw [ft_up_n e]
  have hin : ∀ x, ft_in (ft_up C (c :: p) v) x ↔ ft_in C x := by
    intro x
    unfold ft_in
    rw [hpos]
  obtain ⟨T1, T2, T3, T4, T5, T6⟩ := T
  refine ⟨T1, fun x hx => T2 x ((hin x).mp hx), fun d x hx => ?_, fun x y hx hy => T4 x y ((hin x).mp hx) ((hin y).mp hy), fun x d hx hd => ?_, fun n h1 h2 => ?_⟩
  · have hx' := (hpos _).mp hx
    have h3 := T3 d x hx'
    refine ⟨h3.1, ?_, h3.2.2⟩
    by_cases e : d :: x = c :: p
    · rw [e, pk_us, ft_up_s]
    · rw [pk_un (fun z => e (T4 _ _ (Or.inr hx') (Or.inr h0) z)), ft_up_n e]
      exact h3.2.1
  · have h5 := T5 x d ((hin x).mp hx) hd
    rw [h5]
    by_cases e : 0 < C (d :: x)
    · rw [if_pos e, if_pos ((hpos _).mpr e)]
    · rw [if_neg e, if_neg (fun z => e ((hpos _).mp z))]
  · by_cases e : n = N (c :: p)
    · exact Or.inl ⟨_, (hin _).mpr (Or.inr h0), e.symm⟩
    · rcases T6 n h1 h2 with ⟨x, hx, e'⟩ | e'
      · exact Or.inl ⟨x, (hin x).mpr hx, e'⟩
      · exact Or.inr (by rw [pk_un e]; exact e')
/-- a node leaves the tree -/
theorem ft_T_del (T : ft_T C N qb qc qp ql qe qo) (hC : ft_Cg C) (h0 : 0 < C (c :: p)) : ft_T (ft_up C (c :: p) 0) N (upd qb (N (c :: p)) 0) (upd qc (N p * 4 + c) 0) qp ql qe qo := by
  have hin : ∀ x, ft_in (ft_up C (c :: p) 0) x ↔ ft_in C x ∧ x ≠ c :: p := by
    intro x
    unfold ft_in
    by_cases e : x = c :: p
    · rw [e, ft_up_s]
      constructor
      · rintro (z | z)
        · cases z
        · omega
      · exact fun z => absurd rfl z.2
    · rw [ft_up_n e]
      exact ⟨fun z => ⟨z, e⟩, fun z => z.1⟩
  obtain ⟨T1, T2, T3, T4, T5, T6⟩ := T
  have hp := hC c p h0
  refine ⟨T1, fun x hx => T2 x ((hin x).mp hx).1, fun d x hx => ?_, fun x y hx hy => T4 x y ((hin x).mp hx).1 ((hin y).mp hy).1, fun x d hx hd => ?_, fun n h1 h2 => ?_⟩
  · have e := ((hin _).mp (Or.inr hx)).2
    rw [ft_up_n e] at hx ⊢
    have h3 := T3 d x hx
    refine ⟨h3.1, ?_, h3.2.2⟩
    rw [pk_un (fun z => e (T4 _ _ (Or.inr hx) (Or.inr h0) z))]
    exact h3.2.1
  · have hx' := ((hin x).mp hx).1
    by_cases e : d :: x = c :: p
    · obtain ⟨e1, e2⟩ := List.cons.inj e
      rw [e, e1, e2, pk_us, ft_up_s, if_neg (by omega)]
      rfl
    · rw [ft_up_n e, pk_un]
      · exact T5 x d hx' hd
      · intro z
        have hc := hp.2.2.1
        have e1 : N x = N p := by omega
        have e2 : d = c := by omega
        exact e (by rw [T4 _ _ hx' hp.1 e1, e2])
  · by_cases e : n = N (c :: p)
    · exact Or.inr (by rw [e, pk_us])
    · rcases T6 n h1 h2 with ⟨x, hx, e'⟩ | e'
      · refine Or.inl ⟨x, (hin x).mpr ⟨hx, ?_⟩, e'⟩
        intro z
        rw [z] at e'
        exact e e'.symm
      · exact Or.inr (by rw [pk_un e]; exact e')
theorem ft_T_fresh (T : ft_T C N qb qc qp ql qe qo) (hC : ft_Cg C) (h1 : 1 ≤ n0) (hb : qb n0 = 0) : ∀ x, ft_in C x → N x ≠ n0 := by
  intro x hx z
  cases x with
  | nil => rw [T.1] at z; omega
  | cons d y =>
    have h2 := ft_in_c hx
    have h3 := (T.2.2.1 d y h2).2.1
    have h4 := (hC d y h2).2.2.2
    rw [z, hb] at h3
    exact nI_ne0 h2 (by omega) h3.symm
/-- a new node -/
theorem ft_T_new (T : ft_T C N qb qc qp ql qe qo) (hC : ft_Cg C) (hp : ft_in C p) (hc : c < 4) (h0 : C (c :: p) = 0) (h1 : 1 ≤ n0) (h2 : n0 < 80) (hb : qb n0 = 0)
    (g1 : ∀ i, i < 4 → qc' (n0 * 4 + i) = 0) (g2 : ∀ j, j < n0 * 4 ∨ n0 * 4 + 4 ≤ j → qc' j = upd qc (N p * 4 + c) (nI n0) j) :
    ft_T (ft_up C (c :: p) 1) (ft_up N (c :: p) n0) (upd qb n0 (nI 1)) qc' (upd qp n0 (nI (N p))) (upd ql n0 (nI c)) (upd qe n0 (nI (p.length + 1))) (upd qo n0 (nI (ft_co (c :: p)))) := by
  have hf := ft_T_fresh T hC h1 hb
  have hq : ¬ ft_in C (c :: p) := fun z => by have := ft_in_c z; omega
  have hne : ∀ x, ft_in C x → x ≠ c :: p := fun x hx z => hq (z ▸ hx)
  have hin : ∀ x, ft_in (ft_up C (c :: p) 1) x ↔ ft_in C x ∨ x = c :: p := by
    intro x
    by_cases e : x = c :: p
    · exact ⟨fun _ => Or.inr e, fun _ => Or.inr (by rw [e, ft_up_s]; omega)⟩
    · unfold ft_in
      rw [ft_up_n e]
      exact ⟨fun z => Or.inl z, fun z => z.resolve_right e⟩
  have hN : ∀ x, ft_in C x → ft_up N (c :: p) n0 x = N x := fun x hx => ft_up_n (hne x hx)
  obtain ⟨T1, T2, T3, T4, T5, T6⟩ := T
  refine ⟨by rw [hN _ (ft_in_nil C)]; exact T1, fun x hx => ?_, fun d x hx => ?_, fun x y hx hy => ?_, fun x d hx hd => ?_, fun n g3 g4 => ?_⟩
  · rcases (hin x).mp hx with h | h
    · rw [hN x h, pk_un (hf x h), pk_un (hf x h)]
      exact T2 x h
    · rw [h, ft_up_s, pk_us, pk_us]
      exact ⟨h2, rfl, rfl⟩
  · by_cases e : d :: x = c :: p
    · obtain ⟨e1, e2⟩ := List.cons.inj e
      rw [e, ft_up_s, pk_us, pk_us, pk_us, ft_up_s, e1, e2, hN p hp]
      exact ⟨h1, rfl, rfl, rfl⟩
    · rw [ft_up_n e] at hx ⊢
      have hx' : ft_in C (d :: x) := Or.inr hx
      rw [ft_up_n e, pk_un (hf _ hx'), pk_un (hf _ hx'), pk_un (hf _ hx'), hN x (hC d x hx).1]
      exact T3 d x hx
  · intro e
    rcases (hin x).mp hx with h | h <;> rcases (hin y).mp hy with h' | h'
    · rw [hN x h, hN y h'] at e
      exact T4 x y h h' e
    · rw [hN x h, h', ft_up_s] at e
      exact absurd e (hf x h)
    · rw [hN y h', h, ft_up_s] at e
      exact absurd e.symm (hf y h')
    · rw [h, h']
  · rcases (hin x).mp hx with h | h
    · have e3 := hf x h
      rw [hN x h, g2 _ (by omega)]
      by_cases e : d :: x = c :: p
      · obtain ⟨e1, e2⟩ := List.cons.inj e
        rw [e, e1, e2, pk_us, ft_up_s, ft_up_s, if_pos (by omega)]
      · rw [ft_up_n e, ft_up_n e, pk_un]
        · exact T5 x d h hd
        · intro z
          have e1 : N x = N p := by omega
          have e2 : d = c := by omega
          exact e (by rw [T4 _ _ h hp e1, e2])
    · have e : d :: x ≠ c :: p := by
        intro z
        rw [h] at z
        have := congrArg List.length z
        simp only [List.length_cons] at this
        omega
      rw [h] at e ⊢
      rw [ft_up_s, g1 d hd, ft_up_n e, if_neg]
      · rfl
      · intro z
        exact hq (hC d (c :: p) z).1
  · by_cases e : n = n0
    · exact Or.inl ⟨c :: p, (hin _).mpr (Or.inr rfl), by rw [ft_up_s, e]⟩
    · rcases T6 n g3 g4 with ⟨x, hx, e'⟩ | e'
      · exact Or.inl ⟨x, (hin x).mpr (Or.inl hx), by rw [hN x hx]; exact e'⟩
      · exact Or.inr (by rw [pk_un e]; exact e')
end
end
section
/-! the words W 0 .. W (m - 1), their weights g -/
def ft_C (m : Nat) (W : Nat → List Nat) (p : List Nat) : Nat := ft_cn (fun w => ft_sf p (W w)) m
def ft_Cq (K : List Nat → Nat) (q p : List Nat) : Nat := K p + (ft_sf p q).toNat
def ft_Wd (m : Nat) (W : Nat → List Nat) (g : Nat → Nat) : Prop :=
  m ≤ 12 ∧ (∀ w, w < m → 1 ≤ (W w).length ∧ (W w).length ≤ 6 ∧ ft_ok (W w) ∧ g w ≤ 99) ∧ (∀ v w, v < m → w < m → W v = W w → v = w)
def ft_wu {α : Type} (W : Nat → α) (j : Nat) (q : α) : Nat → α := fun w => if w = j then q else W w
theorem ft_wu_s {α : Type} {W : Nat → α} {j : Nat} {q : α} : ft_wu W j q j = q := if_pos rfl
theorem ft_wu_n {α : Type} {W : Nat → α} {j w : Nat} {q : α} (h : w ≠ j) : ft_wu W j q w = W w := if_neg h
section
variable {m : Nat} {W : Nat → List Nat} {g : Nat → Nat} {p q : List Nat} {w c : Nat}
theorem ft_C_ex (h : 0 < ft_C m W p) : ∃ w, w < m ∧ ft_sf p (W w) = true := ft_cn_ex h
theorem ft_C_pos (hw : w < m) (h : ft_sf p (W w) = true) : 0 < ft_C m W p := ft_cn_pos (P := fun w => ft_sf p (W w)) hw h
theorem ft_C_nil : ft_C m W [] = m := ft_cn_all fun w _ => ft_sf_nil (W w)
theorem ft_C_Cg (hW : ft_Wd m W g) : ft_Cg (ft_C m W) := by
  intro c p h
  obtain ⟨w, hw, hs⟩ := ft_C_ex h
  have h1 := hW.2.1 w hw
  have h2 := ft_sf_len hs
  simp only [List.length_cons] at h2
  exact ⟨Or.inr (ft_C_pos hw (ft_sf_tl hs)), by omega, (ft_ok_sf h1.2.2.1 hs).1, Nat.le_trans (ft_cn_le _ _) hW.1⟩
theorem ft_Cq_Cg (hW : ft_Wd m W g) (hm : m ≤ 11) (ho : ft_ok q) (hl : q.length ≤ 6) : ft_Cg (ft_Cq (ft_C m W) q) := by
  intro c p h
  unfold ft_Cq at h
  have hb := ft_tN (ft_sf (c :: p) q)
  have hle : ft_C m W (c :: p) ≤ m := ft_cn_le _ _
  have h12 : ft_Cq (ft_C m W) q (c :: p) ≤ 12 := by unfold ft_Cq; omega
  cases hs : ft_sf (c :: p) q with
  | true =>
    have h2 := ft_sf_len hs
    simp only [List.length_cons] at h2
    exact ⟨Or.inr (by unfold ft_Cq; rw [ft_sf_tl hs, Bool.toNat_true]; omega), by omega, (ft_ok_sf ho hs).1, h12⟩
  | false =>
    rw [hs, Bool.toNat_false] at h
    have h1 := ft_C_Cg hW c p (by omega)
    refine ⟨?_, h1.2.1, h1.2.2.1, h12⟩
    rcases h1.1 with e | e
    · exact Or.inl e
    · exact Or.inr (by unfold ft_Cq; omega)
theorem ft_sf_ne {x : List Nat} (h : x ≠ c :: p) : ft_sf x (c :: p) = ft_sf x p := by
  show (decide (x = c :: p) || ft_sf x p) = _
  rw [decide_eq_false h, Bool.false_or]
theorem ft_Cq_c (K : List Nat → Nat) (c : Nat) (p : List Nat) : ft_Cq K (c :: p) = ft_up (ft_Cq K p) (c :: p) (K (c :: p) + 1) := by
  funext x
  by_cases e : x = c :: p
  · rw [e, ft_up_s]; unfold ft_Cq; rw [ft_sf_refl]; rfl
  · rw [ft_up_n e]; unfold ft_Cq; rw [ft_sf_ne e]
theorem ft_Cq_d (K : List Nat → Nat) (c : Nat) (p : List Nat) : ft_Cq K p = ft_up (ft_Cq K (c :: p)) (c :: p) (K (c :: p)) := by
  funext x
  by_cases e : x = c :: p
  · rw [e, ft_up_s]; unfold ft_Cq; rw [ft_sf_no]; rfl
  · rw [ft_up_n e]; unfold ft_Cq; rw [ft_sf_ne e]
theorem ft_Cq_n (K : List Nat → Nat) (c : Nat) (p : List Nat) : ft_Cq K [] (c :: p) = K (c :: p) := by
  unfold ft_Cq
  have h : ft_sf (c :: p) [] = false := by simp [ft_sf]
  rw [h]
  rfl
theorem ft_Cq_v (K : List Nat → Nat) (c : Nat) (p : List Nat) : ft_Cq K p (c :: p) = K (c :: p) := by
  unfold ft_Cq; rw [ft_sf_no]; rfl
theorem ft_Cq_w (K : List Nat → Nat) (p : List Nat) : ft_Cq K p p = K p + 1 := by
  unfold ft_Cq; rw [ft_sf_refl]; rfl
theorem ft_C_add (m : Nat) (W : Nat → List Nat) (q : List Nat) : ft_C (m + 1) (ft_wu W m q) = ft_Cq (ft_C m W) q := by
  funext p
  show ft_cn _ m + (ft_sf p (ft_wu W m q m)).toNat = _
  rw [ft_wu_s]
  unfold ft_Cq ft_C
  rw [ft_cn_cg (P := fun w => ft_sf p (ft_wu W m q w)) (P' := fun w => ft_sf p (W w)) fun w hw => by rw [ft_wu_n (by omega)]]
theorem ft_C_rem (m : Nat) (W : Nat → List Nat) (j : Nat) (hj : j ≤ m) : ft_C (m + 1) W = ft_Cq (ft_C m (ft_wu W j (W m))) (W j) := by
  funext p
  show ft_cn (fun w => ft_sf p (W w)) m + (ft_sf p (W m)).toNat = ft_cn (fun w => ft_sf p (ft_wu W j (W m) w)) m + (ft_sf p (W j)).toNat
  by_cases e : j = m
  · rw [e, ft_cn_cg (P := fun w => ft_sf p (ft_wu W m (W m) w)) (P' := fun w => ft_sf p (W w)) fun w hw => by rw [ft_wu_n (by omega)]]
  · have h := ft_cn_up (P := fun w => ft_sf p (W w)) (P' := fun w => ft_sf p (ft_wu W j (W m) w)) (m := m) (j := j) (by omega) (fun w hw hn => by rw [ft_wu_n hn])
    simp only [ft_wu_s] at h
    omega
/-- eleven words and a twelfth leave a node free -/
theorem ft_free {N : List Nat → Nat} {qb qc qp ql qe qo : Nat → Int32} (T : ft_T (ft_Cq (ft_C m W) q) N qb qc qp ql qe qo) (hW : ft_Wd m W g) (hm : m ≤ 11) (hl : q.length ≤ 6) : ∃ n0, 1 ≤ n0 ∧ n0 < 80 ∧ qb n0 = 0 := by
  by_cases h : ∃ n0, 1 ≤ n0 ∧ n0 < 80 ∧ qb n0 = 0
  · exact h
  · exfalso
    have h1 : 79 ≤ 72 := ft_cover (g := fun r => N (ft_tk (if r / 6 < m then W (r / 6) else q) (r % 6 + 1)) - 1) (fun x hx => by
      rcases T.2.2.2.2.2 (x + 1) (by omega) (by omega) with ⟨y, hy, e⟩ | e
      · cases y with
        | nil => rw [T.1] at e; omega
        | cons d y =>
          have h2 := ft_in_c hy
          have h3 : ∃ w, w < 12 ∧ ft_sf (d :: y) (if w < m then W w else q) = true := by
            unfold ft_Cq at h2
            cases hs : ft_sf (d :: y) q with
            | true => exact ⟨m, by omega, by rw [if_neg (by omega)]; exact hs⟩
            | false =>
              rw [hs, Bool.toNat_false] at h2
              obtain ⟨w, hw, hs'⟩ := ft_C_ex (m := m) (W := W) (p := d :: y) (by omega)
              exact ⟨w, by omega, by rw [if_pos hw]; exact hs'⟩
          obtain ⟨w, hw, hs⟩ := h3
          have h4 : (if w < m then W w else q).length ≤ 6 := by
            by_cases hw' : w < m
            · rw [if_pos hw']; exact (hW.2.1 w hw').2.1
            · rw [if_neg hw']; exact hl
          have h5 := ft_sf_len hs
          simp only [List.length_cons] at h5
          have e1 : (w * 6 + y.length) / 6 = w := by omega
          have e2 : (w * 6 + y.length) % 6 = y.length := by omega
          refine ⟨w * 6 + y.length, by omega, ?_⟩
          show N (ft_tk (if (w * 6 + y.length) / 6 < m then W ((w * 6 + y.length) / 6) else q) ((w * 6 + y.length) % 6 + 1)) - 1 = x
          have e3 := ft_sf_tk hs
          simp only [List.length_cons] at e3
          rw [e1, e2, e3, e]
          omega
      · exact absurd ⟨x + 1, by omega, by omega, e⟩ h)
    omega
end
/-! the ranks -/
def ft_hk (Q : List Nat) (W : Nat → List Nat) (g : Nat → Nat) (w : Nat) : Nat := ft_rc Q (W w) * 100 + (99 - g w)
def ft_bf (Q : List Nat) (W : Nat → List Nat) (g : Nat → Nat) (v w : Nat) : Prop := ft_hk Q W g v < ft_hk Q W g w ∨ (ft_hk Q W g v = ft_hk Q W g w ∧ ft_kk (W v) < ft_kk (W w))
/-- of the words in l, σ 0 .. σ (k - 1) are those that are offered, ranked -/
def ft_R (L m : Nat) (Q : List Nat) (W : Nat → List Nat) (g : Nat → Nat) (l : List (List Nat)) (k : Nat) (σ : Nat → Nat) : Prop :=
  (∀ r, r < k → σ r < m ∧ ft_rc Q (W (σ r)) ≤ L ∧ W (σ r) ∈ l) ∧
  (∀ r s, r < s → s < k → ft_bf Q W g (σ r) (σ s)) ∧
  (∀ w, w < m → W w ∈ l → ft_rc Q (W w) ≤ L → ∃ r, r < k ∧ σ r = w)
section
variable {L m k : Nat} {Q p : List Nat} {W : Nat → List Nat} {g : Nat → Nat} {l : List (List Nat)} {σ : Nat → Nat} {w0 e : Nat}
theorem ft_bf_no (v : Nat) : ¬ ft_bf Q W g v v := by unfold ft_bf; omega
theorem ft_bf_as {v w : Nat} (h : ft_bf Q W g v w) : ¬ ft_bf Q W g w v := by unfold ft_bf at *; omega
theorem ft_R_inj (R : ft_R L m Q W g l k σ) : ∀ r s, r < k → s < k → σ r = σ s → r = s := by
  intro r s hr hs e
  rcases Nat.lt_trichotomy r s with h | h | h
  · have := R.2.1 r s h hs; rw [e] at this; exact absurd this (ft_bf_no _)
  · exact h
  · have := R.2.1 s r h hr; rw [e] at this; exact absurd this (ft_bf_no _)
theorem ft_R_le (R : ft_R L m Q W g l k σ) : k ≤ m := ft_ph (fun r hr => (R.1 r hr).1) (ft_R_inj R)
theorem ft_R_room (R : ft_R L m Q W g l k σ) (hw : w0 < m) (hn : W w0 ∉ l) : k + 1 ≤ m := by
  have hne : ∀ r, r < k → σ r ≠ w0 := fun r hr z => hn (z ▸ (R.1 r hr).2.2)
  refine ft_ph (f := fun r => if r < k then σ r else w0) ?_ ?_
  · intro r hr
    show (if r < k then σ r else w0) < m
    split
    · rename_i h; exact (R.1 r h).1
    · exact hw
  · intro r s hr hs e
    by_cases h1 : r < k <;> by_cases h2 : s < k
    · rw [if_pos h1, if_pos h2] at e; exact ft_R_inj R r s h1 h2 e
    · rw [if_pos h1, if_neg h2] at e; exact absurd e (hne r h1)
    · rw [if_neg h1, if_pos h2] at e; exact absurd e.symm (hne s h2)
    · omega
theorem ft_R_nil : ft_R L m Q W g [] 0 σ := ⟨fun r h => absurd h (by omega), fun r s _ h => absurd h (by omega), fun w _ h => absurd h List.not_mem_nil⟩
theorem ft_R_skip (R : ft_R L m Q W g l k σ) (hn : ∀ w, w < m → W w = p → ¬ ft_rc Q (W w) ≤ L) : ft_R L m Q W g (l ++ [p]) k σ := by
  refine ⟨fun r hr => ⟨(R.1 r hr).1, (R.1 r hr).2.1, List.mem_append.mpr (Or.inl (R.1 r hr).2.2)⟩, R.2.1, fun w hw hl hr => ?_⟩
  rcases List.mem_append.mp hl with h | h
  · exact R.2.2 w hw h hr
  · exact absurd hr (hn w hw (List.mem_singleton.mp h))
def ft_is (σ : Nat → Nat) (e w0 i : Nat) : Nat := if i < e then σ i else if i = e then w0 else σ (i - 1)
theorem ft_is_lo {i : Nat} (h : i < e) : ft_is σ e w0 i = σ i := if_pos h
theorem ft_is_at : ft_is σ e w0 e = w0 := by unfold ft_is; rw [if_neg (by omega), if_pos rfl]
theorem ft_is_hi {i : Nat} (h : e ≤ i) : ft_is σ e w0 (i + 1) = σ i := by unfold ft_is; rw [if_neg (by omega), if_neg (by omega)]; rfl
theorem ft_is_c {i : Nat} : (i < e ∧ ft_is σ e w0 i = σ i) ∨ (i = e ∧ ft_is σ e w0 i = w0) ∨ (e < i ∧ ft_is σ e w0 i = σ (i - 1)) := by
  rcases Nat.lt_trichotomy i e with h | h | h
  · exact Or.inl ⟨h, ft_is_lo h⟩
  · exact Or.inr (Or.inl ⟨h, by rw [h]; exact ft_is_at⟩)
  · refine Or.inr (Or.inr ⟨h, ?_⟩)
    obtain ⟨j, rfl⟩ : ∃ j, i = j + 1 := ⟨i - 1, by omega⟩
    exact ft_is_hi (by omega)
theorem ft_R_ins (R : ft_R L m Q W g l k σ) (hW : ∀ v w, v < m → w < m → W v = W w → v = w) (hw : w0 < m) (hr : ft_rc Q (W w0) ≤ L) (hl : ∀ x, x ∈ l → ft_kk x < ft_kk (W w0)) (he : e ≤ k)
    (h1 : ∀ i, e ≤ i → i < k → ft_hk Q W g w0 < ft_hk Q W g (σ i)) (h2 : e = 0 ∨ ft_hk Q W g (σ (e - 1)) ≤ ft_hk Q W g w0) : ft_R L m Q W g (l ++ [W w0]) (k + 1) (ft_is σ e w0) := by
  have hlo : ∀ r, r < e → ft_bf Q W g (σ r) w0 := by
    intro r hre
    have a1 : ft_hk Q W g (σ r) ≤ ft_hk Q W g (σ (e - 1)) := by
      by_cases z : r = e - 1
      · rw [z]; exact Nat.le_refl _
      · have := R.2.1 r (e - 1) (by omega) (by omega)
        unfold ft_bf at this
        omega
    have a2 := hl _ (R.1 r (by omega)).2.2
    have a3 : ft_hk Q W g (σ (e - 1)) ≤ ft_hk Q W g w0 := h2.resolve_left (by omega)
    unfold ft_bf
    omega
  refine ⟨fun r hrk => ?_, fun r s hrs hs => ?_, fun w hwm hwl hwr => ?_⟩
  · rcases ft_is_c (σ := σ) (e := e) (w0 := w0) (i := r) with ⟨a, b⟩ | ⟨a, b⟩ | ⟨a, b⟩
    · rw [b]
      have z := R.1 r (by omega)
      exact ⟨z.1, z.2.1, List.mem_append.mpr (Or.inl z.2.2)⟩
    · rw [b]
      exact ⟨hw, hr, List.mem_append.mpr (Or.inr (List.mem_singleton.mpr rfl))⟩
    · rw [b]
      have z := R.1 (r - 1) (by omega)
      exact ⟨z.1, z.2.1, List.mem_append.mpr (Or.inl z.2.2)⟩
  · rcases ft_is_c (σ := σ) (e := e) (w0 := w0) (i := r) with ⟨a, b⟩ | ⟨a, b⟩ | ⟨a, b⟩ <;> rcases ft_is_c (σ := σ) (e := e) (w0 := w0) (i := s) with ⟨a', b'⟩ | ⟨a', b'⟩ | ⟨a', b'⟩ <;> rw [b, b']
    · exact R.2.1 r s hrs (by omega)
    · exact hlo r a
    · exact R.2.1 r (s - 1) (by omega) (by omega)
    · omega
    · omega
    · exact Or.inl (h1 (s - 1) (by omega) (by omega))
    · omega
    · omega
    · exact R.2.1 (r - 1) (s - 1) (by omega) (by omega)
  · rcases List.mem_append.mp hwl with h | h
    · obtain ⟨r, hrk, e1⟩ := R.2.2 w hwm h hwr
      by_cases z : r < e
      · exact ⟨r, by omega, by rw [ft_is_lo z]; exact e1⟩
      · exact ⟨r + 1, by omega, by rw [ft_is_hi (by omega)]; exact e1⟩
    · have := hW w w0 hwm hw (List.mem_singleton.mp h)
      exact ⟨e, by omega, by rw [ft_is_at]; exact this.symm⟩
/-- the number of the words that rank before the r-th -/
theorem ft_R_cn {P : Nat → Bool} (R : ft_R L m Q W g l k σ) (hall : ∀ w, w < m → W w ∈ l) {r : Nat} (hr : r < k) (hP : ∀ v, v < m → (P v = true ↔ ft_rc Q (W v) ≤ L ∧ ft_bf Q W g v (σ r))) : ft_cn P m = r := by
  refine ft_cn_of (f := σ) (fun s hs => (R.1 s (by omega)).1) (fun s t hs ht => ft_R_inj R s t (by omega) (by omega)) (fun w hw => ?_)
  rw [hP w hw]
  constructor
  · rintro ⟨a, b⟩
    obtain ⟨s, hs, e⟩ := R.2.2 w hw (hall w hw) a
    refine ⟨s, ?_, e⟩
    rcases Nat.lt_trichotomy s r with h | h | h
    · exact h
    · rw [← e, h] at b; exact absurd b (ft_bf_no _)
    · rw [← e] at b; exact absurd (R.2.1 r s h hs) (ft_bf_as b)
  · rintro ⟨s, hs, e⟩
    rw [← e]
    exact ⟨(R.1 s (by omega)).2.1, R.2.1 s r hs hr⟩
theorem ft_R_all {P : Nat → Bool} (R : ft_R L m Q W g l k σ) (hall : ∀ w, w < m → W w ∈ l) (hP : ∀ v, v < m → (P v = true ↔ ft_rc Q (W v) ≤ L)) : ft_cn P m = k := by
  refine ft_cn_of (f := σ) (fun s hs => (R.1 s hs).1) (ft_R_inj R) (fun w hw => ?_)
  rw [hP w hw]
  exact ⟨fun a => R.2.2 w hw (hall w hw) a, fun ⟨s, hs, e⟩ => e ▸ (R.1 s hs).2.1⟩
end
end
section
/-! numbers -/
theorem ft_m4 (a c : Nat) : nI a * 4 + nI c = nI (a * 4 + c) := by
  rw [show (4 : Int32) = nI 4 from rfl, pk_mul, nI_add]
theorem ft_m80 (a : Nat) : nI a * 80 = nI (a * 80) := by
  rw [show (80 : Int32) = nI 80 from rfl, pk_mul]
theorem ft_a80 (a : Nat) : nI a + 80 = nI (a + 80) := by
  rw [show (80 : Int32) = nI 80 from rfl, nI_add]
theorem ft_n10 : ¬ (1 : Int32) = 0 := by decide
theorem ft_ge80 {j : Nat} (h : j < 80) : ¬ (80 : Int32) ≤ nI j := nI_ge (b := 80) h (by decide)
/-! the layers -/
section
variable {xl xd xt xw xc : Int32} {qd qq qb qc qp ql qe qo qw qn qk qr qs qh : Nat → Int32}
variable {C N : List Nat → Nat} {L : Nat}
theorem ft_T_node {j : Nat} (T : ft_T C N qb qc qp ql qe qo) (hj : j < 80) (h : j = 0 ∨ ¬ qb j ≤ 0) : ∃ p, ft_in C p ∧ N p = j := by
  by_cases e : j = 0
  · exact ⟨[], ft_in_nil C, by rw [e]; exact T.1⟩
  · rcases T.2.2.2.2.2 j (by omega) hj with h1 | h1
    · exact h1
    · refine absurd ?_ (h.resolve_left e)
      rw [h1]
      decide
theorem ft_T_not {j : Nat} (T : ft_T C N qb qc qp ql qe qo) (hC : ft_Cg C) (h0 : j ≠ 0) (h : qb j ≤ 0) : ∀ p, ft_in C p → N p ≠ j := by
  intro p hp e
  cases p with
  | nil => exact h0 (by rw [← e]; exact T.1)
  | cons d y =>
    have h2 := ft_in_c hp
    have h3 := (T.2.2.1 d y h2).2.1
    have h4 := (hC d y h2).2.2.2
    rw [e] at h3
    rw [h3] at h
    exact nI_nle h2 (by omega) h
theorem ft_x_inTree {post : Int32 → Prop} {n : Nat} (hn : n < 80) (h1 : (n = 0 ∨ ¬ qb n ≤ 0) → post 1) (h0 : n ≠ 0 → qb n ≤ 0 → post 0) : wpX_inTree post (xl, xd, xt, xw, xc, qd, qq, qb, qc, qp, ql, qe, qo, qw, qn, qk, qr, qs, qh) (nI n) := by
  show (nI n = 0 → post 1) ∧ (¬ nI n = 0 → (vp_in (nI n) 80 ∧ ((qb (nI n).toNatClampNeg ≤ 0 → post 0) ∧ (¬ qb (nI n).toNatClampNeg ≤ 0 → post 1))))
  rw [nI_clamp (by omega)]
  exact pk_eq n 0 (fun e => h1 (Or.inl e)) (fun e => ⟨vp_in_nI hn (by omega), fun z => h0 e z, fun z => h1 (Or.inr z)⟩)
theorem ft_x_cap {post : Int32 → Prop} {d : Nat} (hL : L ≤ 3) (hd : d < 2 ^ 31) (h : post (nI (ft_cap L d))) : wpX_capped post (nI L, xd, xt, xw, xc, qd, qq, qb, qc, qp, ql, qe, qo, qw, qn, qk, qr, qs, qh) (nI d) := by
  show (nI d ≤ nI L → post (nI d)) ∧ (¬ nI d ≤ nI L → post (nI L + 1))
  rw [nI_1]
  unfold ft_cap at h
  exact pk_le d L (fun z => by rw [if_pos z] at h; exact h) (fun z => by rw [if_neg (by omega)] at h; exact h)
theorem ft_x_first2 {post : SX → Prop} (hL : L ≤ 3) (T : ft_T C N qb qc qp ql qe qo) (hC : ft_Cg C)
    (h : ∀ qn', (∀ p, ft_in C p → qn' (N p) = nI (ft_cap L p.length)) → post (nI L, xd, xt, xw, xc, qd, qq, qb, qc, qp, ql, qe, qo, qw, qn', qk, qr, qs, qh)) :
    ∀ (e j : Nat) (qn' : Nat → Int32), j + e = 80 → (∀ p, ft_in C p → N p < j → qn' (N p) = nI (ft_cap L p.length)) → ∀ n, e < n → wX_firstLayer_2 post (nI L) xd xt xw xc n (nI j) qd qq qb qc qp ql qe qo qw qn' qk qr qs qh := by
  intro e
  induction e with
  | zero =>
    intro j qn' hj hI n hn
    obtain ⟨n, rfl⟩ : ∃ n', n = n' + 1 := ⟨n - 1, by omega⟩
    have hj' : j = 80 := by omega
    subst hj'
    exact br_t (nI_le (Nat.le_refl 80) (by decide)) (h qn' fun p hp => hI p hp (T.2.1 p hp).1)
  | succ e ih =>
    intro j qn' hj hI n hn
    obtain ⟨n, rfl⟩ : ∃ n', n = n' + 1 := ⟨n - 1, by omega⟩
    have hc : (nI j).toNatClampNeg = j := nI_clamp (by omega)
    refine br_f (ft_ge80 (by omega)) (ft_x_inTree (by omega) (fun hin => ?_) (fun h1 h2 => ?_))
    · obtain ⟨p, hp, ep⟩ := ft_T_node T (by omega) hin
      have hd := (T.2.1 p hp).2.1
      have hl := (ft_in_ok hC hp).2
      rw [ep] at hd
      refine br_f ft_n10 ⟨vp_in_nI (by omega) (by omega), ?_⟩
      rw [hc, hd]
      refine ft_x_cap hL (by omega) ⟨vp_in_nI (by omega) (by omega), nm_e (nm_r (nI_1 j) (ih (j + 1) _ (by omega) ?_ n (by omega)))⟩
      intro q hq hqj
      by_cases z : N q = j
      · have : q = p := T.2.2.2.1 q p hq hp (by omega)
        rw [z, pk_us, this]
      · rw [pk_un z]
        exact hI q hq (by omega)
    · refine br_t rfl ⟨vp_in_nI (by omega) (by omega), nm_e (nm_r (nI_1 j) (ih (j + 1) _ (by omega) ?_ n (by omega)))⟩
      intro q hq hqj
      have z := ft_T_not T hC h1 h2 q hq
      rw [hc, pk_un z]
      exact hI q hq (by omega)
theorem ft_x_first {post : SX → Prop} (hL : L ≤ 3) (T : ft_T C N qb qc qp ql qe qo) (hC : ft_Cg C)
    (h : ∀ qn', (∀ p, ft_in C p → qn' (N p) = nI (ft_cap L p.length)) → post (nI L, xd, xt, xw, xc, qd, qq, qb, qc, qp, ql, qe, qo, qw, qn', qk, qr, qs, qh)) : wpX_firstLayer post (nI L, xd, xt, xw, xc, qd, qq, qb, qc, qp, ql, qe, qo, qw, qn, qk, qr, qs, qh) :=
  ⟨81, ft_x_first2 hL T hC h 80 0 qn rfl (fun p _ hj => absurd hj (by omega)) 81 (by omega)⟩
theorem ft_x_s79 {post : Int32 → Prop} {x z : Nat} (hL : L ≤ 3) (hx : x < 100) (hz : z < 100) (h : post (nI (ft_cap L (min x z)))) : wX_step_79 post (nI x) (nI z) (nI L) xd xt xw xc qd qq qb qc qp ql qe qo qw qn qk qr qs qh := by
  refine pk_le z x (fun e => ?_) (fun e => ?_)
  · show wpX_capped (fun r => post r) (nI L, xd, xt, xw, xc, qd, qq, qb, qc, qp, ql, qe, qo, qw, qn, qk, qr, qs, qh) (nI z)
    exact ft_x_cap hL (by omega) (by rw [Nat.min_eq_right e] at h; exact h)
  · show wpX_capped (fun r => post r) (nI L, xd, xt, xw, xc, qd, qq, qb, qc, qp, ql, qe, qo, qw, qn, qk, qr, qs, qh) (nI x)
    exact ft_x_cap hL (by omega) (by rw [Nat.min_eq_left (by omega)] at h; exact h)
theorem ft_x_s49 {post : Int32 → Prop} {a y e t n v : Nat} (hL : L ≤ 3) (ha : a < 50) (hy : y < 20) (he : e < 2) (ht : t + n < 560) (hv : qn (t + n) = nI v) (hv5 : v < 50)
    (h : post (nI (ft_cap L (min (v + 1) (min (y + e) a))))) : wX_step_49 post (nI t) (nI a) (nI n) (nI e) (nI y) (nI L) xd xt xw xc qd qq qb qc qp ql qe qo qw qn qk qr qs qh := by
  refine nm_r (nI_add y e) ?_
  rw [nI_add t n]
  refine ⟨vp_in_nI ht (by omega), ?_⟩
  rw [nI_clamp (by omega), hv]
  refine nm_r (nI_1 v) (pk_le a (y + e) (fun z => ?_) (fun z => ?_))
  · exact ft_x_s79 hL (by omega) (by omega) (by rw [show min (y + e) a = a from Nat.min_eq_right z] at h; exact h)
  · exact ft_x_s79 hL (by omega) (by omega) (by rw [show min (y + e) a = y + e from Nat.min_eq_left (by omega)] at h; exact h)
theorem ft_x_step {post : Int32 → Prop} {fr t a : Nat} {s p : List Nat} (hL : L ≤ 3) (T : ft_T C N qb qc qp ql qe qo) (hC : ft_Cg C) (hp : ft_in C p) (hf : fr + 80 ≤ 560) (ht : t + 80 ≤ 560) (ha : a < 4)
    (hfr : ∀ p, ft_in C p → qn (fr + N p) = nI (ft_cap L (ft_ed s p))) (hto : ∀ c y, p = c :: y → qn (t + N y) = nI (ft_cap L (ft_ed (a :: s) y)))
    (h : post (nI (ft_cap L (ft_ed (a :: s) p)))) : wpX_step post (nI L, xd, xt, xw, xc, qd, qq, qb, qc, qp, ql, qe, qo, qw, qn, qk, qr, qs, qh) (nI (N p)) (nI fr) (nI t) (nI a) := by
  have hn := (T.2.1 p hp).1
  have hA := ft_cap_le L (ft_ed s p)
  unfold wpX_step
  dsimp only
  rw [nI_add fr (N p)]
  refine ⟨vp_in_nI (by omega) (by omega), ?_⟩
  rw [nI_clamp (n := fr + N p) (by omega), hfr p hp]
  refine nm_r (nI_1 _) ?_
  cases p with
  | nil =>
    refine pk_eq (N []) 0 (fun e => ?_) (fun e => absurd T.1 e)
    show wpX_capped (fun r => post r) (nI L, xd, xt, xw, xc, qd, qq, qb, qc, qp, ql, qe, qo, qw, qn, qk, qr, qs, qh) (nI (ft_cap L (ft_ed s []) + 1))
    exact ft_x_cap hL (by omega) (by rw [ft_cap_st0]; exact h)
  | cons c y =>
    have h0 := ft_in_c hp
    have h3 := T.2.2.1 c y h0
    have hy := (hC c y h0).1
    have hc := (hC c y h0).2.2.1
    have hny := (T.2.1 y hy).1
    have hY := ft_cap_le L (ft_ed s y)
    have hM := ft_cap_le L (ft_ed (a :: s) y)
    have hst : ∀ e, e ≤ 1 → e = (if c = a then 0 else 1) → ft_cap L (min (ft_cap L (ft_ed (a :: s) y) + 1) (min (ft_cap L (ft_ed s y) + e) (ft_cap L (ft_ed s (c :: y)) + 1))) = ft_cap L (ft_ed (a :: s) (c :: y)) := by
      intro e he ee
      rw [ft_cap_st L _ _ _ e he, ee]
      rfl
    refine pk_eq (N (c :: y)) 0 (fun e => absurd e (by omega)) (fun e => ⟨vp_in_nI hn (by omega), ?_⟩)
    rw [nI_clamp (n := N (c :: y)) (by omega), h3.2.2.1]
    refine nm_e ?_
    rw [nI_add fr (N y)]
    refine ⟨vp_in_nI (by omega) (by omega), vp_in_nI hn (by omega), ?_⟩
    rw [nI_clamp (n := fr + N y) (by omega), hfr y hy, h3.2.2.2]
    refine pk_eq c a (fun e => ?_) (fun e => ?_)
    · exact ft_x_s49 (e := 0) hL (by omega) (by omega) (by omega) (by omega) (hto c y rfl) (by omega) (by rw [hst 0 (by omega) (by rw [if_pos e])]; exact h)
    · exact ft_x_s49 (e := 1) hL (by omega) (by omega) (by omega) (by omega) (hto c y rfl) (by omega) (by rw [hst 1 (by omega) (by rw [if_neg e])]; exact h)
/-- the layer at t, filled for the nodes less deep than d and for those as deep as d below j -/
def ft_nl (C N : List Nat → Nat) (L a : Nat) (s : List Nat) (qn : Nat → Int32) (t d j : Nat) (qn' : Nat → Int32) : Prop :=
  (∀ i, i < t → qn' i = qn i) ∧ ∀ p, ft_in C p → (p.length < d ∨ (p.length = d ∧ N p < j)) → qn' (t + N p) = nI (ft_cap L (ft_ed (a :: s) p))
theorem ft_x_nl23 {post : SX → Prop} {J : Int32 → (Nat → Int32) → (Nat → Int32) → (Nat → Int32) → (Nat → Int32) → (Nat → Int32) → (Nat → Int32) → (Nat → Int32) → (Nat → Int32) → (Nat → Int32) → (Nat → Int32) → (Nat → Int32) → (Nat → Int32) → (Nat → Int32) → (Nat → Int32) → Prop}
    {n0 fr a d : Nat} {s : List Nat} (hL : L ≤ 3) (T : ft_T C N qb qc qp ql qe qo) (hC : ft_Cg C) (hn0 : n0 < 6) (hfr0 : fr = n0 * 80) (ha : a < 4) (hq : qq n0 = nI a) (hd : d ≤ 6)
    (hfr : ∀ p, ft_in C p → qn (fr + N p) = nI (ft_cap L (ft_ed s p)))
    (hJ : ∀ qn', ft_nl C N L a s qn (fr + 80) (d + 1) 0 qn' → J (nI (d + 1)) qd qq qb qc qp ql qe qo qw qn' qk qr qs qh) :
    ∀ (e j : Nat) (qn' : Nat → Int32), j + e = 80 → ft_nl C N L a s qn (fr + 80) d j qn' → ∀ n, e < n → wX_nextLayer_23 post J (nI n0) (nI fr) (nI (fr + 80)) (nI d) (nI L) xd xt xw xc n (nI j) qd qq qb qc qp ql qe qo qw qn' qk qr qs qh := by
  intro e
  induction e with
  | zero =>
    intro j qn' hj hI n hn
    obtain ⟨n, rfl⟩ : ∃ n', n = n' + 1 := ⟨n - 1, by omega⟩
    have hj' : j = 80 := by omega
    subst hj'
    refine br_t (nI_le (Nat.le_refl 80) (by decide)) (nm_r (nI_1 d) (hJ qn' ⟨hI.1, fun p hp h => hI.2 p hp ?_⟩))
    have := (T.2.1 p hp).1
    omega
  | succ e ih =>
    intro j qn' hj hI n hn
    obtain ⟨n, rfl⟩ : ∃ n', n = n' + 1 := ⟨n - 1, by omega⟩
    have hc : (nI j).toNatClampNeg = j := nI_clamp (by omega)
    refine br_f (ft_ge80 (by omega)) (ft_x_inTree (by omega) (fun hin => ?_) (fun h1 h2 => ?_))
    · obtain ⟨p, hp, ep⟩ := ft_T_node T (by omega) hin
      have hde := (T.2.1 p hp).2.1
      have hl := (ft_in_ok hC hp).2
      have hinj : ∀ q, ft_in C q → N q = j → q = p := fun q hq z => T.2.2.2.1 q p hq hp (by omega)
      rw [ep] at hde
      refine br_f ft_n10 ⟨vp_in_nI (by omega) (by omega), ?_⟩
      rw [hc, hde]
      refine pk_eq p.length d (fun z => ?_) (fun z => ?_)
      · refine ⟨vp_in_nI hn0 (by omega), ?_⟩
        rw [nI_clamp (n := n0) (by omega), hq]
        have hj2 : nI j = nI (N p) := by rw [ep]
        have key : ∀ post' : Int32 → Prop, post' (nI (ft_cap L (ft_ed (a :: s) p))) → wpX_step post' (nI L, xd, xt, xw, xc, qd, qq, qb, qc, qp, ql, qe, qo, qw, qn', qk, qr, qs, qh) (nI j) (nI fr) (nI (fr + 80)) (nI a) := by
          intro post' hp'
          rw [hj2]
          refine ft_x_step (s := s) hL T hC hp (by omega) (by omega) ha (fun q hq' => ?_) (fun c y ey => ?_) hp'
          · have := (T.2.1 q hq').1
            rw [hI.1 _ (by omega)]
            exact hfr q hq'
          · have hy : ft_in C y := by rw [ey] at hp; exact (hC c y (ft_in_c hp)).1
            have hly : y.length + 1 = d := by rw [← z, ey]; rfl
            exact hI.2 y hy (Or.inl (by omega))
        refine key _ ?_
        rw [nI_add (fr + 80) j]
        refine ⟨vp_in_nI (by omega) (by omega), ?_⟩
        rw [nI_clamp (n := fr + 80 + j) (by omega)]
        refine nm_e (nm_r (nI_1 j) (ih (j + 1) _ (by omega) ⟨fun i hi => ?_, fun q hq' h => ?_⟩ n (by omega)))
        · rw [pk_un (by omega)]
          exact hI.1 i hi
        · by_cases zq : N q = j
          · rw [zq, pk_us, hinj q hq' zq]
          · rw [pk_un (by omega)]
            exact hI.2 q hq' (by omega)
      · refine nm_r (nI_1 j) (ih (j + 1) _ (by omega) ⟨hI.1, fun q hq' h => hI.2 q hq' ?_⟩ n (by omega))
        by_cases zq : N q = j
        · have := hinj q hq' zq
          rw [this] at h ⊢
          omega
        · omega
    · refine br_t rfl (nm_r (nI_1 j) (ih (j + 1) _ (by omega) ⟨hI.1, fun q hq' h => hI.2 q hq' ?_⟩ n (by omega)))
      have := ft_T_not T hC h1 h2 q hq'
      omega
theorem ft_x_nl13 {post : SX → Prop} {n0 fr a : Nat} {s : List Nat} (hL : L ≤ 3) (T : ft_T C N qb qc qp ql qe qo) (hC : ft_Cg C) (hn0 : n0 < 6) (hfr0 : fr = n0 * 80) (ha : a < 4) (hq : qq n0 = nI a)
    (hfr : ∀ p, ft_in C p → qn (fr + N p) = nI (ft_cap L (ft_ed s p)))
    (h : ∀ qn', (∀ i, i < fr + 80 → qn' i = qn i) → (∀ p, ft_in C p → qn' (fr + 80 + N p) = nI (ft_cap L (ft_ed (a :: s) p))) → post (nI L, xd, xt, xw, xc, qd, qq, qb, qc, qp, ql, qe, qo, qw, qn', qk, qr, qs, qh)) :
    ∀ (e d : Nat) (qn' : Nat → Int32), d + e = 7 → ft_nl C N L a s qn (fr + 80) d 0 qn' → ∀ n, e < n → wX_nextLayer_13 post (nI n0) (nI fr) (nI (fr + 80)) (nI L) xd xt xw xc n (nI d) qd qq qb qc qp ql qe qo qw qn' qk qr qs qh := by
  intro e
  induction e with
  | zero =>
    intro d qn' hd hI n hn
    obtain ⟨n, rfl⟩ : ∃ n', n = n' + 1 := ⟨n - 1, by omega⟩
    have hd' : d = 7 := by omega
    subst hd'
    refine br_t (nI_lt (a := 6) (by omega) (by decide)) (h qn' hI.1 fun p hp => hI.2 p hp (Or.inl ?_))
    have := (ft_in_ok hC hp).2
    omega
  | succ e ih =>
    intro d qn' hd hI n hn
    obtain ⟨n, rfl⟩ : ∃ n', n = n' + 1 := ⟨n - 1, by omega⟩
    refine br_f (nI_nlt (a := 6) (by omega) (by omega)) ⟨81, ?_⟩
    exact ft_x_nl23 hL T hC hn0 hfr0 ha hq (by omega) hfr (fun qn'' hI' => ih (d + 1) qn'' (by omega) hI' n (by omega)) 80 0 qn' rfl hI 81 (by omega)
theorem ft_x_next {post : SX → Prop} {n0 a : Nat} {s : List Nat} (hL : L ≤ 3) (T : ft_T C N qb qc qp ql qe qo) (hC : ft_Cg C) (hn0 : n0 < 6) (ha : a < 4) (hq : qq n0 = nI a)
    (hfr : ∀ p, ft_in C p → qn (n0 * 80 + N p) = nI (ft_cap L (ft_ed s p)))
    (h : ∀ qn', (∀ i, i < n0 * 80 + 80 → qn' i = qn i) → (∀ p, ft_in C p → qn' (n0 * 80 + 80 + N p) = nI (ft_cap L (ft_ed (a :: s) p))) → post (nI L, xd, xt, xw, xc, qd, qq, qb, qc, qp, ql, qe, qo, qw, qn', qk, qr, qs, qh)) :
    wpX_nextLayer post (nI L, xd, xt, xw, xc, qd, qq, qb, qc, qp, ql, qe, qo, qw, qn, qk, qr, qs, qh) (nI n0) :=
  nm_r (ft_m80 n0) (nm_r (ft_a80 _) ⟨8, ft_x_nl13 hL T hC hn0 rfl ha hq hfr h 7 0 qn rfl ⟨fun _ _ => rfl, fun p _ h => absurd h (by omega)⟩ 8 (by omega)⟩)
end
end
section
/-! ranking -/
def ft_Rk (Q : List Nat) (W : Nat → List Nat) (N : List Nat → Nat) (k : Nat) (σ : Nat → Nat) (qk qr : Nat → Int32) : Prop :=
  ∀ i, i < k → qk i = nI (N (W (σ i))) ∧ qr i = nI (ft_rc Q (W (σ i)))
/-- the weights in the tree: of the words; no other node has one -/
def ft_Wt (m : Nat) (W : Nat → List Nat) (g : Nat → Nat) (C N : List Nat → Nat) (qw : Nat → Int32) : Prop :=
  (∀ w, w < m → ft_in C (W w) ∧ qw (N (W w)) = nI (g w)) ∧ ∀ p, ft_in C p → (∀ w, w < m → W w ≠ p) → qw (N p) = -4
theorem ft_neg : nI 0 + (-1) < 0 := by decide
section
variable {xl xd xt xw xc : Int32} {qd qq qb qc qp ql qe qo qw qn qk qr qs qh : Nat → Int32}
variable {C N : List Nat → Nat} {L m k : Nat} {Q : List Nat} {W : Nat → List Nat} {g : Nat → Nat} {σ : Nat → Nat}
theorem ft_x_before {post : Int32 → Prop} {d wt r d' nd g' : Nat} (hr : r < 12) (h1 : qr r = nI d') (h2 : qk r = nI nd) (hnd : nd < 80) (h3 : qw nd = nI g') (hd : d < 100) (hd' : d' < 100) (hw : wt ≤ 99) (hg : g' ≤ 99)
    (hT : d * 100 + (99 - wt) < d' * 100 + (99 - g') → post 1) (hF : d' * 100 + (99 - g') ≤ d * 100 + (99 - wt) → post 0) : wpX_before post (xl, xd, xt, xw, xc, qd, qq, qb, qc, qp, ql, qe, qo, qw, qn, qk, qr, qs, qh) (nI d) (nI wt) (nI r) := by
  unfold wpX_before
  dsimp only
  rw [nI_clamp (n := r) (by omega), h1, h2, nI_clamp (n := nd) (by omega), h3]
  exact ⟨vp_in_nI hr (by omega), pk_eq d d' (fun e => ⟨vp_in_nI hr (by omega), vp_in_nI hnd (by omega), pk_le wt g' (fun z => hF (by omega)) (fun z => hT (by omega))⟩) (fun e => ⟨vp_in_nI hr (by omega), pk_le d' d (fun z => hF (by omega)) (fun z => hT (by omega))⟩)⟩
def ft_Sh (k e : Nat) (a a' : Nat → Int32) : Prop := (∀ i, i < e → a' i = a i) ∧ ∀ i, e ≤ i → i < k → a' (i + 1) = a i
theorem ft_Sh_s {e : Nat} {a a' : Nat → Int32} (h : ft_Sh k (e + 1) a a') (hk : e < k) : ft_Sh k e a (upd a' (e + 1) (a' e)) := by
  refine ⟨fun i hi => by rw [pk_un (by omega)]; exact h.1 i (by omega), fun i h1 h2 => ?_⟩
  by_cases z : i = e
  · rw [z, pk_us]; exact h.1 e (by omega)
  · rw [pk_un (by omega)]; exact h.2 i (by omega) h2
theorem ft_Sh_is {e w0 : Nat} {a a' : Nat → Int32} {f : Nat → Int32} (h : ft_Sh k e a a') (hf : ∀ i, i < k → a i = f (σ i)) (he : e ≤ k) : ∀ i, i < k + 1 → upd a' e (f w0) i = f (ft_is σ e w0 i) := by
  intro i hi
  rcases ft_is_c (σ := σ) (e := e) (w0 := w0) (i := i) with ⟨x, y⟩ | ⟨x, y⟩ | ⟨x, y⟩
  · rw [y, pk_un (by omega), h.1 i x]; exact hf i (by omega)
  · rw [y, x, pk_us]
  · rw [y, pk_un (by omega)]
    obtain ⟨j, rfl⟩ : ∃ j, i = j + 1 := ⟨i - 1, by omega⟩
    rw [h.2 j (by omega) (by omega)]
    exact hf j (by omega)
theorem ft_x_i87 {post : SX → Prop} {w0 e : Nat} {qk' qr' : Nat → Int32} (hk : k + 1 ≤ 12) (hR : ft_Rk Q W N k σ qk qr) (he : e ≤ k) (s1 : ft_Sh k e qk qk') (s2 : ft_Sh k e qr qr')
    (h : ∀ qk' qr', ft_Rk Q W N (k + 1) (ft_is σ e w0) qk' qr' → post (xl, xd, xt, xw, nI (k + 1), qd, qq, qb, qc, qp, ql, qe, qo, qw, qn, qk', qr', qs, qh)) :
    wX_insert_87 post (nI (N (W w0))) (nI (ft_rc Q (W w0))) (nI e) xl xd xt xw (nI k) qd qq qb qc qp ql qe qo qw qn qk' qr' qs qh := by
  unfold wX_insert_87
  rw [nI_clamp (n := e) (by omega)]
  refine ⟨vp_in_nI (by omega) (by omega), nm_e ⟨vp_in_nI (by omega) (by omega), nm_e (nm_r (nI_1 k) (h _ _ fun i hi => ⟨?_, ?_⟩))⟩⟩
  · exact ft_Sh_is (f := fun w => nI (N (W w))) s1 (fun i hi => (hR i hi).1) he i hi
  · exact ft_Sh_is (f := fun w => nI (ft_rc Q (W w))) s2 (fun i hi => (hR i hi).2) he i hi
theorem ft_x_i16 {post : SX → Prop} {w0 : Nat} (hk : k + 1 ≤ 12) (hR : ft_Rk Q W N k σ qk qr) (hQ : Q.length ≤ 6)
    (hn : ∀ w, w < m → N (W w) < 80 ∧ qw (N (W w)) = nI (g w) ∧ g w ≤ 99) (hw : w0 < m) (hs : ∀ i, i < k → σ i < m)
    (h : ∀ e qk' qr', e ≤ k → (∀ i, e ≤ i → i < k → ft_hk Q W g w0 < ft_hk Q W g (σ i)) → (e = 0 ∨ ft_hk Q W g (σ (e - 1)) ≤ ft_hk Q W g w0) → ft_Rk Q W N (k + 1) (ft_is σ e w0) qk' qr' → post (xl, xd, xt, xw, nI (k + 1), qd, qq, qb, qc, qp, ql, qe, qo, qw, qn, qk', qr', qs, qh)) :
    ∀ (e : Nat) (qk' qr' : Nat → Int32), e ≤ k → (∀ i, e ≤ i → i < k → ft_hk Q W g w0 < ft_hk Q W g (σ i)) → ft_Sh k e qk qk' → ft_Sh k e qr qr' → ∀ n, e + 1 < n →
      wX_insert_16 post (nI (N (W w0))) (nI (ft_rc Q (W w0))) xl xd xt xw (nI k) n (nI e) 1 (nI e + (-1)) qd qq qb qc qp ql qe qo qw qn qk' qr' qs qh := by
  intro e
  induction e with
  | zero =>
    intro qk' qr' he hh s1 s2 n hnn
    obtain ⟨n, rfl⟩ : ∃ n', n = n' + 1 := ⟨n - 1, by omega⟩
    exact br_t ft_neg (ft_x_i87 hk hR he s1 s2 fun a b hab => h 0 a b he hh (Or.inl rfl) hab)
  | succ e ih =>
    intro qk' qr' he hh s1 s2 n hnn
    obtain ⟨n, rfl⟩ : ∃ n', n = n' + 1 + 1 := ⟨n - 2, by omega⟩
    rw [pk_m1]
    have hw0 := hn w0 hw
    have hse := hn (σ e) (hs e (by omega))
    have r0 := ft_rc_le Q (W w0)
    have r1 := ft_rc_le Q (W (σ e))
    have hRe := hR e (by omega)
    refine br_f (nI_pos (by omega)) (br_f ft_n10 ⟨vp_in_nI hw0.1 (by omega), ?_⟩)
    rw [nI_clamp (n := N (W w0)) (by omega), hw0.2.1]
    refine ft_x_before (d' := ft_rc Q (W (σ e))) (nd := N (W (σ e))) (g' := g (σ e)) (by omega) (by rw [s2.1 e (by omega)]; exact hRe.2) (by rw [s1.1 e (by omega)]; exact hRe.1) hse.1 hse.2.1 (by omega) (by omega) hw0.2.2 hse.2.2 (fun z => ?_) (fun z => ?_)
    · refine br_f ft_n10 ?_
      rw [nI_1 e, nI_clamp (n := e) (by omega), nI_clamp (n := e + 1) (by omega)]
      refine ⟨vp_in_nI (by omega) (by omega), vp_in_nI (by omega) (by omega), nm_e ⟨vp_in_nI (by omega) (by omega), vp_in_nI (by omega) (by omega), nm_e (nm_e ?_)⟩⟩
      refine ih _ _ (by omega) (fun i h1 h2 => ?_) (ft_Sh_s s1 (by omega)) (ft_Sh_s s2 (by omega)) (n + 1) (by omega)
      by_cases zi : i = e
      · rw [zi]; exact z
      · exact hh i (by omega) h2
    · refine br_t rfl (nm_e ?_)
      have hx := ft_x_i87 (post := post) (w0 := w0) (xl := xl) (xd := xd) (xt := xt) (xw := xw) (qd := qd) (qq := qq) (qb := qb) (qc := qc) (qp := qp) (ql := ql) (qe := qe) (qo := qo) (qw := qw) (qn := qn) (qs := qs) (qh := qh) hk hR he s1 s2 fun a b hab => h (e + 1) a b he hh (Or.inr z) hab
      exact br_c (fun _ => hx) (fun _ => br_t rfl hx)
theorem ft_x_insert {post : SX → Prop} {w0 : Nat} (hk : k + 1 ≤ 12) (hR : ft_Rk Q W N k σ qk qr) (hQ : Q.length ≤ 6)
    (hn : ∀ w, w < m → N (W w) < 80 ∧ qw (N (W w)) = nI (g w) ∧ g w ≤ 99) (hw : w0 < m) (hs : ∀ i, i < k → σ i < m)
    (h : ∀ e qk' qr', e ≤ k → (∀ i, e ≤ i → i < k → ft_hk Q W g w0 < ft_hk Q W g (σ i)) → (e = 0 ∨ ft_hk Q W g (σ (e - 1)) ≤ ft_hk Q W g w0) → ft_Rk Q W N (k + 1) (ft_is σ e w0) qk' qr' → post (xl, xd, xt, xw, nI (k + 1), qd, qq, qb, qc, qp, ql, qe, qo, qw, qn, qk', qr', qs, qh)) :
    wpX_insert post (xl, xd, xt, xw, nI k, qd, qq, qb, qc, qp, ql, qe, qo, qw, qn, qk, qr, qs, qh) (nI (N (W w0))) (nI (ft_rc Q (W w0))) :=
  nm_r (Int32.sub_eq_add_neg _ _) ⟨k + 2, ft_x_i16 hk hR hQ hn hw hs h k qk qr (Nat.le_refl _) (fun i h1 h2 => absurd h1 (by omega)) ⟨fun _ _ => rfl, fun i h1 h2 => absurd h1 (by omega)⟩ ⟨fun _ _ => rfl, fun i h1 h2 => absurd h1 (by omega)⟩ (k + 2) (by omega)⟩
/-! the walk through the tree -/
def ft_St (N : List Nat → Nat) (qs : Nat → Int32) : List (List Nat) → Prop
  | [] => True
  | p :: st => qs st.length = nI (N p) ∧ ft_St N qs st
theorem ft_St_out {qs : Nat → Int32} {j : Nat} {v : Int32} : ∀ {st : List (List Nat)}, ft_St N qs st → st.length ≤ j → ft_St N (upd qs j v) st := by
  intro st
  induction st with
  | nil => intro _ _; trivial
  | cons p st ih =>
    intro h hj
    simp only [List.length_cons] at hj
    exact ⟨by rw [pk_un (by omega)]; exact h.1, ih h.2 (by omega)⟩
def ft_SI (C N : List Nat → Nat) (L : Nat) (Q : List Nat) (st : List (List Nat)) (qs qh : Nat → Int32) : Prop :=
  (∀ q, q ∈ st → ft_in C q ∧ qh (N q) = nI (ft_cap L (ft_rc Q q))) ∧ ft_St N qs st
theorem ft_x_r102 {post : SX → Prop} {J : Int32 → Int32 → Int32 → Int32 → Int32 → Int32 → Int32 → (Nat → Int32) → (Nat → Int32) → (Nat → Int32) → (Nat → Int32) → (Nat → Int32) → (Nat → Int32) → (Nat → Int32) → (Nat → Int32) → (Nat → Int32) → (Nat → Int32) → (Nat → Int32) → (Nat → Int32) → (Nat → Int32) → (Nat → Int32) → Prop}
    {x3 : Int32} {p : List Nat} {st : List (List Nat)} {c n lay : Nat} (hL : L ≤ 3) (T : ft_T C N qb qc qp ql qe qo) (hp : ft_in C p) (hc : c < 4) (hlay : lay + 80 ≤ 560) (hst : (ft_kd C p c st).length ≤ 80)
    (hnr : ∀ p, ft_in C p → qn (lay + N p) = nI (ft_cap L (ft_ed Q p))) (S : ft_SI C N L Q st qs qh) (hh : qh (N p) = nI (ft_cap L (ft_rc Q p)))
    (h : ∀ qs' qh', ft_SI C N L Q (ft_kd C p c st) qs' qh' → qh' (N p) = nI (ft_cap L (ft_rc Q p)) → wX_rank_102 post J (nI lay) x3 (nI (N p)) (nI L) xd xt xw xc n (nI (ft_kd C p c st).length) (nI c + (-1)) qd qq qb qc qp ql qe qo qw qn qk qr qs' qh') :
    wX_rank_102 post J (nI lay) x3 (nI (N p)) (nI L) xd xt xw xc (n + 1) (nI st.length) (nI c) qd qq qb qc qp ql qe qo qw qn qk qr qs qh := by
  have hnp := (T.2.1 p hp).1
  have h5 := T.2.2.2.2.1 p c hp hc
  refine br_f (nI_pos (by omega)) ?_
  rw [ft_m4, nI_clamp (n := N p * 4 + c) (by omega), h5]
  refine ⟨vp_in_nI (by omega) (by omega), nm_e ?_⟩
  unfold ft_kd at h hst
  by_cases h0 : 0 < C (c :: p)
  · rw [if_pos h0] at h hst ⊢
    simp only [List.length_cons] at hst
    have hcp : ft_in C (c :: p) := Or.inr h0
    have hq := (T.2.1 _ hcp).1
    have h3 := T.2.2.1 c p h0
    have b1 := ft_cap_le L (ft_rc Q p)
    have b2 := ft_cap_le L (ft_ed Q (c :: p))
    have hpc : N p ≠ N (c :: p) := fun z => by
      have := congrArg List.length (T.2.2.2.1 _ _ hp hcp z)
      simp only [List.length_cons] at this
      omega
    refine br_f (nI_ne0 (by omega) (by omega)) ?_
    rw [nI_add, nI_clamp (n := lay + N (c :: p)) (by omega), hnr _ hcp, nI_clamp (n := N p) (by omega), hh]
    refine ⟨vp_in_nI (by omega) (by omega), nm_e ⟨vp_in_nI hnp (by omega), ?_⟩⟩
    have key : ∀ v, v = nI (ft_cap L (ft_rc Q (c :: p))) → wX_rank_167 post J (wX_rank_102 post J (nI lay) x3 (nI (N p)) (nI L) xd xt xw xc n) (nI lay) (nI st.length) x3 (nI (N p)) (nI c) (nI (N (c :: p))) v (nI (N (c :: p))) (nI L) xd xt xw xc qd qq qb qc qp ql qe qo qw qn qk qr qs qh := by
      intro v hv
      unfold wX_rank_167
      rw [nI_clamp (n := N (c :: p)) (by omega), nI_clamp (n := st.length) (by omega)]
      refine ⟨vp_in_nI hq (by omega), nm_e ⟨vp_in_nI (by omega) (by omega), nm_e (nm_r (nI_1 _) (nm_e (h _ _ ⟨?_, ?_, ?_⟩ ?_)))⟩⟩
      · intro q hq'
        rcases List.mem_cons.mp hq' with e | e
        · rw [e, pk_us]; exact ⟨hcp, hv⟩
        · have z := S.1 q e
          refine ⟨z.1, ?_⟩
          by_cases e1 : N q = N (c :: p)
          · rw [e1, pk_us, T.2.2.2.1 _ _ z.1 hcp e1]; exact hv
          · rw [pk_un e1]; exact z.2
      · exact pk_us
      · exact ft_St_out S.2 (Nat.le_refl _)
      · rw [pk_un hpc]; exact hh
    have e0 : ft_cap L (ft_rc Q (c :: p)) = min (ft_cap L (ft_ed Q (c :: p))) (ft_cap L (ft_rc Q p)) := ft_cap_min _ _ _
    refine pk_le (ft_cap L (ft_rc Q p)) (ft_cap L (ft_ed Q (c :: p))) (fun z => ⟨vp_in_nI hnp (by omega), key _ ?_⟩) (fun z => key _ ?_)
    · rw [e0, Nat.min_eq_right z]
    · rw [e0, Nat.min_eq_left (by omega)]
  · rw [if_neg h0] at h ⊢
    exact br_t rfl (nm_e (h qs qh S hh))
theorem ft_kd_ge (C : List Nat → Nat) (p : List Nat) (c : Nat) (st : List (List Nat)) : st.length ≤ (ft_kd C p c st).length := by
  unfold ft_kd
  split
  · simp only [List.length_cons]; omega
  · exact Nat.le_refl _
/-- the four children -/
theorem ft_x_kids {post : SX → Prop} {J : Int32 → Int32 → Int32 → Int32 → Int32 → Int32 → Int32 → (Nat → Int32) → (Nat → Int32) → (Nat → Int32) → (Nat → Int32) → (Nat → Int32) → (Nat → Int32) → (Nat → Int32) → (Nat → Int32) → (Nat → Int32) → (Nat → Int32) → (Nat → Int32) → (Nat → Int32) → (Nat → Int32) → (Nat → Int32) → Prop}
    {p : List Nat} {st : List (List Nat)} {lay rd : Nat} (hL : L ≤ 3) (T : ft_T C N qb qc qp ql qe qo) (hp : ft_in C p) (hlay : lay + 80 ≤ 560) (hst : (ft_kds C p st).length ≤ 80)
    (hnr : ∀ p, ft_in C p → qn (lay + N p) = nI (ft_cap L (ft_ed Q p))) (S : ft_SI C N L Q st qs qh) (hh : qh (N p) = nI (ft_cap L (ft_rc Q p)))
    (h : ∀ qs' qh', ft_SI C N L Q (ft_kds C p st) qs' qh' → J (nI (ft_kds C p st).length) (nI (rd + 1)) (nI L) xd xt xw xc qd qq qb qc qp ql qe qo qw qn qk qr qs' qh') :
    wX_rank_102 post J (nI lay) (nI rd) (nI (N p)) (nI L) xd xt xw xc 5 (nI st.length) 3 qd qq qb qc qp ql qe qo qw qn qk qr qs qh := by
  unfold ft_kds at hst
  have l2 := ft_kd_ge C p 2 (ft_kd C p 3 st)
  have l1 := ft_kd_ge C p 1 (ft_kd C p 2 (ft_kd C p 3 st))
  have l0 := ft_kd_ge C p 0 (ft_kd C p 1 (ft_kd C p 2 (ft_kd C p 3 st)))
  refine ft_x_r102 (c := 3) hL T hp (by omega) hlay (by omega) hnr S hh (fun qs3 qh3 S3 hh3 => ?_)
  refine ft_x_r102 (c := 2) hL T hp (by omega) hlay (by omega) hnr S3 hh3 (fun qs2 qh2 S2 hh2 => ?_)
  refine ft_x_r102 (c := 1) hL T hp (by omega) hlay (by omega) hnr S2 hh2 (fun qs1 qh1 S1 hh1 => ?_)
  refine ft_x_r102 (c := 0) hL T hp (by omega) hlay (by omega) hnr S1 hh1 (fun qs0 qh0 S0 hh0 => ?_)
  exact br_t ft_neg (nm_r (nI_1 rd) (h qs0 qh0 S0))
theorem ft_x_r36 {post : SX → Prop} {PRE : List (List Nat)} {lay : Nat} (hL : L ≤ 3) (T : ft_T C N qb qc qp ql qe qo) (hC : ft_Cg C) (hW : ft_Wd m W g) (hWt : ft_Wt m W g C N qw) (hQ : Q.length ≤ 6) (hlay : lay + 80 ≤ 560)
    (hnr : ∀ p, ft_in C p → qn (lay + N p) = nI (ft_cap L (ft_ed Q p))) (hP : PRE.length ≤ 80) (hS : PRE.Pairwise fun a b => ft_kk a < ft_kk b)
    (h : ∀ k σ qk' qr' qs' qh', ft_R L m Q W g PRE k σ → ft_Rk Q W N k σ qk' qr' → post (nI L, xd, xt, xw, nI k, qd, qq, qb, qc, qp, ql, qe, qo, qw, qn, qk', qr', qs', qh')) :
    ∀ (e : Nat) (l st : List (List Nat)) (k : Nat) (σ : Nat → Nat) (qk' qr' qs' qh' : Nat → Int32), (ft_pa C st).length = e → l ++ ft_pa C st = PRE → ft_R L m Q W g l k σ → ft_Rk Q W N k σ qk' qr' → ft_SI C N L Q st qs' qh' →
      ∀ n, e < n → wX_rank_36 post (nI lay) n (nI st.length) (nI l.length) (nI L) xd xt xw (nI k) qd qq qb qc qp ql qe qo qw qn qk' qr' qs' qh' := by
  intro e
  induction e with
  | zero =>
    intro l st k σ qk' qr' qs' qh' he hl hR hRk S n hn
    obtain ⟨n, rfl⟩ : ∃ n', n = n' + 1 := ⟨n - 1, by omega⟩
    have h0 := ft_pa_len C st
    have h1 : st = [] := List.length_eq_zero_iff.mp (by omega)
    subst h1
    have h2 : l = PRE := by rw [← hl]; exact (List.append_nil l).symm
    subst h2
    have hp := h k σ qk' qr' qs' qh' hR hRk
    exact br_c (fun _ => hp) (fun _ => br_t (nI_le (a := 0) (b := 0) (by omega) (by omega)) hp)
  | succ e ih =>
    intro l st k σ qk' qr' qs' qh' he hl hR hRk S n hn
    obtain ⟨n, rfl⟩ : ∃ n', n = n' + 1 := ⟨n - 1, by omega⟩
    cases st with
    | nil => simp only [ft_pa, List.length_nil] at he; omega
    | cons p st =>
      have hp := (S.1 p (List.mem_cons_self ..)).1
      have hhp := (S.1 p (List.mem_cons_self ..)).2
      have hpa := ft_pa_s hC hp st
      rw [hpa] at he hl
      simp only [List.length_cons] at he
      have hl' : (l ++ [p]) ++ ft_pa C (ft_kds C p st) = PRE := by rw [List.append_assoc]; exact hl
      have hlen := congrArg List.length hl
      simp only [List.length_append, List.length_cons] at hlen
      have hkl := ft_pa_len C (ft_kds C p st)
      have hkl2 : st.length ≤ (ft_pa C st).length := ft_pa_len C st
      have hst : st.length ≤ (ft_kds C p st).length := by
        unfold ft_kds
        have l3 := ft_kd_ge C p 3 st
        have l2 := ft_kd_ge C p 2 (ft_kd C p 3 st)
        have l1 := ft_kd_ge C p 1 (ft_kd C p 2 (ft_kd C p 3 st))
        have l0 := ft_kd_ge C p 0 (ft_kd C p 1 (ft_kd C p 2 (ft_kd C p 3 st)))
        omega
      have hnp := (T.2.1 p hp).1
      have hsrt : ∀ x, x ∈ l → ft_kk x < ft_kk p := by
        rw [← hl] at hS
        intro x hx
        exact (List.pairwise_append.mp hS).2.2 x hx p (List.mem_cons_self ..)
      have hb := ft_cap_le L (ft_rc Q p)
      have S' : ft_SI C N L Q st qs' qh' := ⟨fun q hq => S.1 q (List.mem_cons_of_mem _ hq), S.2.2⟩
      have cont : ∀ (k : Nat) (σ : Nat → Nat) (qk' qr' : Nat → Int32), ft_R L m Q W g (l ++ [p]) k σ → ft_Rk Q W N k σ qk' qr' →
          ∃ n102, wX_rank_102 post (wX_rank_36 post (nI lay) n) (nI lay) (nI l.length) (nI (N p)) (nI L) xd xt xw (nI k) n102 (nI st.length) 3 qd qq qb qc qp ql qe qo qw qn qk' qr' qs' qh' := by
        intro k σ qk' qr' hR' hRk'
        refine ⟨5, ft_x_kids hL T hp hlay (by omega) hnr S' hhp (fun qs2 qh2 S2 => ?_)⟩
        have z := ih (l ++ [p]) (ft_kds C p st) k σ qk' qr' qs2 qh2 (by omega) hl' hR' hRk' S2 n (by omega)
        rw [List.length_append] at z
        exact z
      rw [List.length_cons]
      refine br_f (ft_ge80 (by omega)) (br_f (nI_nle (by omega) (by omega)) (nm_r (pk_m1 st.length) ⟨vp_in_nI (by omega) (by omega), ?_⟩))
      rw [nI_clamp (n := st.length) (by omega), S.2.1]
      refine nm_e ⟨vp_in_nI hnp (by omega), ?_⟩
      rw [nI_clamp (n := N p) (by omega)]
      by_cases hw : ∃ w, w < m ∧ W w = p
      · obtain ⟨w0, hw0, e0⟩ := hw
        subst e0
        have h1 := hWt.1 w0 hw0
        have h2 := hW.2.1 w0 hw0
        have hN1 : 1 ≤ N (W w0) := by
          cases hv : W w0 with
          | nil => rw [hv] at h2; simp only [List.length_nil] at h2; omega
          | cons c y => rw [hv] at hp; exact (T.2.2.1 c y (ft_in_c hp)).1
        rw [h1.2, hhp]
        refine br_f (nI_pos (by omega)) (br_f (nI_ne0 (by omega) (by omega)) ⟨vp_in_nI hnp (by omega), ?_⟩)
        refine pk_lt L (ft_cap L (ft_rc Q (W w0))) (fun z => cont k σ qk' qr' (ft_R_skip hR fun w _ ew hr => ?_) hRk) (fun z => ⟨vp_in_nI hnp (by omega), ?_⟩)
        · rw [ew] at hr
          have := ft_cap_iff.mpr hr
          omega
        · have hr := ft_cap_iff.mp z
          have hnin : W w0 ∉ l := fun z => by have := hsrt _ z; omega
          have hk := ft_R_room hR hw0 hnin
          have hm := hW.1
          rw [ft_cap_eq hr]
          refine ft_x_insert (m := m) (g := g) (w0 := w0) (by omega) hRk hQ (fun w hw => ⟨(T.2.1 _ (hWt.1 w hw).1).1, (hWt.1 w hw).2, (hW.2.1 w hw).2.2.2⟩) hw0 (fun i hi => (hR.1 i hi).1) (fun e2 qk2 qr2 g1 g2 g3 hRk2 => ?_)
          exact cont (k + 1) _ qk2 qr2 (ft_R_ins hR hW.2.2 hw0 hr hsrt g1 g2 g3) hRk2
      · rw [hWt.2 p hp fun w hw' e => hw ⟨w, hw', e⟩]
        exact br_t (by decide) (cont k σ qk' qr' (ft_R_skip hR fun w hw' e => absurd ⟨w, hw', e⟩ hw) hRk)
theorem ft_x_rank {post : SX → Prop} (hL : L ≤ 3) (T : ft_T C N qb qc qp ql qe qo) (hC : ft_Cg C) (hW : ft_Wd m W g) (hWt : ft_Wt m W g C N qw) (hQ : Q.length ≤ 6)
    (hnr : ∀ p, ft_in C p → qn (Q.length * 80 + N p) = nI (ft_cap L (ft_ed Q p)))
    (h : ∀ l k σ qk' qr' qs' qh', (∀ w, w < m → W w ∈ l) → ft_R L m Q W g l k σ → ft_Rk Q W N k σ qk' qr' → post (nI L, xd, nI Q.length, xw, nI k, qd, qq, qb, qc, qp, ql, qe, qo, qw, qn, qk', qr', qs', qh')) :
    wpX_rank post (nI L, xd, nI Q.length, xw, xc, qd, qq, qb, qc, qp, ql, qe, qo, qw, qn, qk, qr, qs, qh) := by
  have hn0 := hnr [] (ft_in_nil C)
  rw [T.1, Nat.add_zero] at hn0
  have hS := ft_pre_so hC 6 (ft_in_nil C) (Nat.le_refl _)
  have hin : ∀ x, x ∈ ft_pre C 6 [] → ft_in C x := fun x hx => (ft_pre_mem 6 (ft_in_nil C) hx).2
  have hP : (ft_pre C 6 []).length ≤ 80 := by
    refine ft_nodup N (fun x hx => (T.2.1 x (hin x hx)).1) (List.Pairwise.imp_of_mem (fun {a b} ha hb hab z => ?_) hS)
    have := T.2.2.2.1 a b (hin a ha) (hin b hb) z
    rw [this] at hab
    omega
  refine nm_r (ft_m80 _) (nm_e ⟨vp_in_nI (by omega) (by omega), ?_⟩)
  rw [nI_clamp (n := Q.length * 80) (by omega), hn0]
  refine nm_e ⟨(ft_pre C 6 []).length + 1, ?_⟩
  refine ft_x_r36 (PRE := ft_pre C 6 []) (lay := Q.length * 80) hL T hC hW hWt hQ (by omega) hnr hP hS (fun k σ a1 a2 a3 a4 g1 g2 => h _ k σ a1 a2 a3 a4 (fun w hw => ?_) g1 g2) (ft_pre C 6 []).length [] [[]] 0 (fun _ => 0) qk qr _ _ ?_ ?_ ft_R_nil (fun i hi => absurd hi (by omega)) ⟨?_, ?_, trivial⟩ _ (by omega)
  · have := hWt.1 w hw
    have h6 := (ft_in_ok hC this.1).2
    exact ft_pre_has hC this.1 6 (ft_sf_nil _) (by simp only [List.length_nil]; omega)
  · show (ft_pre C 6 [] ++ []).length = _
    rw [List.append_nil]
  · show [] ++ (ft_pre C 6 [] ++ []) = _
    rw [List.append_nil, List.nil_append]
  · intro q hq
    have e : q = [] := List.mem_singleton.mp hq
    rw [e, T.1, pk_us]
    exact ⟨ft_in_nil C, rfl⟩
  · show upd qs 0 0 0 = nI (N [])
    rw [pk_us, T.1]
    rfl
end
end
section
/-! all layers, the ways down -/
def ft_Ly (C N : List Nat → Nat) (L : Nat) (Q : List Nat) (qn : Nat → Int32) : Prop :=
  ∀ s, ft_sf s Q = true → ∀ p, ft_in C p → qn (s.length * 80 + N p) = nI (ft_cap L (ft_ed s p))
section
variable {xl xd xt xw xc : Int32} {qd qq qb qc qp ql qe qo qw qn qk qr qs qh : Nat → Int32}
variable {C N : List Nat → Nat} {L m : Nat} {D Q : List Nat} {W : Nat → List Nat} {g : Nat → Nat}
theorem ft_x_lo6 {post : SX → Prop} (hL : L ≤ 3) (T : ft_T C N qb qc qp ql qe qo) (hC : ft_Cg C) (hW : ft_Wd m W g) (hWt : ft_Wt m W g C N qw) (hQ : Q.length ≤ 6) (hA : ft_At qq 0 Q)
    (h : ∀ l k σ qn' qk' qr' qs' qh', ft_Ly C N L Q qn' → (∀ w, w < m → W w ∈ l) → ft_R L m Q W g l k σ → ft_Rk Q W N k σ qk' qr' → post (nI L, xd, nI Q.length, xw, nI k, qd, qq, qb, qc, qp, ql, qe, qo, qw, qn', qk', qr', qs', qh')) :
    ∀ (e j : Nat) (qn' : Nat → Int32), j + e = Q.length → (∀ s, ft_sf s Q = true → s.length ≤ j → ∀ p, ft_in C p → qn' (s.length * 80 + N p) = nI (ft_cap L (ft_ed s p))) →
      ∀ n, e < n → wX_layOut_6 post n (nI j) (nI L) xd (nI Q.length) xw xc qd qq qb qc qp ql qe qo qw qn' qk qr qs qh := by
  intro e
  induction e with
  | zero =>
    intro j qn' hj hI n hn
    obtain ⟨n, rfl⟩ : ∃ n', n = n' + 1 := ⟨n - 1, by omega⟩
    have hLy : ft_Ly C N L Q qn' := fun s hs p hp => hI s hs (by have := ft_sf_len hs; omega) p hp
    refine br_t (nI_le (by omega) (by omega)) ?_
    exact ft_x_rank hL T hC hW hWt hQ (hLy Q (ft_sf_refl Q)) (fun l k σ a1 a2 a3 a4 g1 g2 g3 => h l k σ qn' a1 a2 a3 a4 hLy g1 g2 g3)
  | succ e ih =>
    intro j qn' hj hI n hn
    obtain ⟨n, rfl⟩ : ∃ n', n = n' + 1 := ⟨n - 1, by omega⟩
    have hq := ft_At_lt hA (i := j) (by omega)
    rw [Nat.zero_add] at hq
    have htk := ft_tk_len (w := Q) (i := j) (by omega)
    refine br_f (nI_ge (by omega) (by omega)) ?_
    refine ft_x_next (s := ft_tk Q j) hL T hC (by omega) (ft_ok_lt (ft_At_ok hA) j) hq (fun p hp => ?_) (fun qn2 h1 h2 => ?_)
    · have := hI (ft_tk Q j) (ft_tk_sf Q j) (by omega) p hp
      rw [htk] at this
      exact this
    · refine nm_r (nI_1 j) (ih (j + 1) qn2 (by omega) (fun s hs hsl p hp => ?_) n (by omega))
      have hnp := (T.2.1 p hp).1
      by_cases z : s.length ≤ j
      · have hb : s.length * 80 ≤ j * 80 := Nat.mul_le_mul_right _ z
        rw [h1 _ (by omega)]
        exact hI s hs z p hp
      · have e1 := ft_sf_tk hs
        have e2 : s.length = j + 1 := by omega
        rw [e2, ft_tk_s (by omega)] at e1
        rw [e2, show (j + 1) * 80 + N p = j * 80 + 80 + N p by omega, h2 p hp, e1]
theorem ft_x_layOut {post : SX → Prop} (hL : L ≤ 3) (T : ft_T C N qb qc qp ql qe qo) (hC : ft_Cg C) (hW : ft_Wd m W g) (hWt : ft_Wt m W g C N qw) (hQ : Q.length ≤ 6) (hA : ft_At qq 0 Q)
    (h : ∀ l k σ qn' qk' qr' qs' qh', ft_Ly C N L Q qn' → (∀ w, w < m → W w ∈ l) → ft_R L m Q W g l k σ → ft_Rk Q W N k σ qk' qr' → post (nI L, xd, nI Q.length, xw, nI k, qd, qq, qb, qc, qp, ql, qe, qo, qw, qn', qk', qr', qs', qh')) :
    wpX_layOut post (nI L, xd, nI Q.length, xw, xc, qd, qq, qb, qc, qp, ql, qe, qo, qw, qn, qk, qr, qs, qh) := by
  unfold wpX_layOut
  dsimp only
  refine ft_x_first hL T hC (fun qn1 h1 => ?_)
  refine ⟨Q.length + 1, ft_x_lo6 hL T hC hW hWt hQ hA h Q.length 0 qn1 (by omega) (fun s hs hsl p hp => ?_) _ (by omega)⟩
  have e : s = [] := List.length_eq_zero_iff.mp (by omega)
  subst e
  rw [show ([] : List Nat).length * 80 + N p = N p by simp only [List.length_nil]; omega]
  exact h1 p hp
theorem ft_x_dn4 {post : Int32 → Prop} (T : ft_T C N qb qc qp ql qe qo) (hC : ft_Cg C) (hD : D.length ≤ 6) (hA : ft_At qd 0 D) (hin : ft_in C D → post (nI (N D))) (hout : ¬ ft_in C D → post (-1)) :
    ∀ e i : Nat, i + e = D.length → ft_in C (ft_tk D i) → ∀ n, e < n → wX_draftNode_4 post xl (nI D.length) xt xw xc qd qq qb qc qp ql qe qo qw qn qk qr qs qh n (nI (N (ft_tk D i))) (nI i) := by
  intro e
  induction e with
  | zero =>
    intro i hi ht n hn
    obtain ⟨n, rfl⟩ : ∃ n', n = n' + 1 := ⟨n - 1, by omega⟩
    have e1 : i = D.length := by omega
    subst e1
    rw [ft_tk_all] at ht ⊢
    exact br_t (nI_le (Nat.le_refl _) (by omega)) (hin ht)
  | succ e ih =>
    intro i hi ht n hn
    obtain ⟨n, rfl⟩ : ∃ n', n = n' + 1 := ⟨n - 1, by omega⟩
    have hq := ft_At_lt hA (i := i) (by omega)
    rw [Nat.zero_add] at hq
    have hc := ft_ok_lt (ft_At_ok hA) i
    have hnp := (T.2.1 _ ht).1
    refine br_f (nI_ge (by omega) (by omega)) ⟨vp_in_nI (by omega) (by omega), ?_⟩
    rw [nI_clamp (n := i) (by omega), hq, ft_m4, nI_clamp (n := N (ft_tk D i) * 4 + ft_lt D i) (by omega), T.2.2.2.2.1 _ _ ht hc]
    refine ⟨vp_in_nI (by omega) (by omega), nm_e ?_⟩
    by_cases h0 : 0 < C (ft_lt D i :: ft_tk D i)
    · have h3 := (T.2.2.1 _ _ h0).1
      have h4 := (T.2.1 _ (Or.inr h0)).1
      rw [if_pos h0]
      have z := ih (i + 1) (by omega) (by rw [ft_tk_s (by omega)]; exact Or.inr h0) n (by omega)
      rw [ft_tk_s (by omega)] at z
      exact br_f (nI_ne0 (by omega) (by omega)) (nm_r (nI_1 i) z)
    · rw [if_neg h0]
      refine br_t rfl (hout fun z => h0 ?_)
      have := ft_in_sf hC z (ft_tk_sf D (i + 1))
      rw [ft_tk_s (by omega)] at this
      exact ft_in_c this
theorem ft_x_draftNode {post : Int32 → Prop} (T : ft_T C N qb qc qp ql qe qo) (hC : ft_Cg C) (hD : D.length ≤ 6) (hA : ft_At qd 0 D) (hin : ft_in C D → post (nI (N D))) (hout : ¬ ft_in C D → post (-1)) : wpX_draftNode post (xl, nI D.length, xt, xw, xc, qd, qq, qb, qc, qp, ql, qe, qo, qw, qn, qk, qr, qs, qh) := by
  have h := ft_x_dn4 (xl := xl) (xt := xt) (xw := xw) (xc := xc) (qq := qq) (qw := qw) (qn := qn) (qk := qk) (qr := qr) (qs := qs) (qh := qh) T hC hD hA hin hout D.length 0 (by omega) (by rw [ft_tk_0]; exact ft_in_nil C) (D.length + 1) (by omega)
  rw [ft_tk_0, T.1] at h
  exact ⟨_, h⟩
theorem ft_x_qn4 {post : Int32 → Prop} (T : ft_T C N qb qc qp ql qe qo) (hC : ft_Cg C) (hD : D.length ≤ 6) (hA : ft_At qq 0 D) (hin : ft_in C D → post (nI (N D))) (hout : ¬ ft_in C D → post (-1)) :
    ∀ e i : Nat, i + e = D.length → ft_in C (ft_tk D i) → ∀ n, e < n → wX_queryNode_4 post xl xd (nI D.length) xw xc qd qq qb qc qp ql qe qo qw qn qk qr qs qh n (nI (N (ft_tk D i))) (nI i) := by
  intro e
  induction e with
  | zero =>
    intro i hi ht n hn
    obtain ⟨n, rfl⟩ : ∃ n', n = n' + 1 := ⟨n - 1, by omega⟩
    have e1 : i = D.length := by omega
    subst e1
    rw [ft_tk_all] at ht ⊢
    exact br_t (nI_le (Nat.le_refl _) (by omega)) (hin ht)
  | succ e ih =>
    intro i hi ht n hn
    obtain ⟨n, rfl⟩ : ∃ n', n = n' + 1 := ⟨n - 1, by omega⟩
    have hq := ft_At_lt hA (i := i) (by omega)
    rw [Nat.zero_add] at hq
    have hc := ft_ok_lt (ft_At_ok hA) i
    have hnp := (T.2.1 _ ht).1
    refine br_f (nI_ge (by omega) (by omega)) ⟨vp_in_nI (by omega) (by omega), ?_⟩
    rw [nI_clamp (n := i) (by omega), hq, ft_m4, nI_clamp (n := N (ft_tk D i) * 4 + ft_lt D i) (by omega), T.2.2.2.2.1 _ _ ht hc]
    refine ⟨vp_in_nI (by omega) (by omega), nm_e ?_⟩
    by_cases h0 : 0 < C (ft_lt D i :: ft_tk D i)
    · have h3 := (T.2.2.1 _ _ h0).1
      have h4 := (T.2.1 _ (Or.inr h0)).1
      rw [if_pos h0]
      have z := ih (i + 1) (by omega) (by rw [ft_tk_s (by omega)]; exact Or.inr h0) n (by omega)
      rw [ft_tk_s (by omega)] at z
      exact br_f (nI_ne0 (by omega) (by omega)) (nm_r (nI_1 i) z)
    · rw [if_neg h0]
      refine br_t rfl (hout fun z => h0 ?_)
      have := ft_in_sf hC z (ft_tk_sf D (i + 1))
      rw [ft_tk_s (by omega)] at this
      exact ft_in_c this
theorem ft_x_queryNode {post : Int32 → Prop} (T : ft_T C N qb qc qp ql qe qo) (hC : ft_Cg C) (hD : D.length ≤ 6) (hA : ft_At qq 0 D) (hin : ft_in C D → post (nI (N D))) (hout : ¬ ft_in C D → post (-1)) : wpX_queryNode post (xl, xd, nI D.length, xw, xc, qd, qq, qb, qc, qp, ql, qe, qo, qw, qn, qk, qr, qs, qh) := by
  have h := ft_x_qn4 (xl := xl) (xd := xd) (xw := xw) (xc := xc) (qd := qd) (qw := qw) (qn := qn) (qk := qk) (qr := qr) (qs := qs) (qh := qh) T hC hD hA hin hout D.length 0 (by omega) (by rw [ft_tk_0]; exact ft_in_nil C) (D.length + 1) (by omega)
  rw [ft_tk_0, T.1] at h
  exact ⟨_, h⟩
theorem ft_x_fr5 {post : Int32 → Prop} (h : ∀ f, 1 ≤ f → f < 80 → qb f = 0 → post (nI f)) :
    ∀ j f : Nat, j < 80 → 1 ≤ f → f < 80 → (qb f = 0 ∨ ∃ n0, 1 ≤ n0 ∧ n0 ≤ j ∧ qb n0 = 0) → ∀ n, j < n → wX_freeNode_5 post xl xd xt xw xc qd qq qb qc qp ql qe qo qw qn qk qr qs qh n (nI f) (nI j) := by
  intro j
  induction j with
  | zero =>
    intro f _ h1 h2 h3 n hn
    obtain ⟨n, rfl⟩ : ∃ n', n = n' + 1 := ⟨n - 1, by omega⟩
    refine br_t (nI_le (a := 0) (b := 0) (by omega) (by omega)) (h f h1 h2 ?_)
    rcases h3 with z | ⟨n0, a, b, _⟩
    · exact z
    · omega
  | succ j ih =>
    intro f hj h1 h2 h3 n hn
    obtain ⟨n, rfl⟩ : ∃ n', n = n' + 1 := ⟨n - 1, by omega⟩
    refine br_f (nI_nle (by omega) (by omega)) ⟨vp_in_nI hj (by omega), ?_⟩
    rw [nI_clamp (n := j + 1) (by omega)]
    refine br_c (fun z => nm_r (pk_m1 j) (ih (j + 1) (by omega) (by omega) hj (Or.inl z) n (by omega))) (fun z => nm_r (pk_m1 j) (ih f (by omega) h1 h2 ?_ n (by omega)))
    rcases h3 with y | ⟨n0, a, b, c⟩
    · exact Or.inl y
    · by_cases e : n0 = j + 1
      · rw [e] at c; exact absurd c z
      · exact Or.inr ⟨n0, a, by omega, c⟩
theorem ft_x_free {post : Int32 → Prop} (he : ∃ n0, 1 ≤ n0 ∧ n0 < 80 ∧ qb n0 = 0) (h : ∀ f, 1 ≤ f → f < 80 → qb f = 0 → post (nI f)) : wpX_freeNode post (xl, xd, xt, xw, xc, qd, qq, qb, qc, qp, ql, qe, qo, qw, qn, qk, qr, qs, qh) := by
  obtain ⟨n0, a, b, c⟩ := he
  exact ⟨80, ft_x_fr5 h 79 1 (by omega) (by omega) (by omega) (Or.inr ⟨n0, a, by omega, c⟩) 80 (by omega)⟩
theorem ft_x_mk73 {post : Int32 → SX → Prop} {f : Nat} (hf : f < 80) (h : ∀ qc', (∀ i, i < 4 → qc' (f * 4 + i) = 0) → (∀ j, j < f * 4 ∨ f * 4 + 4 ≤ j → qc' j = qc j) → post (nI f) (xl, xd, xt, xw, xc, qd, qq, qb, qc', qp, ql, qe, qo, qw, qn, qk, qr, qs, qh)) :
    ∀ (e i : Nat) (qc' : Nat → Int32), i + e = 4 → (∀ j, j < i → qc' (f * 4 + j) = 0) → (∀ j, j < f * 4 ∨ f * 4 + 4 ≤ j → qc' j = qc j) → ∀ n, e < n → wX_makeChild_73 post (nI f) xl xd xt xw xc n (nI i) qd qq qb qc' qp ql qe qo qw qn qk qr qs qh := by
  intro e
  induction e with
  | zero =>
    intro i qc' hi h1 h2 n hn
    obtain ⟨n, rfl⟩ : ∃ n', n = n' + 1 := ⟨n - 1, by omega⟩
    have e1 : i = 4 := by omega
    subst e1
    exact br_t (nI_le (Nat.le_refl 4) (by decide)) (h qc' h1 h2)
  | succ e ih =>
    intro i qc' hi h1 h2 n hn
    obtain ⟨n, rfl⟩ : ∃ n', n = n' + 1 := ⟨n - 1, by omega⟩
    refine br_f (nI_ge (b := 4) (by omega) (by decide)) ?_
    rw [ft_m4, nI_clamp (n := f * 4 + i) (by omega)]
    refine ⟨vp_in_nI (by omega) (by omega), nm_e (nm_r (nI_1 i) (ih (i + 1) _ (by omega) (fun j hj => ?_) (fun j hj => ?_) n (by omega)))⟩
    · by_cases z : j = i
      · rw [z, pk_us]
      · rw [pk_un (by omega)]; exact h1 j (by omega)
    · rw [pk_un (by omega)]; exact h2 j hj
theorem ft_x_mk {post : Int32 → SX → Prop} {p : List Nat} {c : Nat} (T : ft_T C N qb qc qp ql qe qo) (hC : ft_Cg C) (hp : ft_in C p) (hc : c < 4) (he : ∃ n0, 1 ≤ n0 ∧ n0 < 80 ∧ qb n0 = 0)
    (h : ∀ f qc', 1 ≤ f → f < 80 → qb f = 0 → (∀ i, i < 4 → qc' (f * 4 + i) = 0) → (∀ j, j < f * 4 ∨ f * 4 + 4 ≤ j → qc' j = upd qc (N p * 4 + c) (nI f) j) →
      post (nI f) (xl, xd, xt, xw, xc, qd, qq, qb, qc', upd qp f (nI (N p)), upd ql f (nI c), upd qe f (nI (p.length + 1)), upd qo f (nI (ft_co (c :: p))), upd qw f (-4), qn, qk, qr, qs, qh)) :
    wpX_makeChild post (xl, xd, xt, xw, xc, qd, qq, qb, qc, qp, ql, qe, qo, qw, qn, qk, qr, qs, qh) (nI (N p)) (nI c) := by
  have h2 := T.2.1 p hp
  have hl := (ft_in_ok hC hp)
  have hco := ft_co_le p hl.1 hl.2
  unfold wpX_makeChild
  dsimp only
  refine ft_x_free he (fun f f1 f2 f3 => ?_)
  rw [ft_m4, nI_clamp (n := N p * 4 + c) (by omega), nI_clamp (n := f) (by omega), nI_clamp (n := N p) (by omega), h2.2.1, h2.2.2, nI_1,
    show (nI (ft_co p) * 5 + nI c) + 1 = nI (ft_co (c :: p)) by rw [show (5 : Int32) = nI 5 from rfl, pk_mul, nI_add, nI_1]; rfl]
  have vf : vp_in (nI f) 80 := vp_in_nI f2 (by omega)
  have vp : vp_in (nI (N p)) 80 := vp_in_nI h2.1 (by omega)
  refine ⟨vp_in_nI (by omega) (by omega), nm_e ⟨vf, nm_e ⟨vf, nm_e ⟨vp, vf, nm_e ⟨vp, vf, nm_e ⟨vf, nm_e ⟨5, ?_⟩⟩⟩⟩⟩⟩⟩
  exact ft_x_mk73 f2 (fun qc' g1 g2 => h f qc' f1 f2 f3 g1 g2) 4 0 _ rfl (fun j hj => absurd hj (by omega)) (fun _ _ => rfl) 5 (by omega)
end
end
section
/-! adding and removing a word in the tree -/
section
variable {C C' N : List Nat → Nat} {m : Nat} {D p : List Nat} {W : Nat → List Nat} {g : Nat → Nat} {qb qc qp ql qe qo qw : Nat → Int32} {c f wt j : Nat}
theorem ft_Wt_in (h : ft_Wt m W g C N qw) (h1 : ∀ x, ft_in C' x → ft_in C x) (h2 : ∀ w, w < m → ft_in C' (W w)) : ft_Wt m W g C' N qw :=
  ⟨fun w hw => ⟨h2 w hw, (h.1 w hw).2⟩, fun p hp hn => h.2 p (h1 p hp) hn⟩
theorem ft_Wt_new (h : ft_Wt m W g C N qw) (hf : ∀ x, ft_in C x → N x ≠ f) (h0 : ¬ ft_in C (c :: p)) : ft_Wt m W g (ft_up C (c :: p) 1) (ft_up N (c :: p) f) (upd qw f (-4)) := by
  have hne : ∀ x, ft_in C x → x ≠ c :: p := fun x hx z => h0 (z ▸ hx)
  refine ⟨fun w hw => ?_, fun x hx hn => ?_⟩
  · have h1 := h.1 w hw
    have h2 := hne _ h1.1
    refine ⟨?_, ?_⟩
    · rcases h1.1 with z | z
      · exact Or.inl z
      · exact Or.inr (by rw [ft_up_n h2]; exact z)
    · rw [ft_up_n h2, pk_un (hf _ h1.1)]
      exact h1.2
  · by_cases e : x = c :: p
    · rw [e, ft_up_s, pk_us]
    · have hx' : ft_in C x := by
        rcases hx with z | z
        · exact Or.inl z
        · rw [ft_up_n e] at z; exact Or.inr z
      rw [ft_up_n e, pk_un (hf _ hx')]
      exact h.2 x hx' hn
theorem ft_Wd_add (hW : ft_Wd m W g) (hm : m ≤ 11) (h1 : 1 ≤ D.length) (h6 : D.length ≤ 6) (ho : ft_ok D) (hwt : wt ≤ 99) (hn : ∀ w, w < m → W w ≠ D) : ft_Wd (m + 1) (ft_wu W m D) (ft_wu g m wt) := by
  refine ⟨by omega, fun w hw => ?_, fun v w hv hw e => ?_⟩
  · by_cases z : w = m
    · rw [z, ft_wu_s, ft_wu_s]; exact ⟨h1, h6, ho, hwt⟩
    · rw [ft_wu_n z, ft_wu_n z]; exact hW.2.1 w (by omega)
  · by_cases zv : v = m <;> by_cases zw : w = m
    · omega
    · rw [zv, ft_wu_s, ft_wu_n zw] at e; exact absurd e.symm (hn w (by omega))
    · rw [zw, ft_wu_s, ft_wu_n zv] at e; exact absurd e (hn v (by omega))
    · rw [ft_wu_n zv, ft_wu_n zw] at e; exact hW.2.2 v w (by omega) (by omega) e
theorem ft_Wt_end (h : ft_Wt m W g C N qw) (T : ft_T C N qb qc qp ql qe qo) (hD : ft_in C D) (hn : ∀ w, w < m → W w ≠ D) : ft_Wt (m + 1) (ft_wu W m D) (ft_wu g m wt) C N (upd qw (N D) (nI wt)) := by
  refine ⟨fun w hw => ?_, fun x hx hnx => ?_⟩
  · by_cases z : w = m
    · rw [z, ft_wu_s, ft_wu_s, pk_us]; exact ⟨hD, rfl⟩
    · have h1 := h.1 w (by omega)
      rw [ft_wu_n z, ft_wu_n z, pk_un (fun e => hn w (by omega) (T.2.2.2.1 _ _ h1.1 hD e))]
      exact h1
  · have h1 : x ≠ D := fun e => hnx m (by omega) (by rw [ft_wu_s]; exact e.symm)
    rw [pk_un (fun e => h1 (T.2.2.2.1 _ _ hx hD e))]
    refine h.2 x hx fun w hw => ?_
    have := hnx w (by omega)
    rw [ft_wu_n (by omega)] at this
    exact this
theorem ft_Wd_rem (hW : ft_Wd (m + 1) W g) (hj : j ≤ m) : ft_Wd m (ft_wu W j (W m)) (ft_wu g j (g m)) := by
  have h0 := hW.1
  refine ⟨by omega, fun w hw => ?_, fun v w hv hw e => ?_⟩
  · by_cases z : w = j
    · rw [z, ft_wu_s, ft_wu_s]; exact hW.2.1 m (by omega)
    · rw [ft_wu_n z, ft_wu_n z]; exact hW.2.1 w (by omega)
  · by_cases zv : v = j <;> by_cases zw : w = j
    · omega
    · rw [zv, ft_wu_s, ft_wu_n zw] at e
      have := hW.2.2 m w (by omega) (by omega) e
      omega
    · rw [zw, ft_wu_s, ft_wu_n zv] at e
      have := hW.2.2 v m (by omega) (by omega) e
      omega
    · rw [ft_wu_n zv, ft_wu_n zw] at e; exact hW.2.2 v w (by omega) (by omega) e
theorem ft_Wt_rem (h : ft_Wt (m + 1) W g C N qw) (T : ft_T C N qb qc qp ql qe qo) (hW : ft_Wd (m + 1) W g) (hj : j ≤ m) : ft_Wt m (ft_wu W j (W m)) (ft_wu g j (g m)) C N (upd qw (N (W j)) (-4)) := by
  have hD := (h.1 j (by omega)).1
  refine ⟨fun w hw => ?_, fun x hx hnx => ?_⟩
  · by_cases z : w = j
    · have h1 := h.1 m (by omega)
      rw [z, ft_wu_s, ft_wu_s, pk_un (fun e => by
        have := hW.2.2 m j (by omega) (by omega) (T.2.2.2.1 _ _ h1.1 hD e)
        omega)]
      exact h1
    · have h1 := h.1 w (by omega)
      rw [ft_wu_n z, ft_wu_n z, pk_un (fun e => z (hW.2.2 w j (by omega) (by omega) (T.2.2.2.1 _ _ h1.1 hD e)))]
      exact h1
  · by_cases e : x = W j
    · rw [e, pk_us]
    · rw [pk_un (fun z => e (T.2.2.2.1 _ _ hx hD z))]
      refine h.2 x hx fun w hw => ?_
      by_cases z1 : w = j
      · rw [z1]; exact fun z => e z.symm
      · by_cases z2 : w = m
        · have := hnx j (by omega)
          rw [ft_wu_s] at this
          rw [z2]; exact this
        · have := hnx w (by omega)
          rw [ft_wu_n z1] at this
          exact this
end
section
variable {xl xd xt xw xc : Int32} {qd qq qb qc qp ql qe qo qw qn qk qr qs qh : Nat → Int32}
variable {C N : List Nat → Nat} {L m : Nat} {D Q : List Nat} {W : Nat → List Nat} {g : Nat → Nat}
theorem ft_x_a86 {post : Int32 → SX → Prop} {wt : Nat} (hL : L ≤ 3) (hW : ft_Wd m W g) (hm : m ≤ 11) (hD1 : 1 ≤ D.length) (hD : D.length ≤ 6) (hA : ft_At qd 0 D) (hwt : wt ≤ 99) (hnw : ∀ w, w < m → W w ≠ D) (hQ : Q.length ≤ 6) (hAq : ft_At qq 0 Q)
    (h : ∀ N' l k σ qb' qc' qp' ql' qe' qo' qw' qn' qk' qr' qs' qh', ft_T (ft_C (m + 1) (ft_wu W m D)) N' qb' qc' qp' ql' qe' qo' → ft_Wt (m + 1) (ft_wu W m D) (ft_wu g m wt) (ft_C (m + 1) (ft_wu W m D)) N' qw' → qb' 0 = nI (m + 1) →
      ft_Ly (ft_C (m + 1) (ft_wu W m D)) N' L Q qn' → (∀ w, w < m + 1 → ft_wu W m D w ∈ l) → ft_R L (m + 1) Q (ft_wu W m D) (ft_wu g m wt) l k σ → ft_Rk Q (ft_wu W m D) N' k σ qk' qr' →
      post 1 (nI L, 0, nI Q.length, nI (m + 1), nI k, qd, qq, qb', qc', qp', ql', qe', qo', qw', qn', qk', qr', qs', qh')) :
    ∀ (e i : Nat) (N' : List Nat → Nat) (qb' qc' qp' ql' qe' qo' qw' : Nat → Int32), i + e = D.length → ft_T (ft_Cq (ft_C m W) (ft_tk D i)) N' qb' qc' qp' ql' qe' qo' → ft_Wt m W g (ft_Cq (ft_C m W) (ft_tk D i)) N' qw' → qb' 0 = nI (m + 1) →
      ∀ n, e < n → wX_add_86 post (nI wt) n (nI (N' (ft_tk D i))) (nI i) (nI L) (nI D.length) (nI Q.length) (nI m) xc qd qq qb' qc' qp' ql' qe' qo' qw' qn qk qr qs qh := by
  have ho := ft_At_ok hA
  intro e
  induction e with
  | zero =>
    intro i N' qb' qc' qp' ql' qe' qo' qw' hi T Wt b0 n hn
    obtain ⟨n, rfl⟩ : ∃ n', n = n' + 1 := ⟨n - 1, by omega⟩
    have e1 : i = D.length := by omega
    subst e1
    rw [ft_tk_all] at T Wt ⊢
    have hin : ft_in (ft_Cq (ft_C m W) D) D := Or.inr (by rw [ft_Cq_w]; omega)
    have hND := (T.2.1 D hin).1
    have Wt' := ft_Wt_end (wt := wt) Wt T hin hnw
    rw [← ft_C_add] at T Wt'
    have hW' := ft_Wd_add (wt := wt) hW hm hD1 hD ho hwt hnw
    refine br_t (nI_le (Nat.le_refl _) (by omega)) ?_
    rw [nI_clamp (n := N' D) (by omega)]
    refine ⟨vp_in_nI hND (by omega), nm_e (nm_r (nI_1 m) ?_)⟩
    exact ft_x_layOut hL T (ft_C_Cg hW') hW' Wt' hQ hAq (fun l k σ qn' qk' qr' qs' qh' h1 h2 h3 h4 => h N' l k σ qb' qc' qp' ql' qe' qo' _ qn' qk' qr' qs' qh' T Wt' b0 h1 h2 h3 h4)
  | succ e ih =>
    intro i N' qb' qc' qp' ql' qe' qo' qw' hi T Wt b0 n hn
    obtain ⟨n, rfl⟩ : ∃ n', n = n' + 1 := ⟨n - 1, by omega⟩
    have hq := ft_At_lt hA (i := i) (by omega)
    rw [Nat.zero_add] at hq
    have hc := ft_ok_lt ho i
    have hts := ft_tk_s (w := D) (i := i) (by omega)
    have htl := ft_tk_len (w := D) (i := i) (by omega)
    have htin : ft_in (ft_Cq (ft_C m W) (ft_tk D i)) (ft_tk D i) := Or.inr (by rw [ft_Cq_w]; omega)
    have hCg := ft_Cq_Cg hW hm (ft_ok_sf ho (ft_tk_sf D i)) (by omega)
    have hnp := (T.2.1 _ htin).1
    have ihn := ih (i + 1)
    rw [hts] at ihn
    generalize ft_tk D i = p at *
    generalize ft_lt D i = c at *
    have hKv := ft_Cq_v (ft_C m W) c p
    have hstep := ft_Cq_c (ft_C m W) c p
    have hwin : ∀ q w, w < m → ft_in (ft_Cq (ft_C m W) q) (W w) := fun q w hw => Or.inr (by
      have := ft_C_pos (m := m) (W := W) hw (ft_sf_refl (W w))
      unfold ft_Cq
      omega)
    refine br_f (nI_ge (by omega) (by omega)) ⟨vp_in_nI (by omega) (by omega), ?_⟩
    rw [nI_clamp (n := i) (by omega), hq, ft_m4, nI_clamp (n := N' p * 4 + c) (by omega), T.2.2.2.2.1 _ _ htin hc]
    refine ⟨vp_in_nI (by omega) (by omega), nm_e ?_⟩
    by_cases h0 : 0 < ft_Cq (ft_C m W) p (c :: p)
    · have h3 := T.2.2.1 _ _ h0
      have h4 := (T.2.1 _ (Or.inr h0)).1
      rw [if_pos h0]
      refine br_f (nI_ne0 (by omega) (by omega)) ?_
      unfold wX_add_132
      rw [nI_clamp (n := N' (c :: p)) (by omega), h3.2.1, nI_1]
      refine ⟨vp_in_nI h4 (by omega), vp_in_nI h4 (by omega), nm_e (nm_r (nI_1 i) ?_)⟩
      have T2 := ft_T_set (v := ft_Cq (ft_C m W) p (c :: p) + 1) T h0 (by omega)
      have Wt2 : ft_Wt m W g (ft_Cq (ft_C m W) (c :: p)) N' qw' := ft_Wt_in Wt (fun x hx => by
        by_cases z : x = c :: p
        · rw [z]; exact Or.inr h0
        · rw [hstep] at hx
          rcases hx with y | y
          · exact Or.inl y
          · rw [ft_up_n z] at y; exact Or.inr y) (hwin _)
      refine ihn N' _ qc' qp' ql' qe' qo' qw' (by omega) ?_ Wt2 ?_ n (by omega)
      · rw [hstep, ← hKv]; exact T2
      · rw [pk_un (by omega)]; exact b0
    · rw [if_neg h0]
      refine br_t rfl ⟨vp_in_nI (by omega) (by omega), ?_⟩
      refine ft_x_mk T hCg htin hc (ft_free T hW hm (by omega)) (fun f qc2 f1 f2 f3 g1 g2 => ?_)
      have h00 : ft_Cq (ft_C m W) p (c :: p) = 0 := by omega
      have hf := ft_T_fresh T hCg f1 f3
      have T2 := ft_T_new T hCg htin hc h00 f1 f2 f3 g1 g2
      have Wt2 := ft_Wt_new (c := c) (p := p) Wt hf (fun z => h0 (ft_in_c z))
      have hK1 : ft_C m W (c :: p) + 1 = 1 := by omega
      have hstep' : ft_Cq (ft_C m W) (c :: p) = ft_up (ft_Cq (ft_C m W) p) (c :: p) 1 := by rw [hstep, hK1]
      rw [← hstep'] at T2 Wt2
      have z := ihn (ft_up N' (c :: p) f) _ _ _ _ _ _ _ (by omega) T2 Wt2 (by rw [pk_un (by omega)]; exact b0) n (by omega)
      rw [ft_up_s] at z
      show wX_add_132 post _ (nI wt) (nI i) (nI f) _ _ _ _ _ _ _ _ _ _ _ _ _ _ _ _ _ _ _
      unfold wX_add_132
      rw [nI_clamp (n := f) (by omega), f3]
      exact ⟨vp_in_nI f2 (by omega), vp_in_nI f2 (by omega), nm_r (e' := upd qb' f (nI 1)) rfl (nm_r (nI_1 i) z)⟩
theorem ft_x_rm71 {post : Int32 → SX → Prop} {old : Int32} (hL : L ≤ 3) (hW : ft_Wd m W g) (hm : m ≤ 11) (hD : D.length ≤ 6) (ho : ft_ok D) (hQ : Q.length ≤ 6) (hAq : ft_At qq 0 Q)
    (hWt : ft_Wt m W g (ft_Cq (ft_C m W) D) N qw)
    (h : ∀ l k σ qb' qc' qn' qk' qr' qs' qh', ft_T (ft_C m W) N qb' qc' qp ql qe qo → ft_Wt m W g (ft_C m W) N qw → qb' 0 = nI m →
      ft_Ly (ft_C m W) N L Q qn' → (∀ w, w < m → W w ∈ l) → ft_R L m Q W g l k σ → ft_Rk Q W N k σ qk' qr' →
      post old (nI L, 0, nI Q.length, nI m, nI k, qd, qq, qb', qc', qp, ql, qe, qo, qw, qn', qk', qr', qs', qh')) :
    ∀ (q : List Nat) (qb' qc' : Nat → Int32), ft_sf q D = true → ft_T (ft_Cq (ft_C m W) q) N qb' qc' qp ql qe qo → qb' 0 = nI m →
      ∀ n, q.length < n → wX_remove_71 post old (nI L) xd (nI Q.length) (nI m) xc n (nI (N q)) (nI (D.length - q.length)) qd qq qb' qc' qp ql qe qo qw qn qk qr qs qh := by
  intro q
  induction q with
  | nil =>
    intro qb' qc' hs T b0 n hn
    obtain ⟨n, rfl⟩ : ∃ n', n = n' + 1 := ⟨n - 1, by omega⟩
    have T2 := ft_T_cg (fun c p => (ft_Cq_n (ft_C m W) c p).symm) T
    have Wt2 : ft_Wt m W g (ft_C m W) N qw := ft_Wt_in hWt (fun x hx => by
      rcases hx with y | y
      · exact Or.inl y
      · exact Or.inr (by unfold ft_Cq; omega)) (fun w hw => Or.inr (ft_C_pos hw (ft_sf_refl _)))
    have ex : wX_remove_138 post old (nI L) xd (nI Q.length) (nI m) xc qd qq qb' qc' qp ql qe qo qw qn qk qr qs qh :=
      ft_x_layOut hL T2 (ft_C_Cg hW) hW Wt2 hQ hAq (fun l k σ qn' qk' qr' qs' qh' h1 h2 h3 h4 => h l k σ qb' qc' qn' qk' qr' qs' qh' T2 Wt2 b0 h1 h2 h3 h4)
    exact br_c (fun _ => ex) (fun _ => br_t (by rw [T.1]; rfl) ex)
  | cons c p ih =>
    intro qb' qc' hs T b0 n hn
    obtain ⟨n, rfl⟩ : ∃ n', n = n' + 1 := ⟨n - 1, by omega⟩
    simp only [List.length_cons] at hn
    have hl := ft_sf_len hs
    simp only [List.length_cons] at hl
    have hCg := ft_Cq_Cg hW hm (ft_ok_sf ho hs) (by simp only [List.length_cons]; omega)
    have hw := ft_Cq_w (ft_C m W) (c :: p)
    have h0 : 0 < ft_Cq (ft_C m W) (c :: p) (c :: p) := by omega
    have h3 := T.2.2.1 _ _ h0
    have h4 := (T.2.1 _ (Or.inr h0)).1
    have h5 := hCg c p h0
    have h6 := (T.2.1 _ h5.1).1
    have vq : vp_in (nI (N (c :: p))) 80 := vp_in_nI h4 (by omega)
    have hd := ft_Cq_d (ft_C m W) c p
    have hle : D.length - (c :: p).length + 1 = D.length - p.length := by simp only [List.length_cons]; omega
    refine br_f (nI_ge (b := 6) (by simp only [List.length_cons]; omega) (by decide)) (br_f (nI_ne0 (by omega) (by omega)) ⟨vq, vq, ?_⟩)
    rw [nI_clamp (n := N (c :: p)) (by omega), h3.2.1, hw, nI_pred]
    refine nm_e ⟨vq, ?_⟩
    rw [pk_us, h3.2.2.1, h3.2.2.2, ft_m4, nI_clamp (n := N p * 4 + c) (by omega)]
    by_cases z : ft_C m W (c :: p) = 0
    · have T2 := ft_T_del T hCg h0
      rw [z] at hd
      rw [← hd] at T2
      have b2 : upd qb' (N (c :: p)) (0 : Int32) 0 = nI m := by rw [pk_un (by omega)]; exact b0
      have y := ih _ _ (ft_sf_tl hs) T2 b2 n (by omega)
      rw [z]
      refine br_t rfl ⟨vq, vq, vp_in_nI (by omega) (by omega), nm_e ⟨vq, nm_e (nm_r (nI_1 _) ?_)⟩⟩
      rw [hle]
      exact y
    · have T2 := ft_T_set (v := ft_C m W (c :: p)) T h0 (by omega)
      rw [← hd] at T2
      have hmn : ft_C m W (c :: p) ≤ m := ft_cn_le _ _
      have b2 : upd qb' (N (c :: p)) (nI (ft_C m W (c :: p))) 0 = nI m := by rw [pk_un (by omega)]; exact b0
      have y := ih _ _ (ft_sf_tl hs) T2 b2 n (by omega)
      refine br_f (nI_ne0 (by omega) (by omega)) ⟨vq, nm_e (nm_r (nI_1 _) ?_)⟩
      rw [hle]
      exact y
end
end
section
/-! the reference -/
theorem ft_6 (a c : Nat) : 6 * nI a + nI c = nI (6 * a + c) := by
  rw [show (6 : Int32) = nI 6 from rfl, pk_mul, nI_add]
theorem ft_7 (a c : Nat) : nI a * 7 + nI c = nI (a * 7 + c) := by
  rw [show (7 : Int32) = nI 7 from rfl, pk_mul, nI_add]
theorem ft_ed_le (s p : List Nat) : ft_ed s p ≤ s.length + p.length := by
  induction s generalizing p with
  | nil => show p.length ≤ _; omega
  | cons a s ih =>
    cases p with
    | nil => rw [ft_ed_nil]; exact Nat.le_add_right _ _
    | cons b p =>
      show min (ft_ed s p + (if b = a then 0 else 1)) (min (ft_ed s (b :: p)) (ft_er (ft_ed s) a p) + 1) ≤ _
      have := ih (b :: p)
      simp only [List.length_cons] at *
      omega
section
variable {yl yc : Int32} {rl rn rw rt : Nat → Int32}
variable {L m : Nat} {D Q s t : List Nat} {W : Nat → List Nat} {g : Nat → Nat}
theorem ft_y_b19 {post : Int32 → Prop} {a b : Nat} (ha : a < 14) (hb : b < 14) (As : ft_At rl (6 * a) s) (Bt : ft_At rl (6 * b) t) (la : rn a = nI s.length) (hs : s.length ≤ 6) (ht : t.length ≤ 6) (hst : s.length ≤ t.length)
    (h1 : ft_sf s t = true → post 1) (h0 : ft_sf s t = false → post 0) :
    ∀ e i : Nat, i + e = s.length → (∀ j, j < i → ft_lt s j = ft_lt t j) → ∀ n, e < n → wY_begins_19 post (nI a) (nI b) yl yc rl rn rw rt n (nI i) := by
  intro e
  induction e with
  | zero =>
    intro i hi hI n hn
    obtain ⟨n, rfl⟩ : ∃ n', n = n' + 1 := ⟨n - 1, by omega⟩
    have e1 : i = s.length := by omega
    subst e1
    unfold wY_begins_19
    rw [nI_clamp (n := a) (by omega), la]
    exact ⟨vp_in_nI ha (by omega), br_t (nI_le (Nat.le_refl _) (by omega)) (h1 (ft_sf_of hst hI))⟩
  | succ e ih =>
    intro i hi hI n hn
    obtain ⟨n, rfl⟩ : ∃ n', n = n' + 1 := ⟨n - 1, by omega⟩
    have q1 := ft_At_lt As (i := i) (by omega)
    have q2 := ft_At_lt Bt (i := i) (by omega)
    have c1 := ft_ok_lt (ft_At_ok As) i
    have c2 := ft_ok_lt (ft_At_ok Bt) i
    unfold wY_begins_19
    rw [nI_clamp (n := a) (by omega), la, ft_6, ft_6, nI_clamp (n := 6 * a + i) (by omega), nI_clamp (n := 6 * b + i) (by omega), q1, q2]
    refine ⟨vp_in_nI ha (by omega), br_f (nI_ge (by omega) (by omega)) ⟨vp_in_nI (by omega) (by omega), vp_in_nI (by omega) (by omega), ?_⟩⟩
    refine pk_eq (ft_lt s i) (ft_lt t i) (fun z => nm_r (nI_1 i) (ih (i + 1) (by omega) (fun j hj => ?_) n (by omega))) (fun z => h0 ?_)
    · by_cases y : j = i
      · rw [y]; exact z
      · exact hI j (by omega)
    · cases hc : ft_sf s t with
      | false => rfl
      | true => exact absurd (ft_sf_lts hc (by omega)) z
theorem ft_y_begins {post : Int32 → Prop} {a b : Nat} (ha : a < 14) (hb : b < 14) (As : ft_At rl (6 * a) s) (Bt : ft_At rl (6 * b) t) (la : rn a = nI s.length) (lb : rn b = nI t.length) (hs : s.length ≤ 6) (ht : t.length ≤ 6)
    (h1 : ft_sf s t = true → post 1) (h0 : ft_sf s t = false → post 0) : wpY_begins post (yl, yc, rl, rn, rw, rt) (nI a) (nI b) := by
  unfold wpY_begins
  dsimp only
  rw [nI_clamp (n := a) (by omega), nI_clamp (n := b) (by omega), la, lb]
  refine ⟨vp_in_nI ha (by omega), vp_in_nI hb (by omega), pk_le s.length t.length (fun z => ⟨s.length + 1, ?_⟩) (fun z => h0 ?_)⟩
  · exact ft_y_b19 ha hb As Bt la hs ht z h1 h0 s.length 0 (by omega) (fun j hj => absurd hj (by omega)) _ (by omega)
  · cases hc : ft_sf s t with
    | false => rfl
    | true => have := ft_sf_len hc; omega
/-- the reference's arrays hold draft, query and words -/
def ft_Y (m : Nat) (D Q : List Nat) (W : Nat → List Nat) (g : Nat → Nat) (rl rn rw : Nat → Int32) : Prop :=
  (ft_At rl 72 D ∧ rn 12 = nI D.length ∧ D.length ≤ 6) ∧ (ft_At rl 78 Q ∧ rn 13 = nI Q.length ∧ Q.length ≤ 6) ∧
  ∀ w, w < m → ft_At rl (6 * w) (W w) ∧ rn w = nI (W w).length ∧ rw w = nI (g w)
theorem ft_y_dr2 {post : Int32 → Prop} (hW : ft_Wd m W g) (hY : ft_Y m D Q W g rl rn rw) (h1 : ∀ w, w < m → W w = D → post (nI w)) (h0 : (∀ w, w < m → W w ≠ D) → post (-4)) :
    ∀ e j : Nat, j + e = m → (∀ w, w < j → W w ≠ D) → ∀ n, e < n → wY_drafted_2 post yl (nI m) rl rn rw rt n (nI j) := by
  have hm := hW.1
  intro e
  induction e with
  | zero =>
    intro j hj hI n hn
    obtain ⟨n, rfl⟩ : ∃ n', n = n' + 1 := ⟨n - 1, by omega⟩
    have e1 : j = m := by omega
    subst e1
    exact br_t (nI_le (Nat.le_refl _) (by omega)) (h0 hI)
  | succ e ih =>
    intro j hj hI n hn
    obtain ⟨n, rfl⟩ : ∃ n', n = n' + 1 := ⟨n - 1, by omega⟩
    have hw := hY.2.2 j (by omega)
    have hl := (hW.2.1 j (by omega)).2.1
    have next : W j ≠ D → wY_drafted_2 post yl (nI m) rl rn rw rt n (nI (j + 1)) := fun hne => ih (j + 1) (by omega) (fun w hw' => by
      by_cases z : w = j
      · rw [z]; exact hne
      · exact hI w (by omega)) n (by omega)
    refine br_f (nI_ge (by omega) (by omega)) ⟨vp_in_nI (by omega) (by omega), ?_⟩
    rw [nI_clamp (n := j) (by omega), hw.2.1, hY.1.2.1]
    have hd := hY.1.2.2
    refine pk_eq (W j).length D.length (fun z => ?_) (fun z => nm_r (nI_1 j) (next fun y => z (by rw [y])))
    refine ft_y_begins (a := j) (b := 12) (by omega) (by omega) hw.1 hY.1.1 hw.2.1 hY.1.2.1 hl hd (fun y => ?_) (fun y => ?_)
    · exact br_f ft_n10 (h1 j (by omega) (ft_sf_le y (by omega)))
    · exact br_t rfl (nm_r (nI_1 j) (next fun x => by rw [x, ft_sf_refl] at y; exact absurd y (by decide)))
theorem ft_y_drafted {post : Int32 → Prop} (hW : ft_Wd m W g) (hY : ft_Y m D Q W g rl rn rw) (h1 : ∀ w, w < m → W w = D → post (nI w)) (h0 : (∀ w, w < m → W w ≠ D) → post (-4)) : wpY_drafted post (yl, nI m, rl, rn, rw, rt) :=
  ⟨m + 1, ft_y_dr2 hW hY h1 h0 m 0 (by omega) (fun w hw => absurd hw (by omega)) _ (by omega)⟩
theorem ft_y_cp2 {post : SY → Prop} {a b : Nat} (ha : a < 14) (hb : b < 14) (la : rn a = nI s.length) (hs : s.length ≤ 6)
    (h : ∀ rl', (∀ i, i < s.length → rl' (6 * b + i) = rl (6 * a + i)) → (∀ j, j < 6 * b ∨ 6 * b + s.length ≤ j → rl' j = rl j) → post (yl, yc, rl', upd rn b (nI s.length), rw, rt)) :
    ∀ (e i : Nat) (rl' : Nat → Int32), i + e = s.length → (∀ j, j < i → rl' (6 * b + j) = rl (6 * a + j)) → (∀ j, j < 6 * b ∨ 6 * b + i ≤ j → rl' j = rl j) → ∀ n, e < n → wY_copy_2 post (nI a) (nI b) yl yc n (nI i) rl' rn rw rt := by
  intro e
  induction e with
  | zero =>
    intro i rl' hi h1 h2 n hn
    obtain ⟨n, rfl⟩ : ∃ n', n = n' + 1 := ⟨n - 1, by omega⟩
    have e1 : i = s.length := by omega
    subst e1
    unfold wY_copy_2
    rw [nI_clamp (n := a) (by omega), la, nI_clamp (n := b) (by omega)]
    exact ⟨vp_in_nI ha (by omega), br_t (nI_le (Nat.le_refl _) (by omega)) ⟨vp_in_nI ha (by omega), vp_in_nI hb (by omega), nm_e (h rl' h1 h2)⟩⟩
  | succ e ih =>
    intro i rl' hi h1 h2 n hn
    obtain ⟨n, rfl⟩ : ∃ n', n = n' + 1 := ⟨n - 1, by omega⟩
    unfold wY_copy_2
    rw [nI_clamp (n := a) (by omega), la, ft_6, ft_6, nI_clamp (n := 6 * a + i) (by omega), nI_clamp (n := 6 * b + i) (by omega)]
    refine ⟨vp_in_nI ha (by omega), br_f (nI_ge (by omega) (by omega)) ⟨vp_in_nI (by omega) (by omega), vp_in_nI (by omega) (by omega), nm_e (nm_r (nI_1 i) (ih (i + 1) _ (by omega) (fun j hj => ?_) (fun j hj => ?_) n (by omega)))⟩⟩
    · by_cases z : j = i
      · rw [z, pk_us]; exact h2 _ (by omega)
      · rw [pk_un (by omega)]; exact h1 j (by omega)
    · rw [pk_un (by omega)]; exact h2 j (by omega)
theorem ft_y_copy {post : SY → Prop} {a b : Nat} (ha : a < 14) (hb : b < 14) (la : rn a = nI s.length) (hs : s.length ≤ 6)
    (h : ∀ rl', (∀ i, i < s.length → rl' (6 * b + i) = rl (6 * a + i)) → (∀ j, j < 6 * b ∨ 6 * b + s.length ≤ j → rl' j = rl j) → post (yl, yc, rl', upd rn b (nI s.length), rw, rt)) :
    wpY_copy post (yl, yc, rl, rn, rw, rt) (nI a) (nI b) :=
  ⟨s.length + 1, ft_y_cp2 ha hb la hs h s.length 0 rl (by omega) (fun j hj => absurd hj (by omega)) (fun _ _ => rfl) _ (by omega)⟩
theorem ft_y_least {post : Int32 → Prop} {a b : Nat} (ha : a < 2 ^ 31) (hb : b < 2 ^ 31) (h : post (nI (min a b))) : wpY_least post (yl, yc, rl, rn, rw, rt) (nI a) (nI b) := by
  show (nI b ≤ nI a → post (nI b)) ∧ (¬ nI b ≤ nI a → post (nI a))
  exact pk_le b a (fun z => by rw [Nat.min_eq_right z] at h; exact h) (fun z => by rw [Nat.min_eq_left (by omega)] at h; exact h)
/-- the table, filled in the rows ahead of i and in row i ahead of j -/
def ft_tb (Q t : List Nat) (i j : Nat) (rt : Nat → Int32) : Prop :=
  (∀ i' j', i' < i → j' ≤ t.length → rt (i' * 7 + j') = nI (ft_ed (ft_tk Q i') (ft_tk t j'))) ∧ ∀ j', j' < j → rt (i * 7 + j') = nI (ft_ed (ft_tk Q i) (ft_tk t j'))
theorem ft_tb_s {i j : Nat} {rt : Nat → Int32} (ht : t.length ≤ 6) (hj : j ≤ t.length) (h : ft_tb Q t i j rt) : ft_tb Q t i (j + 1) (upd rt (i * 7 + j) (nI (ft_ed (ft_tk Q i) (ft_tk t j)))) := by
  refine ⟨fun i' j' h1 h2 => ?_, fun j' h1 => ?_⟩
  · rw [pk_un (by omega)]; exact h.1 i' j' h1 h2
  · by_cases z : j' = j
    · rw [z, pk_us]
    · rw [pk_un (by omega)]; exact h.2 j' (by omega)
theorem ft_y_f85 {post : SY → Prop} {J2 J15 : Int32 → (Nat → Int32) → (Nat → Int32) → (Nat → Int32) → (Nat → Int32) → Prop} {x1 : Int32} {i j e : Nat} (hi : i < 6) (hj : j < 6) (ht : t.length ≤ 6) (hjt : j < t.length) (hQ : Q.length ≤ 6) (hiQ : i < Q.length)
    (he : e = (if ft_lt t j = ft_lt Q i then 0 else 1)) (hI : ft_tb Q t (i + 1) (j + 1) rt)
    (h : ∀ rt', ft_tb Q t (i + 1) (j + 1 + 1) rt' → J15 (nI (j + 1 + 1)) rl rn rw rt') : wY_fill_85 post J2 J15 x1 (nI (i + 1)) (nI (j + 1)) (nI e) yl yc rl rn rw rt := by
  have q1 := hI.1 i j (by omega) (by omega)
  have q2 := hI.1 i (j + 1) (by omega) (by omega)
  have q3 := hI.2 j (by omega)
  have b1 := ft_ed_le (ft_tk Q i) (ft_tk t j)
  have b2 := ft_ed_le (ft_tk Q i) (ft_tk t (j + 1))
  have b3 := ft_ed_le (ft_tk Q (i + 1)) (ft_tk t j)
  have b4 := ft_tb_s (Q := Q) ht (by omega) hI
  have he1 : e ≤ 1 := by rw [he]; split <;> omega
  have hed : ft_ed (ft_tk Q (i + 1)) (ft_tk t (j + 1)) = min (ft_ed (ft_tk Q i) (ft_tk t j) + e) (min (ft_ed (ft_tk Q i) (ft_tk t (j + 1))) (ft_ed (ft_tk Q (i + 1)) (ft_tk t j)) + 1) := by
    rw [he, ft_tk_s hjt, ft_tk_s hiQ]
    rfl
  rw [hed] at b4
  rw [ft_tk_len (by omega), ft_tk_len (by omega)] at b1 b2 b3
  unfold wY_fill_85
  rw [nI_pred, ft_7, ft_7, show i * 7 + (j + 1) = (i * 7 + j) + 1 by omega, nI_pred, show (i + 1) * 7 + (j + 1) = ((i + 1) * 7 + j) + 1 by omega, nI_pred,
    nI_clamp (n := i * 7 + j) (by omega), nI_clamp (n := i * 7 + j + 1) (by omega), nI_clamp (n := (i + 1) * 7 + j) (by omega), q1, show i * 7 + j + 1 = i * 7 + (j + 1) by omega, q2, q3, nI_add]
  refine ⟨vp_in_nI (by omega) (by omega), nm_e ⟨vp_in_nI (by omega) (by omega), vp_in_nI (by omega) (by omega), ?_⟩⟩
  refine ft_y_least (by omega) (by omega) (nm_r (nI_1 _) (ft_y_least (by omega) (by omega) ?_))
  unfold wY_fill_151
  rw [ft_7, nI_clamp (n := (i + 1) * 7 + (j + 1)) (by omega)]
  exact ⟨vp_in_nI (by omega) (by omega), nm_e (nm_r (nI_1 _) (h _ b4))⟩
theorem ft_y_f15 {post : SY → Prop} {J2 : Int32 → (Nat → Int32) → (Nat → Int32) → (Nat → Int32) → (Nat → Int32) → Prop} {a i : Nat} (ha : a < 14) (At' : ft_At rl (6 * a) t) (la : rn a = nI t.length) (ht : t.length ≤ 6) (AQ : ft_At rl 78 Q) (hQ : Q.length ≤ 6) (hi : i ≤ Q.length)
    (h : ∀ rt', ft_tb Q t (i + 1) 0 rt' → J2 (nI (i + 1)) rl rn rw rt') :
    ∀ (e j : Nat) (rt' : Nat → Int32), j + e = t.length + 1 → ft_tb Q t i j rt' → ∀ n, e < n → wY_fill_15 post J2 (nI a) (nI i) yl yc n (nI j) rl rn rw rt' := by
  intro e
  induction e with
  | zero =>
    intro j rt' hj hI n hn
    obtain ⟨n, rfl⟩ : ∃ n', n = n' + 1 := ⟨n - 1, by omega⟩
    have e1 : j = t.length + 1 := by omega
    subst e1
    unfold wY_fill_15
    rw [nI_clamp (n := a) (by omega), la]
    refine ⟨vp_in_nI ha (by omega), br_t (nI_lt (by omega) (by omega)) (nm_r (nI_1 i) (h rt' ⟨fun i' j' h1 h2 => ?_, fun j' h1 => absurd h1 (by omega)⟩))⟩
    by_cases z : i' = i
    · rw [z]; exact hI.2 j' (by omega)
    · exact hI.1 i' j' (by omega) h2
  | succ e ih =>
    intro j rt' hj hI n hn
    obtain ⟨n, rfl⟩ : ∃ n', n = n' + 1 := ⟨n - 1, by omega⟩
    have ihn : ∀ rt'', ft_tb Q t i (j + 1) rt'' → wY_fill_15 post J2 (nI a) (nI i) yl yc n (nI (j + 1)) rl rn rw rt'' := fun rt'' h'' => ih (j + 1) rt'' (by omega) h'' n (by omega)
    have hs := ft_tb_s (Q := Q) (i := i) ht (by omega) hI
    have k151 : ∀ v : Nat, v = ft_ed (ft_tk Q i) (ft_tk t j) → wY_fill_151 post J2 (wY_fill_15 post J2 (nI a) (nI i) yl yc n) (nI a) (nI i) (nI j) (nI v) yl yc rl rn rw rt' := by
      intro v hv
      unfold wY_fill_151
      rw [ft_7, nI_clamp (n := i * 7 + j) (by omega), hv]
      exact ⟨vp_in_nI (by omega) (by omega), nm_e (nm_r (nI_1 _) (ihn _ hs))⟩
    unfold wY_fill_15
    rw [nI_clamp (n := a) (by omega), la]
    refine ⟨vp_in_nI ha (by omega), br_f (nI_nlt (by omega) (by omega)) ?_⟩
    refine pk_eq i 0 (fun z => ?_) (fun z => ?_)
    · refine br_t (by rw [z]; exact nI_le (a := 0) (b := 0) (by omega) (by omega)) (k151 j ?_)
      rw [z, ft_tk_0]
      exact (ft_tk_len (by omega)).symm
    · refine pk_eq j 0 (fun y => ?_) (fun y => ?_)
      · refine br_f (nI_nle (by omega) (by omega)) (br_t (by rw [y]; exact nI_le (a := 0) (b := 0) (by omega) (by omega)) (k151 i ?_))
        rw [y, ft_tk_0, ft_ed_nil]
        exact (ft_tk_len (by omega)).symm
      · obtain ⟨i, rfl⟩ : ∃ i', i = i' + 1 := ⟨i - 1, by omega⟩
        obtain ⟨j, rfl⟩ : ∃ j', j = j' + 1 := ⟨j - 1, by omega⟩
        have q1 := ft_At_lt AQ (i := i) (by omega)
        have q2 := ft_At_lt At' (i := j) (by omega)
        have c1 := ft_ok_lt (ft_At_ok AQ) i
        have c2 := ft_ok_lt (ft_At_ok At') j
        refine br_f (nI_nle (by omega) (by omega)) (br_f (nI_nle (by omega) (by omega)) ?_)
        rw [show (78 : Int32) + nI (i + 1) = nI ((78 + i) + 1) from by rw [show (78 : Int32) = nI 78 from rfl, nI_add]; rfl, nI_pred, ft_6, show 6 * a + (j + 1) = (6 * a + j) + 1 by omega, nI_pred,
          nI_clamp (n := 78 + i) (by omega), nI_clamp (n := 6 * a + j) (by omega), q1, q2]
        refine ⟨vp_in_nI (by omega) (by omega), vp_in_nI (by omega) (by omega), pk_eq (ft_lt Q i) (ft_lt t j) (fun x => ?_) (fun x => ?_)⟩
        · exact ft_y_f85 (e := 0) (by omega) (by omega) ht (by omega) hQ (by omega) (by rw [if_pos x.symm]) hI ihn
        · exact ft_y_f85 (e := 1) (by omega) (by omega) ht (by omega) hQ (by omega) (by rw [if_neg (fun w => x w.symm)]) hI ihn
theorem ft_y_f2 {post : SY → Prop} {a : Nat} (ha : a < 14) (At' : ft_At rl (6 * a) t) (la : rn a = nI t.length) (ht : t.length ≤ 6) (AQ : ft_At rl 78 Q) (lq : rn 13 = nI Q.length) (hQ : Q.length ≤ 6)
    (h : ∀ rt', (∀ i j, i ≤ Q.length → j ≤ t.length → rt' (i * 7 + j) = nI (ft_ed (ft_tk Q i) (ft_tk t j))) → post (yl, yc, rl, rn, rw, rt')) :
    ∀ (e i : Nat) (rt' : Nat → Int32), i + e = Q.length + 1 → ft_tb Q t i 0 rt' → ∀ n, e < n → wY_fill_2 post (nI a) yl yc n (nI i) rl rn rw rt' := by
  intro e
  induction e with
  | zero =>
    intro i rt' hi hI n hn
    obtain ⟨n, rfl⟩ : ∃ n', n = n' + 1 := ⟨n - 1, by omega⟩
    unfold wY_fill_2
    rw [lq]
    exact br_t (nI_lt (by omega) (by omega)) (h rt' fun i' j' h1 h2 => hI.1 i' j' (by omega) h2)
  | succ e ih =>
    intro i rt' hi hI n hn
    obtain ⟨n, rfl⟩ : ∃ n', n = n' + 1 := ⟨n - 1, by omega⟩
    unfold wY_fill_2
    rw [lq]
    refine br_f (nI_nlt (by omega) (by omega)) ⟨t.length + 2, ?_⟩
    exact ft_y_f15 ha At' la ht AQ hQ (by omega) (fun rt'' h'' => ih (i + 1) rt'' (by omega) h'' n (by omega)) (t.length + 1) 0 rt' (by omega) hI _ (by omega)
theorem ft_y_fill {post : SY → Prop} {a : Nat} (ha : a < 14) (At' : ft_At rl (6 * a) t) (la : rn a = nI t.length) (ht : t.length ≤ 6) (AQ : ft_At rl 78 Q) (lq : rn 13 = nI Q.length) (hQ : Q.length ≤ 6)
    (h : ∀ rt', (∀ i j, i ≤ Q.length → j ≤ t.length → rt' (i * 7 + j) = nI (ft_ed (ft_tk Q i) (ft_tk t j))) → post (yl, yc, rl, rn, rw, rt')) : wpY_fill post (yl, yc, rl, rn, rw, rt) (nI a) :=
  ⟨Q.length + 2, ft_y_f2 ha At' la ht AQ lq hQ h (Q.length + 1) 0 rt (by omega) ⟨fun i' j' h1 => absurd h1 (by omega), fun j' h1 => absurd h1 (by omega)⟩ _ (by omega)⟩
end
end
section
/-! the reference's questions -/
def ft_bb (Q : List Nat) (W : Nat → List Nat) (g : Nat → Nat) (v w : Nat) : Bool := decide (ft_hk Q W g v < ft_hk Q W g w) || (decide (ft_hk Q W g v = ft_hk Q W g w) && decide (ft_kk (W v) < ft_kk (W w)))
theorem ft_bb_iff {Q : List Nat} {W : Nat → List Nat} {g : Nat → Nat} {v w : Nat} : ft_bb Q W g v w = true ↔ ft_bf Q W g v w := by
  unfold ft_bb ft_bf
  rw [Bool.or_eq_true, Bool.and_eq_true, decide_eq_true_eq, decide_eq_true_eq, decide_eq_true_eq]
def ft_mn (f : Nat → Nat) : Nat → Nat
  | 0 => 9
  | j + 1 => min (ft_mn f j) (f j)
theorem ft_mn_le9 (f : Nat → Nat) (m : Nat) : ft_mn f m ≤ 9 := by
  induction m with
  | zero => exact Nat.le_refl _
  | succ m ih => simp only [ft_mn]; omega
theorem ft_mn_le {f : Nat → Nat} {m w : Nat} (h : w < m) : ft_mn f m ≤ f w := by
  induction m with
  | zero => omega
  | succ m ih =>
    simp only [ft_mn]
    by_cases z : w = m
    · rw [z]; omega
    · have := ih (by omega); omega
theorem ft_mn_ex (f : Nat → Nat) (m : Nat) : ft_mn f m = 9 ∨ ∃ w, w < m ∧ ft_mn f m = f w := by
  induction m with
  | zero => exact Or.inl rfl
  | succ m ih =>
    simp only [ft_mn]
    by_cases z : ft_mn f m ≤ f m
    · rw [Nat.min_eq_left z]
      rcases ih with h | ⟨w, hw, h⟩
      · exact Or.inl h
      · exact Or.inr ⟨w, by omega, h⟩
    · rw [Nat.min_eq_right (by omega)]
      exact Or.inr ⟨m, by omega, rfl⟩
/-! sets of letters -/
def ft_bs (b0 b1 b2 b3 : Bool) : Int32 := nI (b0.toNat + 2 * b1.toNat + 4 * b2.toNat + 8 * b3.toNat)
def ft_bS (f : Nat → Bool) : Int32 := ft_bs (f 0) (f 1) (f 2) (f 3)
theorem ft_bs_or : ∀ b0 b1 b2 b3 : Bool, ft_bs b0 b1 b2 b3 ||| ((1 : Int32) <<< (nI 0 &&& 31)) = ft_bs true b1 b2 b3 ∧ ft_bs b0 b1 b2 b3 ||| ((1 : Int32) <<< (nI 1 &&& 31)) = ft_bs b0 true b2 b3 ∧ ft_bs b0 b1 b2 b3 ||| ((1 : Int32) <<< (nI 2 &&& 31)) = ft_bs b0 b1 true b3 ∧ ft_bs b0 b1 b2 b3 ||| ((1 : Int32) <<< (nI 3 &&& 31)) = ft_bs b0 b1 b2 true := by decide +kernel
theorem ft_bS_cg {f f' : Nat → Bool} (h : ∀ c, c < 4 → f c = f' c) : ft_bS f = ft_bS f' := by
  unfold ft_bS
  rw [h 0 (by omega), h 1 (by omega), h 2 (by omega), h 3 (by omega)]
theorem ft_bS_or {f f' : Nat → Bool} {c : Nat} (hc : c < 4) (h : ∀ d, d < 4 → f' d = (f d || decide (d = c))) : ft_bS f ||| ((1 : Int32) <<< (nI c &&& 31)) = ft_bS f' := by
  have h4 := ft_bs_or (f 0) (f 1) (f 2) (f 3)
  unfold ft_bS
  rw [h 0 (by omega), h 1 (by omega), h 2 (by omega), h 3 (by omega)]
  have h5 : c = 0 ∨ c = 1 ∨ c = 2 ∨ c = 3 := by omega
  rcases h5 with rfl | rfl | rfl | rfl
  · rw [h4.1]; simp
  · rw [h4.2.1]; simp
  · rw [h4.2.2.1]; simp
  · rw [h4.2.2.2]; simp
section
variable {yl yc : Int32} {rl rn rw rt : Nat → Int32}
variable {L m k : Nat} {D Q s t : List Nat} {W : Nat → List Nat} {g : Nat → Nat} {l : List (List Nat)} {σ : Nat → Nat}
theorem ft_y_re10 {post : Int32 → SY → Prop} {a : Nat} (ha : a < 14) (la : rn a = nI t.length) (ht : t.length ≤ 6) (lq : rn 13 = nI Q.length) (hQ : Q.length ≤ 6)
    (hrt : ∀ i j, i ≤ Q.length → j ≤ t.length → rt (i * 7 + j) = nI (ft_ed (ft_tk Q i) (ft_tk t j))) (h : post (nI (ft_rc Q t)) (yl, yc, rl, rn, rw, rt)) :
    ∀ e j b : Nat, j + e = t.length + 1 → b = (if j = 0 then 9 else ft_rc Q (ft_tk t (j - 1))) → ∀ n, e < n → wY_reach_10 post (nI a) yl yc rl rn rw rt n (nI b) (nI j) := by
  intro e
  induction e with
  | zero =>
    intro j b hj hb n hn
    obtain ⟨n, rfl⟩ : ∃ n', n = n' + 1 := ⟨n - 1, by omega⟩
    have e1 : j = t.length + 1 := by omega
    subst e1
    rw [if_neg (by omega), Nat.add_sub_cancel, ft_tk_all] at hb
    unfold wY_reach_10
    rw [nI_clamp (n := a) (by omega), la, hb]
    exact ⟨vp_in_nI ha (by omega), br_t (nI_lt (by omega) (by omega)) h⟩
  | succ e ih =>
    intro j b hj hb n hn
    obtain ⟨n, rfl⟩ : ∃ n', n = n' + 1 := ⟨n - 1, by omega⟩
    have hv := hrt Q.length j (Nat.le_refl _) (by omega)
    rw [ft_tk_all] at hv
    have b1 := ft_ed_le Q (ft_tk t j)
    rw [ft_tk_len (by omega)] at b1
    have hb9 : b ≤ 9 := by
      rw [hb]
      split
      · omega
      · have := ft_rc_le Q (ft_tk t (j - 1)); omega
    unfold wY_reach_10
    rw [nI_clamp (n := a) (by omega), la, lq, ft_7, nI_clamp (n := Q.length * 7 + j) (by omega), hv]
    refine ⟨vp_in_nI ha (by omega), br_f (nI_nlt (by omega) (by omega)) ⟨vp_in_nI (by omega) (by omega), ft_y_least (by omega) (by omega) (nm_r (nI_1 j) (ih (j + 1) _ (by omega) ?_ n (by omega)))⟩⟩
    rw [if_neg (by omega), Nat.add_sub_cancel, hb]
    by_cases z : j = 0
    · rw [z, if_pos rfl, ft_tk_0, ft_ed_nil]
      show _ = ft_ed Q []
      rw [ft_ed_nil]
      omega
    · obtain ⟨j, rfl⟩ : ∃ j', j = j' + 1 := ⟨j - 1, by omega⟩
      rw [if_neg z, Nat.add_sub_cancel, ft_tk_s (by omega), Nat.min_comm]
      rfl
theorem ft_y_reach {post : Int32 → SY → Prop} {w : Nat} (hW : ft_Wd m W g) (hY : ft_Y m D Q W g rl rn rw) (hw : w < m) (h : ∀ rt', post (nI (ft_rc Q (W w))) (yl, yc, rl, rn, rw, rt')) : wpY_reach post (yl, yc, rl, rn, rw, rt) (nI w) := by
  have hm := hW.1
  have h1 := hY.2.2 w hw
  have h2 := (hW.2.1 w hw).2.1
  unfold wpY_reach
  dsimp only
  refine ft_y_fill (by omega) h1.1 h1.2.1 h2 hY.2.1.1 hY.2.1.2.1 hY.2.1.2.2 (fun rt' hrt => ⟨(W w).length + 2, ?_⟩)
  exact ft_y_re10 (by omega) h1.2.1 h2 hY.2.1.2.1 hY.2.1.2.2 hrt (h rt') ((W w).length + 1) 0 9 (by omega) (by rw [if_pos rfl]) _ (by omega)
theorem ft_y_off {post : Int32 → SY → Prop} {w : Nat} (hL : L ≤ 3) (hW : ft_Wd m W g) (hY : ft_Y m D Q W g rl rn rw) (hw : w < m) (h1 : ∀ rt', ft_rc Q (W w) ≤ L → post 1 (nI L, yc, rl, rn, rw, rt')) (h0 : ∀ rt', ¬ ft_rc Q (W w) ≤ L → post 0 (nI L, yc, rl, rn, rw, rt')) : wpY_isOffered post (nI L, yc, rl, rn, rw, rt) (nI w) := by
  have hQ := hY.2.1.2.2
  have b := ft_rc_le Q (W w)
  unfold wpY_isOffered
  dsimp only
  refine ft_y_reach hW hY hw (fun rt' => ?_)
  exact pk_lt L (ft_rc Q (W w)) (fun z => h0 rt' (by omega)) (fun z => h1 rt' z)
theorem ft_y_be2 {post : Int32 → Prop} {a b : Nat} (ha : a < 14) (hb : b < 14) (As : ft_At rl (6 * a) s) (Bt : ft_At rl (6 * b) t) (la : rn a = nI s.length) (lb : rn b = nI t.length) (hs : s.length ≤ 6) (ht : t.length ≤ 6)
    (h1 : ft_kk s < ft_kk t → post 1) (h0 : ¬ ft_kk s < ft_kk t → post 0) :
    ∀ e i : Nat, i + e = s.length → i ≤ t.length → (∀ j, j < i → ft_lt s j = ft_lt t j) → ∀ n, e < n → wY_before_2 post (nI a) (nI b) yl yc rl rn rw rt n (nI i) := by
  have os := ft_At_ok As
  have ot := ft_At_ok Bt
  have end' : ∀ i, (∀ j, j < i → ft_lt s j = ft_lt t j) → i ≤ s.length → i ≤ t.length → (s.length ≤ i ∨ t.length ≤ i) → wY_before_84 post (nI a) (nI b) yl yc rl rn rw rt := by
    intro i hI i1 i2 hi
    unfold wY_before_84
    rw [nI_clamp (n := a) (by omega), nI_clamp (n := b) (by omega), la, lb]
    refine ⟨vp_in_nI ha (by omega), vp_in_nI hb (by omega), pk_le t.length s.length (fun z => h0 ?_) (fun z => h1 ?_)⟩
    · have := ft_kk_sf (ft_sf_of z fun j hj => (hI j (by omega)).symm) os hs
      omega
    · exact ft_kk_pr (ft_sf_of (by omega) fun j hj => hI j (by omega)) ot ht z
  intro e
  induction e with
  | zero =>
    intro i hi hit hI n hn
    obtain ⟨n, rfl⟩ : ∃ n', n = n' + 1 := ⟨n - 1, by omega⟩
    unfold wY_before_2
    rw [nI_clamp (n := a) (by omega), la]
    exact ⟨vp_in_nI ha (by omega), br_t (nI_le (by omega) (by omega)) (end' i hI (by omega) hit (Or.inl (by omega)))⟩
  | succ e ih =>
    intro i hi hit hI n hn
    obtain ⟨n, rfl⟩ : ∃ n', n = n' + 1 := ⟨n - 1, by omega⟩
    unfold wY_before_2
    rw [nI_clamp (n := a) (by omega), nI_clamp (n := b) (by omega), la, lb, ft_6, ft_6, nI_clamp (n := 6 * a + i) (by omega), nI_clamp (n := 6 * b + i) (by omega)]
    refine ⟨vp_in_nI ha (by omega), br_f (nI_ge (by omega) (by omega)) ⟨vp_in_nI hb (by omega), pk_le t.length i (fun z => end' i hI (by omega) hit (Or.inr z)) (fun z => ?_)⟩⟩
    have q1 := ft_At_lt As (i := i) (by omega)
    have q2 := ft_At_lt Bt (i := i) (by omega)
    have c1 := ft_ok_lt os i
    have c2 := ft_ok_lt ot i
    rw [q1, q2]
    have v1 : vp_in (nI (6 * a + i)) 84 := vp_in_nI (by omega) (by omega)
    have v2 : vp_in (nI (6 * b + i)) 84 := vp_in_nI (by omega) (by omega)
    have hp : ft_tk s i = ft_tk t i := by
      have hl1 := ft_tk_len (w := s) (i := i) (by omega)
      have hl2 := ft_tk_len (w := t) (i := i) (by omega)
      have : ft_sf (ft_tk s i) (ft_tk t i) = true := ft_sf_of (by omega) fun j hj => by
        rw [ft_lt_tk (by omega) (by omega), ft_lt_tk (by omega) (by omega)]
        exact hI j (by omega)
      exact ft_sf_le this (by omega)
    have p1 : ft_sf (ft_lt s i :: ft_tk s i) s = true := by rw [← ft_tk_s (by omega)]; exact ft_tk_sf _ _
    have p2 : ft_sf (ft_lt t i :: ft_tk s i) t = true := by rw [hp, ← ft_tk_s (by omega)]; exact ft_tk_sf _ _
    refine ⟨v1, v2, pk_eq (ft_lt s i) (ft_lt t i) (fun y => nm_r (nI_1 i) (ih (i + 1) (by omega) (by omega) (fun j hj => ?_) n (by omega))) (fun y => ⟨v1, v2, pk_le (ft_lt t i) (ft_lt s i) (fun x => h0 ?_) (fun x => h1 ?_)⟩)⟩
    · by_cases x : j = i
      · rw [x]; exact y
      · exact hI j (by omega)
    · have := ft_kk_lt p2 p1 ot os ht hs (by omega)
      omega
    · exact ft_kk_lt p1 p2 os ot hs ht x
theorem ft_y_rb {post : Int32 → SY → Prop} {a b : Nat} (hW : ft_Wd m W g) (hY : ft_Y m D Q W g rl rn rw) (ha : a < m) (hb : b < m) (h1 : ∀ rt', ft_bf Q W g a b → post 1 (yl, yc, rl, rn, rw, rt')) (h0 : ∀ rt', ¬ ft_bf Q W g a b → post 0 (yl, yc, rl, rn, rw, rt')) : wpY_ranksBefore post (yl, yc, rl, rn, rw, rt) (nI a) (nI b) := by
  have hm := hW.1
  have hQ := hY.2.1.2.2
  have a1 := hY.2.2 a ha
  have b1 := hY.2.2 b hb
  have a2 := hW.2.1 a ha
  have b2 := hW.2.1 b hb
  have a3 := ft_rc_le Q (W a)
  have b3 := ft_rc_le Q (W b)
  have va : vp_in (nI a) 12 := vp_in_nI (by omega) (by omega)
  have vb : vp_in (nI b) 12 := vp_in_nI (by omega) (by omega)
  unfold wpY_ranksBefore
  dsimp only
  refine ft_y_reach hW hY ha (fun rt1 => ?_)
  dsimp only
  refine ft_y_reach hW hY hb (fun rt2 => ?_)
  dsimp only
  rw [nI_clamp (n := a) (by omega), nI_clamp (n := b) (by omega), a1.2.2, b1.2.2]
  have H1 := h1 rt2
  have H0 := h0 rt2
  unfold ft_bf ft_hk at H1 H0
  refine pk_eq (ft_rc Q (W a)) (ft_rc Q (W b)) (fun z => ⟨va, vb, pk_eq (g a) (g b) (fun y => ?_) (fun y => ⟨va, vb, pk_le (g a) (g b) (fun x => H0 (by omega)) (fun x => H1 (by omega))⟩)⟩) (fun z => pk_le (ft_rc Q (W b)) (ft_rc Q (W a)) (fun y => H0 (by omega)) (fun y => H1 (by omega)))
  refine ⟨(W a).length + 1, ft_y_be2 (by omega) (by omega) a1.1 b1.1 a1.2.1 b1.2.1 a2.2.1 b2.2.1 (fun x => ⟨narrow_b1, H1 (by omega)⟩) (fun x => ⟨narrow_b0, H0 (by omega)⟩) (W a).length 0 (by omega) (by omega) (fun j hj => absurd hj (by omega)) _ (by omega)⟩
theorem ft_y_of4 {post : Int32 → SY → Prop} (hL : L ≤ 3) (hW : ft_Wd m W g) (hY : ft_Y m D Q W g rl rn rw) (h : ∀ rt', post (nI (ft_cn (fun w => decide (ft_rc Q (W w) ≤ L)) m)) (nI L, nI m, rl, rn, rw, rt')) :
    ∀ (e j : Nat) (rt' : Nat → Int32), j + e = m → ∀ n, e < n → wY_offered_4 post n (nI (ft_cn (fun w => decide (ft_rc Q (W w) ≤ L)) j)) (nI j) (nI L) (nI m) rl rn rw rt' := by
  have hm := hW.1
  intro e
  induction e with
  | zero =>
    intro j rt' hj n hn
    obtain ⟨n, rfl⟩ : ∃ n', n = n' + 1 := ⟨n - 1, by omega⟩
    have e1 : j = m := by omega
    subst e1
    exact br_t (nI_le (Nat.le_refl _) (by omega)) (h rt')
  | succ e ih =>
    intro j rt' hj n hn
    obtain ⟨n, rfl⟩ : ∃ n', n = n' + 1 := ⟨n - 1, by omega⟩
    refine br_f (nI_ge (by omega) (by omega)) (ft_y_off hL hW hY (by omega) (fun rt2 z => ?_) (fun rt2 z => ?_))
    · have y := ih (j + 1) rt2 (by omega) n (by omega)
      simp only [ft_cn] at y
      rw [decide_eq_true z] at y
      exact br_f ft_n10 (nm_r (nI_1 _) (nm_r (nI_1 j) y))
    · have y := ih (j + 1) rt2 (by omega) n (by omega)
      simp only [ft_cn] at y
      rw [decide_eq_false z] at y
      exact br_t rfl (nm_r (nI_1 j) y)
theorem ft_y_offered {post : Int32 → SY → Prop} (hL : L ≤ 3) (hW : ft_Wd m W g) (hY : ft_Y m D Q W g rl rn rw) (h : ∀ rt', post (nI (ft_cn (fun w => decide (ft_rc Q (W w) ≤ L)) m)) (nI L, nI m, rl, rn, rw, rt')) : wpY_offered post (nI L, nI m, rl, rn, rw, rt) :=
  ⟨m + 1, ft_y_of4 hL hW hY h m 0 rt (by omega) _ (by omega)⟩
theorem ft_y_rk4 {post : Int32 → SY → Prop} {w : Nat} (hL : L ≤ 3) (hW : ft_Wd m W g) (hY : ft_Y m D Q W g rl rn rw) (hw : w < m) (h : ∀ rt', post (nI (ft_cn (fun v => decide (ft_rc Q (W v) ≤ L) && ft_bb Q W g v w) m)) (nI L, nI m, rl, rn, rw, rt')) :
    ∀ (e j : Nat) (rt' : Nat → Int32), j + e = m → ∀ n, e < n → wY_rankOf_4 post (nI w) n (nI (ft_cn (fun v => decide (ft_rc Q (W v) ≤ L) && ft_bb Q W g v w) j)) (nI j) (nI L) (nI m) rl rn rw rt' := by
  have hm := hW.1
  intro e
  induction e with
  | zero =>
    intro j rt' hj n hn
    obtain ⟨n, rfl⟩ : ∃ n', n = n' + 1 := ⟨n - 1, by omega⟩
    have e1 : j = m := by omega
    subst e1
    exact br_t (nI_le (Nat.le_refl _) (by omega)) (h rt')
  | succ e ih =>
    intro j rt' hj n hn
    obtain ⟨n, rfl⟩ : ∃ n', n = n' + 1 := ⟨n - 1, by omega⟩
    refine br_f (nI_ge (by omega) (by omega)) (ft_y_off hL hW hY (by omega) (fun rt2 z => br_f ft_n10 (ft_y_rb hW hY (by omega) hw (fun rt3 x => ?_) (fun rt3 x => ?_))) (fun rt2 z => ?_))
    · have y := ih (j + 1) rt3 (by omega) n (by omega)
      simp only [ft_cn] at y
      rw [decide_eq_true z, ft_bb_iff.mpr x] at y
      exact br_f ft_n10 (nm_r (nI_1 _) (nm_r (nI_1 j) y))
    · have y := ih (j + 1) rt3 (by omega) n (by omega)
      simp only [ft_cn] at y
      have x' : ft_bb Q W g j w = false := by
        cases q : ft_bb Q W g j w with
        | false => rfl
        | true => exact absurd (ft_bb_iff.mp q) x
      rw [decide_eq_true z, x'] at y
      exact br_t rfl (nm_r (nI_1 j) y)
    · have y := ih (j + 1) rt2 (by omega) n (by omega)
      simp only [ft_cn] at y
      rw [decide_eq_false z, Bool.false_and] at y
      exact br_t rfl (nm_r (nI_1 j) y)
theorem ft_y_wa2 {post : Int32 → SY → Prop} {x : Int32} (hL : L ≤ 3) (hW : ft_Wd m W g) (hY : ft_Y m D Q W g rl rn rw) (R : ft_R L m Q W g l k σ) (hall : ∀ w, w < m → W w ∈ l)
    (h1 : ∀ r rt', r < k → x = nI r → post (nI (σ r)) (nI L, nI m, rl, rn, rw, rt')) (h0 : ∀ rt', (∀ r, r < k → x ≠ nI r) → post (-4) (nI L, nI m, rl, rn, rw, rt')) :
    ∀ (e j : Nat) (rt' : Nat → Int32), j + e = m → (∀ r, r < k → σ r < j → x ≠ nI r) → ∀ n, e < n → wY_wordAt_2 post x n (nI j) (nI L) (nI m) rl rn rw rt' := by
  have hm := hW.1
  intro e
  induction e with
  | zero =>
    intro j rt' hj hI n hn
    obtain ⟨n, rfl⟩ : ∃ n', n = n' + 1 := ⟨n - 1, by omega⟩
    have e1 : j = m := by omega
    subst e1
    exact br_t (nI_le (Nat.le_refl _) (by omega)) (h0 rt' fun r hr => hI r hr (R.1 r hr).1)
  | succ e ih =>
    intro j rt' hj hI n hn
    obtain ⟨n, rfl⟩ : ∃ n', n = n' + 1 := ⟨n - 1, by omega⟩
    have next : ∀ rt2, (∀ r, r < k → σ r = j → x ≠ nI r) → wY_wordAt_2 post x n (nI (j + 1)) (nI L) (nI m) rl rn rw rt2 := fun rt2 hx => ih (j + 1) rt2 (by omega) (fun r hr hs => by
      by_cases z : σ r = j
      · exact hx r hr z
      · exact hI r hr (by omega)) n (by omega)
    refine br_f (nI_ge (by omega) (by omega)) (ft_y_off hL hW hY (by omega) (fun rt2 z => br_f ft_n10 ?_) (fun rt2 z => br_t rfl (nm_r (nI_1 j) (next rt2 fun r hr e => ?_))))
    · obtain ⟨r, hr, er⟩ := R.2.2 j (by omega) (hall j (by omega)) z
      have hc : ft_cn (fun v => decide (ft_rc Q (W v) ≤ L) && ft_bb Q W g v j) m = r := ft_R_cn R hall hr (fun v hv => by
        rw [Bool.and_eq_true, decide_eq_true_eq, ft_bb_iff, er])
      have key : ∀ post' : Int32 → SY → Prop, (∀ rt3, post' (nI r) (nI L, nI m, rl, rn, rw, rt3)) → wpY_rankOf post' (nI L, nI m, rl, rn, rw, rt2) (nI j) := fun post' hp =>
        ⟨m + 1, ft_y_rk4 hL hW hY (by omega) (fun rt3 => by rw [hc]; exact hp rt3) m 0 rt2 (by omega) _ (by omega)⟩
      refine key _ (fun rt3 => br_c (fun y => ?_) (fun y => nm_r (nI_1 j) (next rt3 fun r' hr' e => ?_)))
      · rw [← er]
        exact h1 r rt3 hr y.symm
      · have := ft_R_inj R r' r hr' hr (by omega)
        rw [this]
        exact fun q => y q.symm
    · exact absurd (R.1 r hr).2.1 (by rw [e]; exact z)
theorem ft_y_wordAt {post : Int32 → SY → Prop} {x : Int32} (hL : L ≤ 3) (hW : ft_Wd m W g) (hY : ft_Y m D Q W g rl rn rw) (R : ft_R L m Q W g l k σ) (hall : ∀ w, w < m → W w ∈ l)
    (h1 : ∀ r rt', r < k → x = nI r → post (nI (σ r)) (nI L, nI m, rl, rn, rw, rt')) (h0 : ∀ rt', (∀ r, r < k → x ≠ nI r) → post (-4) (nI L, nI m, rl, rn, rw, rt')) : wpY_wordAt post (nI L, nI m, rl, rn, rw, rt) x :=
  ⟨m + 1, ft_y_wa2 hL hW hY R hall h1 h0 m 0 rt (by omega) (fun r _ hs => absurd hs (by omega)) _ (by omega)⟩
theorem ft_y_of20 {post : Int32 → SY → Prop} {w : Nat} (hW : ft_Wd m W g) (hY : ft_Y m D Q W g rl rn rw) (hw : w < m) (h : post (nI (ft_co (W w))) (yl, yc, rl, rn, rw, rt)) :
    ∀ e j : Nat, j + e = (W w).length → ∀ n, e < n → wY_offer_20 post (nI w) yl yc rl rn rw rt n (nI (ft_co (ft_tk (W w) j))) (nI j) := by
  have hm := hW.1
  have h1 := hY.2.2 w hw
  have h2 := hW.2.1 w hw
  intro e
  induction e with
  | zero =>
    intro j hj n hn
    obtain ⟨n, rfl⟩ : ∃ n', n = n' + 1 := ⟨n - 1, by omega⟩
    have e1 : j = (W w).length := by omega
    subst e1
    unfold wY_offer_20
    rw [nI_clamp (n := w) (by omega), h1.2.1, ft_tk_all]
    exact ⟨vp_in_nI (by omega) (by omega), br_t (nI_le (Nat.le_refl _) (by omega)) h⟩
  | succ e ih =>
    intro j hj n hn
    obtain ⟨n, rfl⟩ : ∃ n', n = n' + 1 := ⟨n - 1, by omega⟩
    have q1 := ft_At_lt h1.1 (i := j) (by omega)
    have y := ih (j + 1) (by omega) n (by omega)
    rw [ft_tk_s (by omega)] at y
    unfold wY_offer_20
    rw [nI_clamp (n := w) (by omega), h1.2.1, ft_6, nI_clamp (n := 6 * w + j) (by omega), q1]
    refine ⟨vp_in_nI (by omega) (by omega), br_f (nI_ge (by omega) (by omega)) ⟨vp_in_nI (by omega) (by omega), nm_r ?_ (nm_r (nI_1 j) y)⟩⟩
    rw [show (5 : Int32) = nI 5 from rfl, pk_mul, nI_add, nI_1]
    rfl
theorem ft_y_ne5 {post : Int32 → SY → Prop} (hL : L ≤ 3) (hW : ft_Wd m W g) (hY : ft_Y m D Q W g rl rn rw)
    (h1 : ∀ rt', ft_mn (fun w => ft_ed Q (W w)) m ≤ L → post (nI (ft_mn (fun w => ft_ed Q (W w)) m)) (nI L, nI m, rl, rn, rw, rt')) (h0 : ∀ rt', ¬ ft_mn (fun w => ft_ed Q (W w)) m ≤ L → post (-4) (nI L, nI m, rl, rn, rw, rt')) :
    ∀ (e j : Nat) (rt' : Nat → Int32), j + e = m → ∀ n, e < n → wY_nearest_5 post n (nI (ft_mn (fun w => ft_ed Q (W w)) j)) (nI j) (nI L) (nI m) rl rn rw rt' := by
  have hm := hW.1
  intro e
  induction e with
  | zero =>
    intro j rt' hj n hn
    obtain ⟨n, rfl⟩ : ∃ n', n = n' + 1 := ⟨n - 1, by omega⟩
    have e1 : j = m := by omega
    subst e1
    have b := ft_mn_le9 (fun w => ft_ed Q (W w)) j
    exact br_t (nI_le (Nat.le_refl _) (by omega)) (pk_lt L _ (fun z => h0 rt' (by omega)) (fun z => h1 rt' z))
  | succ e ih =>
    intro j rt' hj n hn
    obtain ⟨n, rfl⟩ : ∃ n', n = n' + 1 := ⟨n - 1, by omega⟩
    have a1 := hY.2.2 j (by omega)
    have a2 := (hW.2.1 j (by omega)).2.1
    have hQ := hY.2.1.2.2
    have b := ft_mn_le9 (fun w => ft_ed Q (W w)) j
    have b2 := ft_ed_le Q (W j)
    refine br_f (nI_ge (by omega) (by omega)) ?_
    refine ft_y_fill (by omega) a1.1 a1.2.1 a2 hY.2.1.1 hY.2.1.2.1 hQ (fun rt2 hrt => ?_)
    have hv := hrt Q.length (W j).length (Nat.le_refl _) (Nat.le_refl _)
    rw [ft_tk_all, ft_tk_all] at hv
    dsimp only
    rw [nI_clamp (n := j) (by omega), a1.2.1, hY.2.1.2.1, ft_7, nI_clamp (n := Q.length * 7 + (W j).length) (by omega), hv]
    exact ⟨vp_in_nI (by omega) (by omega), vp_in_nI (by omega) (by omega), ft_y_least (by omega) (by omega) (nm_r (nI_1 j) (ih (j + 1) rt2 (by omega) n (by omega)))⟩
theorem ft_y_nearest {post : Int32 → SY → Prop} (hL : L ≤ 3) (hW : ft_Wd m W g) (hY : ft_Y m D Q W g rl rn rw)
    (h1 : ∀ rt', ft_mn (fun w => ft_ed Q (W w)) m ≤ L → post (nI (ft_mn (fun w => ft_ed Q (W w)) m)) (nI L, nI m, rl, rn, rw, rt')) (h0 : ∀ rt', ¬ ft_mn (fun w => ft_ed Q (W w)) m ≤ L → post (-4) (nI L, nI m, rl, rn, rw, rt')) : wpY_nearest post (nI L, nI m, rl, rn, rw, rt) :=
  ⟨m + 1, ft_y_ne5 hL hW hY h1 h0 m 0 rt (by omega) _ (by omega)⟩
theorem ft_y_ex4 {post : Int32 → Prop} (hW : ft_Wd m W g) (hY : ft_Y m D Q W g rl rn rw) (h : post (nI (ft_C m W Q))) :
    ∀ e j : Nat, j + e = m → ∀ n, e < n → wY_exact_4 post yl (nI m) rl rn rw rt n (nI (ft_C j W Q)) (nI j) := by
  have hm := hW.1
  intro e
  induction e with
  | zero =>
    intro j hj n hn
    obtain ⟨n, rfl⟩ : ∃ n', n = n' + 1 := ⟨n - 1, by omega⟩
    have e1 : j = m := by omega
    subst e1
    exact br_t (nI_le (Nat.le_refl _) (by omega)) h
  | succ e ih =>
    intro j hj n hn
    obtain ⟨n, rfl⟩ : ∃ n', n = n' + 1 := ⟨n - 1, by omega⟩
    have a1 := hY.2.2 j (by omega)
    have a2 := (hW.2.1 j (by omega)).2.1
    have hQ := hY.2.1
    have y := ih (j + 1) (by omega) n (by omega)
    have ec : ft_C (j + 1) W Q = ft_C j W Q + (ft_sf Q (W j)).toNat := rfl
    rw [ec] at y
    refine br_f (nI_ge (by omega) (by omega)) (ft_y_begins (a := 13) (by omega) (by omega) hQ.1 a1.1 hQ.2.1 a1.2.1 hQ.2.2 a2 (fun z => ?_) (fun z => ?_))
    · rw [z] at y
      exact br_f ft_n10 (nm_r (nI_1 _) (nm_r (nI_1 j) y))
    · rw [z] at y
      exact br_t rfl (nm_r (nI_1 j) y)
theorem ft_y_exact {post : Int32 → Prop} (hW : ft_Wd m W g) (hY : ft_Y m D Q W g rl rn rw) (h : post (nI (ft_C m W Q))) : wpY_exact post (yl, nI m, rl, rn, rw, rt) :=
  ⟨m + 1, ft_y_ex4 hW hY h m 0 (by omega) _ (by omega)⟩
theorem ft_y_co4 {post : Int32 → Prop} (hW : ft_Wd m W g) (hY : ft_Y m D Q W g rl rn rw) (h : post (ft_bS fun c => decide (0 < ft_C m W (c :: Q)))) :
    ∀ e j : Nat, j + e = m → ∀ n, e < n → wY_continues_4 post yl (nI m) rl rn rw rt n (ft_bS fun c => decide (0 < ft_C j W (c :: Q))) (nI j) := by
  have hm := hW.1
  intro e
  induction e with
  | zero =>
    intro j hj n hn
    obtain ⟨n, rfl⟩ : ∃ n', n = n' + 1 := ⟨n - 1, by omega⟩
    have e1 : j = m := by omega
    subst e1
    exact br_t (nI_le (Nat.le_refl _) (by omega)) h
  | succ e ih =>
    intro j hj n hn
    obtain ⟨n, rfl⟩ : ∃ n', n = n' + 1 := ⟨n - 1, by omega⟩
    have a1 := hY.2.2 j (by omega)
    have a2 := (hW.2.1 j (by omega)).2
    have hQ := hY.2.1
    have hQ6 := hQ.2.2
    have a3 := a2.1
    have y := ih (j + 1) (by omega) n (by omega)
    have ec : ∀ c, ft_C (j + 1) W (c :: Q) = ft_C j W (c :: Q) + (ft_sf (c :: Q) (W j)).toNat := fun _ => rfl
    have same : (∀ c, ft_sf (c :: Q) (W j) = false) → (ft_bS fun c => decide (0 < ft_C (j + 1) W (c :: Q))) = ft_bS fun c => decide (0 < ft_C j W (c :: Q)) := fun hf => ft_bS_cg fun c _ => by
      rw [ec, hf c]
      rfl
    refine br_f (nI_ge (by omega) (by omega)) (ft_y_begins (a := 13) (by omega) (by omega) hQ.1 a1.1 hQ.2.1 a1.2.1 hQ.2.2 a2.1 (fun z => br_f ft_n10 ⟨vp_in_nI (by omega) (by omega), ?_⟩) (fun z => br_t rfl (nm_r (nI_1 j) ?_)))
    · rw [nI_clamp (n := j) (by omega), a1.2.1, hQ.2.1]
      refine pk_le (W j).length Q.length (fun x => nm_r (nI_1 j) ?_) (fun x => ?_)
      · rw [← same fun c => by
          cases q : ft_sf (c :: Q) (W j) with
          | false => rfl
          | true => have := ft_sf_len q; simp only [List.length_cons] at this; omega]
        exact y
      · have q1 := ft_At_lt a1.1 x
        have c1 := ft_ok_lt a2.2.1 Q.length
        rw [ft_6, nI_clamp (n := 6 * j + Q.length) (by omega), q1]
        refine ⟨vp_in_nI (by omega) (by omega), nm_r (ft_bS_or c1 fun c hc => ?_) (nm_r (nI_1 j) y)⟩
        rw [ec]
        by_cases p : c = ft_lt (W j) Q.length
        · rw [decide_eq_true p, Bool.or_true, p, ft_sf_more z x]
          exact decide_eq_true (by rw [Bool.toNat_true]; omega)
        · have q : ft_sf (c :: Q) (W j) = false := by
            cases q : ft_sf (c :: Q) (W j) with
            | false => rfl
            | true => exact absurd (ft_sf_lt q).2.symm p
          rw [decide_eq_false p, Bool.or_false, q]
          rfl
    · rw [← same fun c => by
        cases q : ft_sf (c :: Q) (W j) with
        | false => rfl
        | true => rw [ft_sf_tl q] at z; exact absurd z (by decide)]
      exact y
theorem ft_y_continues {post : Int32 → Prop} (hW : ft_Wd m W g) (hY : ft_Y m D Q W g rl rn rw) (h : post (ft_bS fun c => decide (0 < ft_C m W (c :: Q)))) : wpY_continues post (yl, nI m, rl, rn, rw, rt) :=
  ⟨m + 1, ft_y_co4 hW hY h m 0 (by omega) _ (by omega)⟩
end
end
section
/-! the component's questions -/
section
variable {xl xd xt xw xc : Int32} {qd qq qb qc qp ql qe qo qw qn qk qr qs qh : Nat → Int32}
variable {C N : List Nat → Nat} {L m k : Nat} {D Q : List Nat} {W : Nat → List Nat} {g : Nat → Nat} {σ : Nat → Nat}
theorem ft_x_bad {post : Int32 → Prop} {x : Int32} (h1 : (∀ c, c < 4 → x ≠ nI c) → post 1) (h0 : ∀ c, c < 4 → x = nI c → post 0) : wpX_badLetter post (xl, xd, xt, xw, xc, qd, qq, qb, qc, qp, ql, qe, qo, qw, qn, qk, qr, qs, qh) x := by
  show (x < 0 → post 1) ∧ (¬ x < 0 → ((x ≤ 3 → post 0) ∧ (¬ x ≤ 3 → post 1)))
  refine br_c (fun z => h1 fun c hc e => ?_) (fun z => ?_)
  · rw [e] at z; exact nI_pos (by omega) z
  · obtain ⟨j, hj, rfl⟩ := nI_of z
    refine pk_le j 3 (fun y => h0 j (by omega) rfl) (fun y => h1 fun c hc e => ?_)
    rw [nI_eq hj (by omega)] at e
    omega
theorem ft_x_badRank {post : Int32 → Prop} {x : Int32} (hk : k ≤ 12) (h0 : ∀ r, r < k → x = nI r → post 0) (h1 : (∀ r, r < k → x ≠ nI r) → post 1) : wpX_badRank post (xl, xd, xt, xw, nI k, qd, qq, qb, qc, qp, ql, qe, qo, qw, qn, qk, qr, qs, qh) x := by
  show (x < 0 → post 1) ∧ (¬ x < 0 → ((x < nI k → post 0) ∧ (¬ x < nI k → post 1)))
  refine br_c (fun z => h1 fun c hc e => ?_) (fun z => ?_)
  · rw [e] at z; exact nI_pos (by omega) z
  · obtain ⟨j, hj, rfl⟩ := nI_of z
    refine pk_lt j k (fun y => h0 j (by omega) rfl) (fun y => h1 fun c hc e => ?_)
    rw [nI_eq hj (by omega)] at e
    omega
theorem ft_x_ne9 {post : Int32 → Prop} (hL : L ≤ 3) (T : ft_T C N qb qc qp ql qe qo) (hC : ft_Cg C) (hW : ft_Wd m W g) (hWt : ft_Wt m W g C N qw) (hQ : Q.length ≤ 6)
    (hnr : ∀ p, ft_in C p → qn (Q.length * 80 + N p) = nI (ft_cap L (ft_ed Q p)))
    (h : ∀ b, (∀ w, w < m → b ≤ ft_cap L (ft_ed Q (W w))) → (b = L + 1 ∨ ∃ w, w < m ∧ b = ft_cap L (ft_ed Q (W w))) → (nI b ≤ nI L → post (nI b)) ∧ (¬ nI b ≤ nI L → post (-4))) :
    ∀ e j b : Nat, j + e = 80 → 1 ≤ j → b ≤ L + 1 → (∀ w, w < m → N (W w) < j → b ≤ ft_cap L (ft_ed Q (W w))) → (b = L + 1 ∨ ∃ w, w < m ∧ b = ft_cap L (ft_ed Q (W w))) →
      ∀ n, e < n → wX_nearest_9 post (nI L) xd (nI Q.length) xw xc qd qq qb qc qp ql qe qo qw qn qk qr qs qh n (nI b) (nI j) := by
  intro e
  induction e with
  | zero =>
    intro j b hj hj1 hb h1 h2 n hn
    obtain ⟨n, rfl⟩ : ∃ n', n = n' + 1 := ⟨n - 1, by omega⟩
    have hj' : j = 80 := by omega
    subst hj'
    exact br_t (nI_le (Nat.le_refl 80) (by decide)) (h b (fun w hw => h1 w hw (T.2.1 _ (hWt.1 w hw).1).1) h2)
  | succ e ih =>
    intro j b hj hj1 hb h1 h2 n hn
    obtain ⟨n, rfl⟩ : ∃ n', n = n' + 1 := ⟨n - 1, by omega⟩
    have vj : vp_in (nI j) 80 := vp_in_nI (by omega) (by omega)
    have next : (∀ w, w < m → N (W w) ≠ j) → wX_nearest_9 post (nI L) xd (nI Q.length) xw xc qd qq qb qc qp ql qe qo qw qn qk qr qs qh n (nI b) (nI (j + 1)) := fun hne =>
      ih (j + 1) b (by omega) (by omega) hb (fun w hw hlt => h1 w hw (by have := hne w hw; omega)) h2 n (by omega)
    refine br_f (ft_ge80 (by omega)) ⟨vj, ?_⟩
    rw [nI_clamp (n := j) (by omega), ft_m80, nI_add, nI_clamp (n := Q.length * 80 + j) (by omega)]
    refine br_c (fun z => nm_r (nI_1 j) (next fun w hw => ft_T_not T hC (by omega) z _ (hWt.1 w hw).1)) (fun z => ⟨vj, ?_⟩)
    obtain ⟨p, hp, ep⟩ := ft_T_node T (j := j) (by omega) (Or.inr z)
    by_cases hw : ∃ w, w < m ∧ W w = p
    · obtain ⟨w0, hw0, e0⟩ := hw
      subst e0
      have hw2 := (hWt.1 w0 hw0).2
      have hg := (hW.2.1 w0 hw0).2.2.2
      have hv := hnr _ hp
      have hcl := ft_cap_le L (ft_ed Q (W w0))
      rw [ep] at hw2 hv
      rw [hw2, hv]
      have vq : vp_in (nI (Q.length * 80 + j)) 560 := vp_in_nI (by omega) (by omega)
      have hself : ∀ w, w < m → N (W w) = j → w = w0 := fun w hw e => hW.2.2 w w0 hw hw0 (T.2.2.2.1 _ _ (hWt.1 w hw).1 hp (by omega))
      refine br_f (nI_pos (by omega)) ⟨vq, pk_le b (ft_cap L (ft_ed Q (W w0))) (fun y => nm_r (nI_1 j) ?_) (fun y => ⟨vq, nm_e (nm_r (nI_1 j) ?_)⟩)⟩
      · refine ih (j + 1) b (by omega) (by omega) hb (fun w hw hlt => ?_) h2 n (by omega)
        by_cases x : N (W w) = j
        · rw [hself w hw x]; exact y
        · exact h1 w hw (by omega)
      · refine ih (j + 1) _ (by omega) (by omega) hcl (fun w hw hlt => ?_) (Or.inr ⟨w0, hw0, rfl⟩) n (by omega)
        by_cases x : N (W w) = j
        · rw [hself w hw x]; exact Nat.le_refl _
        · have := h1 w hw (by omega); omega
    · have hq := hWt.2 p hp fun w hw' e => hw ⟨w, hw', e⟩
      rw [ep] at hq
      rw [hq]
      refine br_t (by decide) (nm_r (nI_1 j) (next fun w hw' e => hw ⟨w, hw', T.2.2.2.1 _ _ (hWt.1 w hw').1 hp (by omega)⟩))
theorem ft_x_nearest {post : Int32 → Prop} (hL : L ≤ 3) (T : ft_T C N qb qc qp ql qe qo) (hC : ft_Cg C) (hW : ft_Wd m W g) (hWt : ft_Wt m W g C N qw) (hQ : Q.length ≤ 6)
    (hnr : ∀ p, ft_in C p → qn (Q.length * 80 + N p) = nI (ft_cap L (ft_ed Q p)))
    (h1 : ft_mn (fun w => ft_ed Q (W w)) m ≤ L → post (nI (ft_mn (fun w => ft_ed Q (W w)) m))) (h0 : ¬ ft_mn (fun w => ft_ed Q (W w)) m ≤ L → post (-4)) : wpX_nearest post (nI L, xd, nI Q.length, xw, xc, qd, qq, qb, qc, qp, ql, qe, qo, qw, qn, qk, qr, qs, qh) := by
  refine nm_r (nI_1 L) ⟨80, ft_x_ne9 hL T hC hW hWt hQ hnr (fun b g1 g2 => ?_) 79 1 (L + 1) (by omega) (by omega) (by omega) (fun w hw hlt => ?_) (Or.inl rfl) 80 (by omega)⟩
  · have hb : b ≤ L + 1 := by
      rcases g2 with e | ⟨w, _, e⟩
      · omega
      · rw [e]; exact ft_cap_le _ _
    have hex := ft_mn_ex (fun w => ft_ed Q (W w)) m
    refine pk_le b L (fun z => ?_) (fun z => h0 fun y => ?_)
    · rcases g2 with e | ⟨w, hw, e⟩
      · omega
      · rw [e] at z
        have z2 := ft_cap_iff.mp z
        rw [ft_cap_eq z2] at e
        have l1 := ft_mn_le (f := fun w => ft_ed Q (W w)) hw
        have e2 : b = ft_mn (fun w => ft_ed Q (W w)) m := by
          rcases hex with q | ⟨w', hw', q⟩
          · omega
          · have g3 := g1 w' hw'
            rw [ft_cap_eq (by omega)] at g3
            omega
        rw [e2]
        exact h1 (by omega)
    · rcases hex with q | ⟨w', hw', q⟩
      · omega
      · have g3 := g1 w' hw'
        rw [ft_cap_eq (by omega)] at g3
        omega
  · have := ft_in_c (C := C) (p := (W w).tail) (c := (W w).headD 0)
    have h3 := (hWt.1 w hw).1
    have h4 := (hW.2.1 w hw).1
    cases hv : W w with
    | nil => rw [hv] at h4; simp only [List.length_nil] at h4; omega
    | cons c y =>
      rw [hv] at h3 hlt
      have := (T.2.2.1 c y (ft_in_c h3)).1
      omega
theorem ft_x_co9 {post : Int32 → Prop} (T : ft_T C N qb qc qp ql qe qo) (hin : ft_in C Q) (h : post (ft_bS fun c => decide (0 < C (c :: Q)))) :
    ∀ e j : Nat, j + e = 4 → ∀ n, e < n → wX_continues_9 post (nI (N Q)) xl xd xt xw xc qd qq qb qc qp ql qe qo qw qn qk qr qs qh n (ft_bS fun c => decide (c < j) && decide (0 < C (c :: Q))) (nI j) := by
  have hn := (T.2.1 Q hin).1
  intro e
  induction e with
  | zero =>
    intro j hj n hn
    obtain ⟨n, rfl⟩ : ∃ n', n = n' + 1 := ⟨n - 1, by omega⟩
    have hj' : j = 4 := by omega
    subst hj'
    refine br_t (nI_le (Nat.le_refl 4) (by decide)) ?_
    rw [ft_bS_cg (f' := fun c => decide (0 < C (c :: Q))) fun c hc => by rw [decide_eq_true hc, Bool.true_and]]
    exact h
  | succ e ih =>
    intro j hj n hnn
    obtain ⟨n, rfl⟩ : ∃ n', n = n' + 1 := ⟨n - 1, by omega⟩
    have y := ih (j + 1) (by omega) n (by omega)
    refine br_f (nI_ge (b := 4) (by omega) (by decide)) (br_f (nI_pos (by omega)) ?_)
    rw [ft_m4, nI_clamp (n := N Q * 4 + j) (by omega), T.2.2.2.2.1 Q j hin (by omega)]
    refine ⟨vp_in_nI (by omega) (by omega), ?_⟩
    by_cases h0 : 0 < C (j :: Q)
    · have h3 := (T.2.2.1 j Q h0).1
      have h4 := (T.2.1 _ (Or.inr h0)).1
      rw [if_pos h0]
      refine br_f (nI_ne0 (by omega) (by omega)) (nm_r (ft_bS_or (by omega) fun d hd => ?_) (nm_r (nI_1 j) y))
      by_cases z : d = j
      · rw [z, decide_eq_true h0, decide_eq_true (show j < j + 1 by omega)]; simp
      · have : decide (d < j + 1) = decide (d < j) := by
          rw [decide_eq_decide]
          omega
        rw [this, decide_eq_false z, Bool.or_false]
    · rw [if_neg h0]
      refine br_t rfl (nm_r (nI_1 j) ?_)
      rw [ft_bS_cg (f' := fun c => decide (c < j + 1) && decide (0 < C (c :: Q))) fun d hd => ?_]
      · exact y
      · by_cases z : d = j
        · rw [z, decide_eq_false h0, Bool.and_false, Bool.and_false]
        · have : decide (d < j + 1) = decide (d < j) := by
            rw [decide_eq_decide]
            omega
          rw [this]
theorem ft_x_co9n {post : Int32 → Prop} (h : post 0) : ∀ e j : Nat, j + e = 4 → ∀ n, e < n → wX_continues_9 post (-1) xl xd xt xw xc qd qq qb qc qp ql qe qo qw qn qk qr qs qh n 0 (nI j) := by
  intro e
  induction e with
  | zero =>
    intro j hj n hn
    obtain ⟨n, rfl⟩ : ∃ n', n = n' + 1 := ⟨n - 1, by omega⟩
    have hj' : j = 4 := by omega
    subst hj'
    exact br_t (nI_le (Nat.le_refl 4) (by decide)) h
  | succ e ih =>
    intro j hj n hnn
    obtain ⟨n, rfl⟩ : ∃ n', n = n' + 1 := ⟨n - 1, by omega⟩
    exact br_f (nI_ge (b := 4) (by omega) (by decide)) (br_t (by decide) (nm_r (nI_1 j) (ih (j + 1) (by omega) n (by omega))))
theorem ft_x_continues {post : Int32 → Prop} (T : ft_T C N qb qc qp ql qe qo) (hC : ft_Cg C) (hQ : Q.length ≤ 6) (hA : ft_At qq 0 Q) (h : post (ft_bS fun c => decide (0 < C (c :: Q)))) : wpX_continues post (xl, xd, nI Q.length, xw, xc, qd, qq, qb, qc, qp, ql, qe, qo, qw, qn, qk, qr, qs, qh) := by
  unfold wpX_continues
  dsimp only
  refine ft_x_queryNode T hC hQ hA (fun hin => ?_) (fun hout => ?_)
  · have z := ft_x_co9 (xl := xl) (xd := xd) (xt := nI Q.length) (xw := xw) (xc := xc) (qd := qd) (qq := qq) (qw := qw) (qn := qn) (qk := qk) (qr := qr) (qs := qs) (qh := qh) T hin h 4 0 (by omega) 5 (by omega)
    rw [ft_bS_cg (f' := fun _ => false) fun c hc => by rw [decide_eq_false (by omega), Bool.false_and]] at z
    exact ⟨5, z⟩
  · refine ⟨5, ft_x_co9n ?_ 4 0 (by omega) 5 (by omega)⟩
    rw [ft_bS_cg (f' := fun _ => false) fun c hc => decide_eq_false fun z => hout (hC c Q z).1] at h
    exact h
theorem ft_T_b0 {v : Int32} (T : ft_T C N qb qc qp ql qe qo) : ft_T C N (upd qb 0 v) qc qp ql qe qo := by
  obtain ⟨T1, T2, T3, T4, T5, T6⟩ := T
  refine ⟨T1, T2, fun c p h => ?_, T4, T5, fun n h1 h2 => ?_⟩
  · have h3 := T3 c p h
    rw [pk_un (by omega)]
    exact h3
  · rw [pk_un (by omega)]
    exact T6 n h1 h2
end
/-! the reference's steps -/
section
variable {yl yc : Int32} {rl rn rw rt : Nat → Int32}
variable {L m k : Nat} {D Q s : List Nat} {W : Nat → List Nat} {g : Nat → Nat}
theorem ft_y_append {post : Int32 → SY → Prop} {q : Nat} {x : Int32} (hq : q < 14) (lq : rn q = nI s.length) (hs : s.length ≤ 6) (hneg : (∀ c, c < 4 → x ≠ nI c) → post (-1) (yl, yc, rl, rn, rw, rt)) (hfull : ∀ c, c < 4 → x = nI c → s.length = 6 → post (-2) (yl, yc, rl, rn, rw, rt))
    (hok : ∀ c, c < 4 → x = nI c → s.length < 6 → post (nI (s.length + 1)) (yl, yc, upd rl (6 * q + s.length) (nI c), upd rn q (nI (s.length + 1)), rw, rt)) : wpY_append post (yl, yc, rl, rn, rw, rt) (nI q) x := by
  unfold wpY_append
  dsimp only
  refine br_c (fun z => hneg fun c hc e => ?_) (fun z => ?_)
  · rw [e] at z; exact nI_pos (by omega) z
  · obtain ⟨j, hj, rfl⟩ := nI_of z
    refine pk_le j 3 (fun y => ?_) (fun y => hneg fun c hc e => ?_)
    · have vq : vp_in (nI q) 14 := vp_in_nI hq (by omega)
      rw [nI_clamp (n := q) (by omega), lq]
      refine ⟨vq, pk_eq s.length 6 (fun e => hfull j (by omega) rfl e) (fun e => ⟨vq, ?_⟩)⟩
      rw [ft_6, nI_clamp (n := 6 * q + s.length) (by omega)]
      refine ⟨vp_in_nI (by omega) (by omega), nm_e ⟨vq, vq, nm_r (congrArg (upd rn q) (nI_1 _)) ⟨vq, ?_⟩⟩⟩
      rw [pk_us]
      exact hok j (by omega) rfl (by omega)
    · rw [nI_eq hj (by omega)] at e
      omega
theorem ft_Y_D {c : Nat} (hW : ft_Wd m W g) (hY : ft_Y m D Q W g rl rn rw) (hc : c < 4) (hD : D.length < 6) : ft_Y m (c :: D) Q W g (upd rl (6 * 12 + D.length) (nI c)) (upd rn 12 (nI (D.length + 1))) rw := by
  have hm := hW.1
  refine ⟨⟨ft_At_push hY.1.1 hc, pk_us, hD⟩, ⟨ft_At_out hY.2.1.1 (by omega), by rw [pk_un (by omega)]; exact hY.2.1.2.1, hY.2.1.2.2⟩, fun w hw => ?_⟩
  have h1 := hY.2.2 w hw
  have h2 := (hW.2.1 w hw).2.1
  exact ⟨ft_At_out h1.1 (by omega), by rw [pk_un (by omega)]; exact h1.2.1, h1.2.2⟩
theorem ft_Y_Q {c : Nat} (hW : ft_Wd m W g) (hY : ft_Y m D Q W g rl rn rw) (hc : c < 4) (hQ : Q.length < 6) : ft_Y m D (c :: Q) W g (upd rl (6 * 13 + Q.length) (nI c)) (upd rn 13 (nI (Q.length + 1))) rw := by
  have hm := hW.1
  have hD := hY.1.2.2
  refine ⟨⟨ft_At_out hY.1.1 (by omega), by rw [pk_un (by omega)]; exact hY.1.2.1, hD⟩, ⟨ft_At_push hY.2.1.1 hc, pk_us, hQ⟩, fun w hw => ?_⟩
  have h1 := hY.2.2 w hw
  have h2 := (hW.2.1 w hw).2.1
  exact ⟨ft_At_out h1.1 (by omega), by rw [pk_un (by omega)]; exact h1.2.1, h1.2.2⟩
theorem ft_Y_D0 (hm : m ≤ 12) (hY : ft_Y m D Q W g rl rn rw) : ft_Y m [] Q W g rl (upd rn 12 0) rw :=
  ⟨⟨trivial, pk_us, Nat.zero_le _⟩, ⟨hY.2.1.1, by rw [pk_un (by omega)]; exact hY.2.1.2.1, hY.2.1.2.2⟩, fun w hw => ⟨(hY.2.2 w hw).1, by rw [pk_un (by omega)]; exact (hY.2.2 w hw).2.1, (hY.2.2 w hw).2.2⟩⟩
theorem ft_Y_q {Q' : List Nat} (hm : m ≤ 12) (hY : ft_Y m D Q W g rl rn rw) (hs : ft_sf Q' Q = true) : ft_Y m D Q' W g rl (upd rn 13 (nI Q'.length)) rw :=
  ⟨⟨hY.1.1, by rw [pk_un (by omega)]; exact hY.1.2.1, hY.1.2.2⟩, ⟨ft_At_sf hY.2.1.1 hs, pk_us, Nat.le_trans (ft_sf_len hs) hY.2.1.2.2⟩, fun w hw => ⟨(hY.2.2 w hw).1, by rw [pk_un (by omega)]; exact (hY.2.2 w hw).2.1, (hY.2.2 w hw).2.2⟩⟩
theorem ft_Y_old {w wt : Nat} (hY : ft_Y m D Q W g rl rn rw) : ft_Y m D Q W (ft_wu g w wt) rl rn (upd rw w (nI wt)) := by
  refine ⟨hY.1, hY.2.1, fun v hv => ⟨(hY.2.2 v hv).1, (hY.2.2 v hv).2.1, ?_⟩⟩
  by_cases e : v = w
  · rw [e, pk_us, ft_wu_s]
  · rw [pk_un e, ft_wu_n e]; exact (hY.2.2 v hv).2.2
theorem ft_Y_new {wt : Nat} {rl' : Nat → Int32} (hW : ft_Wd m W g) (hm : m ≤ 11) (hY : ft_Y m D Q W g rl rn rw) (c1 : ∀ i, i < D.length → rl' (6 * m + i) = rl (6 * 12 + i)) (c2 : ∀ j, j < 6 * m ∨ 6 * m + D.length ≤ j → rl' j = rl j) :
    ft_Y (m + 1) [] Q (ft_wu W m D) (ft_wu g m wt) rl' (upd (upd rn m (nI D.length)) 12 0) (upd rw m (nI wt)) := by
  have hD := hY.1.2.2
  refine ⟨⟨trivial, pk_us, Nat.zero_le _⟩, ⟨ft_At_eq hY.2.1.1 (fun i hi => c2 _ (by omega)), by rw [pk_un (by omega), pk_un (by omega)]; exact hY.2.1.2.1, hY.2.1.2.2⟩, fun w hw => ?_⟩
  by_cases e : w = m
  · rw [e, ft_wu_s, ft_wu_s, pk_us, pk_un (by omega), pk_us]
    exact ⟨ft_At_eq hY.1.1 (fun i hi => c1 i hi), rfl, rfl⟩
  · have h1 := hY.2.2 w (by omega)
    have h2 := (hW.2.1 w (by omega)).2.1
    rw [ft_wu_n e, ft_wu_n e, pk_un e, pk_un (by omega), pk_un e]
    exact ⟨ft_At_eq h1.1 (fun i hi => c2 _ (by omega)), h1.2⟩
theorem ft_Y_rem {w : Nat} {rl' : Nat → Int32} (hW : ft_Wd (m + 1) W g) (hw : w ≤ m) (hY : ft_Y (m + 1) D Q W g rl rn rw) (c1 : ∀ i, i < (W m).length → rl' (6 * w + i) = rl (6 * m + i)) (c2 : ∀ j, j < 6 * w ∨ 6 * w + (W m).length ≤ j → rl' j = rl j) :
    ft_Y m [] Q (ft_wu W w (W m)) (ft_wu g w (g m)) rl' (upd (upd rn w (nI (W m).length)) 12 0) (upd rw w (rw m)) := by
  have hm := hW.1
  have hl := (hW.2.1 m (by omega)).2.1
  have h0 := hY.2.2 m (by omega)
  refine ⟨⟨trivial, pk_us, Nat.zero_le _⟩, ⟨ft_At_eq hY.2.1.1 (fun i hi => c2 _ (by omega)), by rw [pk_un (by omega), pk_un (by omega)]; exact hY.2.1.2.1, hY.2.1.2.2⟩, fun v hv => ?_⟩
  by_cases e : v = w
  · rw [e, ft_wu_s, ft_wu_s, pk_us, pk_un (by omega), pk_us]
    exact ⟨ft_At_eq h0.1 (fun i hi => c1 i hi), rfl, h0.2.2⟩
  · have h1 := hY.2.2 v (by omega)
    have h2 := (hW.2.1 v (by omega)).2.1
    rw [ft_wu_n e, ft_wu_n e, pk_un e, pk_un (by omega), pk_un e]
    exact ⟨ft_At_eq h1.1 (fun i hi => c2 _ (by omega)), h1.2⟩
theorem ft_m4ne {w : Nat} (h : w < 100) : ¬ nI w = -4 := by
  intro e
  have : nI w < 0 := by rw [e]; decide
  exact nI_pos (by omega) this
theorem ft_y_add_bad {post : Int32 → SY → Prop} {x : Int32} (hY : ft_Y m D Q W g rl rn rw) (hx : x < 0 ∨ 99 < x ∨ D.length = 0) (h : post (-1) (yl, yc, rl, rn, rw, rt)) : wpY_add post (yl, yc, rl, rn, rw, rt) x := by
  unfold wpY_add
  dsimp only
  refine br_c (fun _ => h) (fun h1 => br_c (fun _ => h) (fun h2 => br_t ?_ h))
  rw [hY.1.2.1, (hx.resolve_left h1).resolve_left h2]
  rfl
theorem ft_y_add_go {post : Int32 → SY → Prop} {wt : Nat} (hW : ft_Wd m W g) (hY : ft_Y m D Q W g rl rn rw) (hwt : wt ≤ 99) (hD : 1 ≤ D.length)
    (ho : ∀ w, w < m → W w = D → post 0 (yl, nI m, rl, upd rn 12 0, upd rw w (nI wt), rt)) (hf : (∀ w, w < m → W w ≠ D) → m = 12 → post (-2) (yl, nI m, rl, rn, rw, rt))
    (hn : (∀ w, w < m → W w ≠ D) → m ≤ 11 → ∀ rl', (∀ i, i < D.length → rl' (6 * m + i) = rl (6 * 12 + i)) → (∀ j, j < 6 * m ∨ 6 * m + D.length ≤ j → rl' j = rl j) → post 1 (yl, nI (m + 1), rl', upd (upd rn m (nI D.length)) 12 0, upd rw m (nI wt), rt)) :
    wpY_add post (yl, nI m, rl, rn, rw, rt) (nI wt) := by
  have hm := hW.1
  have hD6 := hY.1.2.2
  have h99 : ¬ (99 : Int32) < nI wt := nI_nlt (a := 99) hwt (by decide)
  have hd0 : ¬ rn 12 = 0 := by rw [hY.1.2.1]; exact nI_ne0 hD (by omega)
  unfold wpY_add
  dsimp only
  refine br_f (nI_pos (by omega)) (br_f h99 (br_f hd0 (ft_y_drafted hW hY (fun w hw e => ?_) (fun hnw => ?_))))
  · refine br_f (ft_m4ne (by omega)) (br_f (ft_m4ne (by omega)) ?_)
    rw [nI_clamp (n := w) (by omega)]
    exact ⟨vp_in_nI (by omega) (by omega), nm_e (nm_e (br_f (ft_m4ne (by omega)) (ho w hw e)))⟩
  · refine br_t rfl (pk_eq m 12 (fun e => hf hnw e) (fun e => br_t rfl ?_))
    refine ft_y_copy (a := 12) (b := m) (by omega) (by omega) hY.1.2.1 hD6 (fun rl' c1 c2 => ?_)
    dsimp only
    rw [nI_clamp (n := m) (by omega)]
    exact ⟨vp_in_nI (by omega) (by omega), nm_e (nm_r (nI_1 m) (nm_e (br_t rfl (hn hnw (by omega) rl' c1 c2))))⟩
theorem ft_y_rem_go {post : Int32 → SY → Prop} (hW : ft_Wd (m + 1) W g) (hY : ft_Y (m + 1) D Q W g rl rn rw) (hD : 1 ≤ D.length) {w : Nat} (hw : w ≤ m) (hwD : W w = D)
    (h : ∀ rl', (∀ i, i < (W m).length → rl' (6 * w + i) = rl (6 * m + i)) → (∀ j, j < 6 * w ∨ 6 * w + (W m).length ≤ j → rl' j = rl j) → post (nI (g w)) (yl, nI m, rl', upd (upd rn w (nI (W m).length)) 12 0, upd rw w (rw m), rt)) :
    wpY_remove post (yl, nI (m + 1), rl, rn, rw, rt) := by
  have hm := hW.1
  have hD6 := hY.1.2.2
  have hd0 : ¬ rn 12 = 0 := by rw [hY.1.2.1]; exact nI_ne0 hD (by omega)
  unfold wpY_remove
  dsimp only
  refine br_f hd0 (ft_y_drafted hW hY (fun w' hw' e => ?_) (fun hnw => absurd hwD (hnw w (by omega))))
  have : w' = w := hW.2.2 w' w hw' (by omega) (by rw [e, hwD])
  subst this
  refine br_f (ft_m4ne (by omega)) ?_
  rw [nI_clamp (n := w') (by omega), (hY.2.2 w' hw').2.2]
  refine ⟨vp_in_nI (by omega) (by omega), nm_e (nm_r (nI_pred m) ?_)⟩
  refine ft_y_copy (a := m) (b := w') (s := W m) (by omega) (by omega) (hY.2.2 m (by omega)).2.1 (hW.2.1 m (by omega)).2.1 (fun rl' c1 c2 => ?_)
  dsimp only
  rw [nI_clamp (n := m) (by omega)]
  exact ⟨vp_in_nI (by omega) (by omega), vp_in_nI (by omega) (by omega), nm_e (nm_e (h rl' c1 c2))⟩
theorem ft_y_rem_no {post : Int32 → SY → Prop} (hW : ft_Wd m W g) (hY : ft_Y m D Q W g rl rn rw) (hD : 1 ≤ D.length) (hnw : ∀ w, w < m → W w ≠ D) (h : post (-4) (yl, nI m, rl, rn, rw, rt)) : wpY_remove post (yl, nI m, rl, rn, rw, rt) := by
  have hD6 := hY.1.2.2
  have hd0 : ¬ rn 12 = 0 := by rw [hY.1.2.1]; exact nI_ne0 hD (by omega)
  unfold wpY_remove
  dsimp only
  exact br_f hd0 (ft_y_drafted hW hY (fun w hw e => absurd e (hnw w hw)) (fun _ => br_t rfl h))
end
end
section
/-! the relation -/
def ft_F (L m : Nat) (D Q : List Nat) (W : Nat → List Nat) (g : Nat → Nat) (N : List Nat → Nat) (l : List (List Nat)) (k : Nat) (σ : Nat → Nat) (qd qq qb qc qp ql qe qo qw qn qk qr rl rn rw : Nat → Int32) : Prop :=
  L ≤ 3 ∧ ft_Wd m W g ∧ ft_Y m D Q W g rl rn rw ∧ ft_At qd 0 D ∧ ft_At qq 0 Q ∧ ft_T (ft_C m W) N qb qc qp ql qe qo ∧ qb 0 = nI m ∧ ft_Wt m W g (ft_C m W) N qw ∧ ft_Ly (ft_C m W) N L Q qn ∧ (∀ w, w < m → W w ∈ l) ∧ ft_R L m Q W g l k σ ∧ ft_Rk Q W N k σ qk qr
/-- the relation at the head of a turn: there are a limit, words with weights, a draft, a query, the nodes of the tree and the ranks that both states hold -/
def i_Rel (k : Nat) (u : SX) (v : SY) : Prop := match u with
  | (xl, xd, xt, xw, xc, qd, qq, qb, qc, qp, ql, qe, qo, qw, qn, qk, qr, qs, qh) => match v with
    | (yl, yc, rl, rn, rw, rt) => ∃ (L m : Nat) (D Q : List Nat) (W : Nat → List Nat) (g : Nat → Nat) (N : List Nat → Nat) (l : List (List Nat)) (n : Nat) (σ : Nat → Nat), xl = nI L ∧ xd = nI D.length ∧ xt = nI Q.length ∧ xw = nI m ∧ xc = nI n ∧ yl = nI L ∧ yc = nI m ∧ ft_F L m D Q W g N l n σ qd qq qb qc qp ql qe qo qw qn qk qr rl rn rw
section
variable {xl xd xt xw xc : Int32} {qd qq qb qc qp ql qe qo qw qn qk qr qs qh : Nat → Int32}
variable {yl yc : Int32} {rl rn rw rt : Nat → Int32}
variable {L m : Nat} {D Q : List Nat} {W : Nat → List Nat} {g : Nat → Nat} {N : List Nat → Nat} {l : List (List Nat)} {n : Nat} {σ : Nat → Nat}
theorem ft_mk {k : Nat} (F : ft_F L m D Q W g N l n σ qd qq qb qc qp ql qe qo qw qn qk qr rl rn rw) : i_Rel k (nI L, nI D.length, nI Q.length, nI m, nI n, qd, qq, qb, qc, qp, ql, qe, qo, qw, qn, qk, qr, qs, qh) (nI L, nI m, rl, rn, rw, rt) :=
  ⟨L, m, D, Q, W, g, N, l, n, σ, rfl, rfl, rfl, rfl, rfl, rfl, rfl, F⟩
end
theorem ft_el {P : SX → SY → Prop} {k : Nat} {u : SX} {v : SY} (h : ∀ (L m : Nat) (D Q : List Nat) (W : Nat → List Nat) (g : Nat → Nat) (N : List Nat → Nat) (l : List (List Nat)) (n : Nat) (σ : Nat → Nat) (qd qq qb qc qp ql qe qo qw qn qk qr qs qh rl rn rw rt : Nat → Int32), ft_F L m D Q W g N l n σ qd qq qb qc qp ql qe qo qw qn qk qr rl rn rw → P (nI L, nI D.length, nI Q.length, nI m, nI n, qd, qq, qb, qc, qp, ql, qe, qo, qw, qn, qk, qr, qs, qh) (nI L, nI m, rl, rn, rw, rt)) (I : i_Rel k u v) : P u v := by
  obtain ⟨xl, xd, xt, xw, xc, qd, qq, qb, qc, qp, ql, qe, qo, qw, qn, qk, qr, qs, qh⟩ := u
  obtain ⟨yl, yc, rl, rn, rw, rt⟩ := v
  obtain ⟨L, m, D, Q, W, g, N, l, n, σ, e1, e2, e3, e4, e5, e6, e7, F⟩ := I
  subst e1 e2 e3 e4 e5 e6 e7
  exact h L m D Q W g N l n σ qd qq qb qc qp ql qe qo qw qn qk qr qs qh rl rn rw rt F
theorem i_up {k : Nat} {u : SX} {v : SY} (h : i_Rel k u v) : i_Rel (k + 2) u v := h
end
section
/-! what is owed -/
theorem ft_Ti : ft_T (ft_C 0 fun _ => []) (fun _ => 0) (fun _ => 0) (fun _ => 0) (fun _ => 0) (fun _ => 0) (fun _ => 0) (fun _ => 0) := by
  have hin : ∀ p, ft_in (ft_C 0 fun _ => []) p → p = [] := fun p hp => by
    rcases hp with e | e
    · exact e
    · exact absurd e (by show ¬ 0 < 0; omega)
  refine ⟨rfl, fun p hp => ?_, fun c p hp => ?_, fun p q hp hq _ => by rw [hin p hp, hin q hq], fun p c hp hc => ?_, fun n _ _ => Or.inr rfl⟩
  · rw [hin p hp]; exact ⟨by show 0 < 80; omega, rfl, rfl⟩
  · exact absurd hp (by show ¬ 0 < 0; omega)
  · rw [if_neg (by show ¬ 0 < 0; omega)]; rfl
theorem ft_Wdi {W : Nat → List Nat} {g : Nat → Nat} : ft_Wd 0 W g := ⟨by omega, fun w hw => absurd hw (by omega), fun v w hv => absurd hv (by omega)⟩
theorem ft_init {L : Nat} {k : Nat} {post : SX → Prop} (hL : L ≤ 3) (h : ∀ u, i_Rel k u (nI L, 0, (fun _ => 0), (fun _ => 0), (fun _ => 0), (fun _ => 0)) → post u) : ∀ (e j : Nat) (qw : Nat → Int32), j + e = 80 → (∀ i, i < j → qw i = -4) → ∀ n, e < n →
    wX_init_140 post (nI L) 0 0 0 0 n (nI j) (fun _ => 0) (fun _ => 0) (fun _ => 0) (fun _ => 0) (fun _ => 0) (fun _ => 0) (fun _ => 0) (fun _ => 0) qw (fun _ => 0) (fun _ => 0) (fun _ => 0) (fun _ => 0) (fun _ => 0) := by
  intro e
  induction e with
  | zero =>
    intro j qw hj hI n hn
    obtain ⟨n, rfl⟩ : ∃ n', n = n' + 1 := ⟨n - 1, by omega⟩
    have hj' : j = 80 := by omega
    subst hj'
    refine br_t (nI_le (Nat.le_refl 80) (by decide)) ?_
    have Wt : ft_Wt 0 (fun _ => []) (fun _ => 0) (ft_C 0 fun _ => []) (fun _ => 0) qw := ⟨fun w hw => absurd hw (by omega), fun p _ _ => hI 0 (by omega)⟩
    exact ft_x_layOut (Q := []) hL ft_Ti (ft_C_Cg (g := fun _ => 0) ft_Wdi) (ft_Wdi (g := fun _ => 0)) Wt (by decide) trivial (fun l k σ qn' qk' qr' qs' qh' h1 h2 h3 h4 =>
      h _ (ft_mk (m := 0) (D := []) (Q := []) ⟨hL, ft_Wdi, ⟨⟨trivial, rfl, by decide⟩, ⟨trivial, rfl, by decide⟩, fun w hw => absurd hw (by omega)⟩, trivial, trivial, ft_Ti, rfl, Wt, h1, h2, h3, h4⟩))
  | succ e ih =>
    intro j qw hj hI n hn
    obtain ⟨n, rfl⟩ : ∃ n', n = n' + 1 := ⟨n - 1, by omega⟩
    refine br_f (ft_ge80 (by omega)) ⟨vp_in_nI (by omega) (by omega), nm_e (nm_r (nI_1 j) (ih (j + 1) _ (by omega) (fun i hi => ?_) n (by omega)))⟩
    rw [nI_clamp (n := j) (by omega)]
    by_cases z : i = j
    · rw [z, pk_us]
    · rw [pk_un z]; exact hI i (by omega)
theorem i_vc0 (k0 : Int32) : wpX_init (fun u => wpY_init (fun v => i_Rel 1 u v) k0) k0 := by
  have z3 : ∀ i, i < 0 → (fun _ : Nat => (0 : Int32)) i = -4 := fun i hi => absurd hi (by omega)
  by_cases h0 : 0 ≤ k0
  · obtain ⟨j, hj, rfl⟩ := nI_of (x := k0) (Int32.not_lt.mpr h0)
    by_cases h3 : j ≤ 3
    · have h3' : nI j ≤ 3 := nI_le (b := 3) h3 (by decide)
      exact br_t h0 (br_t h3' ⟨81, ft_init (L := j) (k := 1) h3 (fun u hu => br_t h0 (br_t h3' hu)) 80 0 _ (by omega) z3 81 (by omega)⟩)
    · have h3' : ¬ nI j ≤ 3 := nI_ge (a := 3) (by omega) hj
      exact br_t h0 (br_f h3' ⟨81, ft_init (L := 3) (k := 1) (by omega) (fun u hu => br_t h0 (br_f h3' hu)) 80 0 _ (by omega) z3 81 (by omega)⟩)
  · exact br_f h0 (br_t (by decide) ⟨81, ft_init (L := 0) (k := 1) (by omega) (fun u hu => br_f h0 hu) 80 0 _ (by omega) z3 81 (by omega)⟩)
theorem i_vc_draft {k : Nat} {u : SX} {v : SY} (I : i_Rel k u v) (hk : k + 2 ≤ 1025) (v1 : Int32) : wpX_draft (fun r u' => wpY_draft (fun r' v' => r' = r ∧ i_Rel (k + 2) u' v') v v1) u v1 := by
  refine ft_el (P := fun u v => wpX_draft (fun r u' => wpY_draft (fun r' v' => r' = r ∧ i_Rel (k + 2) u' v') v v1) u v1) ?_ I
  intro L m D Q W g N l n σ qd qq qb qc qp ql qe qo qw qn qk qr qs qh rl rn rw rt F
  obtain ⟨hL, hW, hY, hAd, hAq, T, b0, hWt, hLy, hall, R, hRk⟩ := id F
  have hD6 := hY.1.2.2
  unfold wpX_draft wpY_draft
  dsimp only
  refine ft_x_bad (fun hb => br_f ft_n10 ?_) (fun c hc e => br_t rfl ?_)
  · exact ft_y_append (q := 12) (by omega) hY.1.2.1 hD6 (fun _ => ⟨rfl, ft_mk F⟩) (fun c hc e => absurd e (hb c hc)) (fun c hc e => absurd e (hb c hc))
  · subst e
    refine pk_eq D.length 6 (fun z => ?_) (fun z => ⟨vp_in_nI (by omega) (by omega), ?_⟩)
    · exact ft_y_append (q := 12) (by omega) hY.1.2.1 hD6 (fun hb => absurd rfl (hb c hc)) (fun _ _ _ _ => ⟨rfl, ft_mk F⟩) (fun _ _ _ h => absurd h (by omega))
    · rw [nI_clamp (n := D.length) (by omega)]
      refine nm_e (nm_r (nI_1 _) ?_)
      refine ft_y_append (q := 12) (by omega) hY.1.2.1 hD6 (fun hb => absurd rfl (hb c hc)) (fun _ _ _ h => absurd h z) (fun c' hc' e' h => ⟨rfl, ?_⟩)
      have e2 : c' = c := by rw [nI_eq (by omega) (by omega)] at e'; exact e'.symm
      subst e2
      have hA' := ft_At_push hAd hc
      rw [Nat.zero_add] at hA'
      exact ft_mk (D := c' :: D) ⟨hL, hW, ft_Y_D hW hY hc h, hA', hAq, T, b0, hWt, hLy, hall, R, hRk⟩
theorem i_vc_scrap {k : Nat} {u : SX} {v : SY} (I : i_Rel k u v) (hk : k + 2 ≤ 1025) : wpX_scrap (fun u' => wpY_scrap (fun v' => i_Rel (k + 2) u' v') v) u := by
  refine ft_el (P := fun u v => wpX_scrap (fun u' => wpY_scrap (fun v' => i_Rel (k + 2) u' v') v) u) ?_ I
  intro L m D Q W g N l n σ qd qq qb qc qp ql qe qo qw qn qk qr qs qh rl rn rw rt F
  obtain ⟨hL, hW, hY, hAd, hAq, T, b0, hWt, hLy, hall, R, hRk⟩ := F
  unfold wpX_scrap wpY_scrap
  dsimp only
  exact nm_e (ft_mk (D := []) ⟨hL, hW, ft_Y_D0 hW.1 hY, trivial, hAq, T, b0, hWt, hLy, hall, R, hRk⟩)
theorem i_vc_weight {k : Nat} {u : SX} {v : SY} (I : i_Rel k u v) (hk : k + 2 ≤ 1025) : wpX_weight (fun r => wpY_weight (fun r' => r' = r ∧ i_Rel (k + 2) u v) v) u := by
  refine ft_el (P := fun u v => wpX_weight (fun r => wpY_weight (fun r' => r' = r ∧ i_Rel (k + 2) u v) v) u) ?_ I
  intro L m D Q W g N l n σ qd qq qb qc qp ql qe qo qw qn qk qr qs qh rl rn rw rt F
  obtain ⟨hL, hW, hY, hAd, hAq, T, b0, hWt, hLy, hall, R, hRk⟩ := id F
  have hD6 := hY.1.2.2
  have hm := hW.1
  have noY : ∀ r : Int32, r = -4 → (∀ w, w < m → W w ≠ D) → wpY_weight (fun r' => r' = r ∧ i_Rel (k + 2) (nI L, nI D.length, nI Q.length, nI m, nI n, qd, qq, qb, qc, qp, ql, qe, qo, qw, qn, qk, qr, qs, qh) (nI L, nI m, rl, rn, rw, rt)) (nI L, nI m, rl, rn, rw, rt) := by
    intro r hr hn
    unfold wpY_weight
    dsimp only
    exact ft_y_drafted hW hY (fun w hw e => absurd e (hn w hw)) (fun _ => br_t rfl ⟨hr.symm, ft_mk F⟩)
  unfold wpX_weight
  dsimp only
  refine ft_x_draftNode T (ft_C_Cg hW) hD6 hAd (fun hin => ?_) (fun hout => ?_)
  · have hND := (T.2.1 D hin).1
    refine pk_lt 0 (N D) (fun z => ⟨vp_in_nI hND (by omega), ?_⟩) (fun z => noY _ rfl fun w hw e => ?_)
    · rw [nI_clamp (n := N D) (by omega)]
      by_cases hw : ∃ w, w < m ∧ W w = D
      · obtain ⟨w, hw, e⟩ := hw
        have hq := (hWt.1 w hw).2
        rw [e] at hq
        rw [hq]
        unfold wpY_weight
        dsimp only
        refine ft_y_drafted hW hY (fun w' hw' e' => ?_) (fun hn => absurd e (hn w hw))
        have : w' = w := hW.2.2 w' w hw' hw (by rw [e, e'])
        subst this
        refine br_f (ft_m4ne (by omega)) ⟨vp_in_nI (by omega) (by omega), ?_⟩
        rw [nI_clamp (n := w') (by omega)]
        exact ⟨(hY.2.2 w' hw).2.2, ft_mk F⟩
      · exact noY _ (hWt.2 D hin fun w hw' e => hw ⟨w, hw', e⟩) fun w hw' e => hw ⟨w, hw', e⟩
    · have h1 := (hW.2.1 w hw).1
      rw [e] at h1
      cases D with
      | nil => simp only [List.length_nil] at h1; omega
      | cons c y =>
        have := (T.2.2.1 c y (ft_in_c hin)).1
        omega
  · exact br_f (by decide) (noY _ rfl fun w hw e => hout (e ▸ (hWt.1 w hw).1))
theorem i_vc_words {k : Nat} {u : SX} {v : SY} (I : i_Rel k u v) (hk : k + 2 ≤ 1025) : wpX_words (fun r => wpY_words (fun r' => r' = r ∧ i_Rel (k + 2) u v) v) u := by
  refine ft_el (P := fun u v => wpX_words (fun r => wpY_words (fun r' => r' = r ∧ i_Rel (k + 2) u v) v) u) ?_ I
  intro L m D Q W g N l n σ qd qq qb qc qp ql qe qo qw qn qk qr qs qh rl rn rw rt F
  exact ⟨rfl, ft_mk F⟩
theorem i_vc_length {k : Nat} {u : SX} {v : SY} (I : i_Rel k u v) (hk : k + 2 ≤ 1025) : wpX_length (fun r => wpY_length (fun r' => r' = r ∧ i_Rel (k + 2) u v) v) u := by
  refine ft_el (P := fun u v => wpX_length (fun r => wpY_length (fun r' => r' = r ∧ i_Rel (k + 2) u v) v) u) ?_ I
  intro L m D Q W g N l n σ qd qq qb qc qp ql qe qo qw qn qk qr qs qh rl rn rw rt F
  exact ⟨F.2.2.1.2.1.2.1, ft_mk F⟩
theorem ft_rank {k : Nat} {L m : Nat} {D Q : List Nat} {W : Nat → List Nat} {g : Nat → Nat} {N : List Nat → Nat} {xc : Int32} {qd qq qb qc qp ql qe qo qw qn qk qr qs qh rl rn rw rt : Nat → Int32} (hL : L ≤ 3) (hW : ft_Wd m W g) (hY : ft_Y m D Q W g rl rn rw) (hAd : ft_At qd 0 D) (hAq : ft_At qq 0 Q) (T : ft_T (ft_C m W) N qb qc qp ql qe qo) (b0 : qb 0 = nI m) (hWt : ft_Wt m W g (ft_C m W) N qw) (hLy : ft_Ly (ft_C m W) N L Q qn)
    {post : SX → Prop} (h : ∀ n' qk' qr' qs' qh', i_Rel k (nI L, nI D.length, nI Q.length, nI m, nI n', qd, qq, qb, qc, qp, ql, qe, qo, qw, qn, qk', qr', qs', qh') (nI L, nI m, rl, rn, rw, rt) → post (nI L, nI D.length, nI Q.length, nI m, nI n', qd, qq, qb, qc, qp, ql, qe, qo, qw, qn, qk', qr', qs', qh')) :
    wpX_rank post (nI L, nI D.length, nI Q.length, nI m, xc, qd, qq, qb, qc, qp, ql, qe, qo, qw, qn, qk, qr, qs, qh) :=
  ft_x_rank hL T (ft_C_Cg hW) hW hWt hY.2.1.2.2 (hLy Q (ft_sf_refl Q)) (fun l n' σ qk' qr' qs' qh' g1 g2 g3 => h n' qk' qr' qs' qh' (ft_mk ⟨hL, hW, hY, hAd, hAq, T, b0, hWt, hLy, g1, g2, g3⟩))
theorem i_vc_type {k : Nat} {u : SX} {v : SY} (I : i_Rel k u v) (hk : k + 2 ≤ 1025) (v1 : Int32) : wpX_type (fun r u' => wpY_type (fun r' v' => r' = r ∧ i_Rel (k + 2) u' v') v v1) u v1 := by
  refine ft_el (P := fun u v => wpX_type (fun r u' => wpY_type (fun r' v' => r' = r ∧ i_Rel (k + 2) u' v') v v1) u v1) ?_ I
  intro L m D Q W g N l n σ qd qq qb qc qp ql qe qo qw qn qk qr qs qh rl rn rw rt F
  obtain ⟨hL, hW, hY, hAd, hAq, T, b0, hWt, hLy, hall, R, hRk⟩ := id F
  have hQ6 := hY.2.1.2.2
  unfold wpX_type wpY_type
  dsimp only
  refine ft_x_bad (fun hb => br_f ft_n10 ?_) (fun c hc e => br_t rfl ?_)
  · exact ft_y_append (q := 13) (by omega) hY.2.1.2.1 hQ6 (fun _ => ⟨rfl, ft_mk F⟩) (fun c hc e => absurd e (hb c hc)) (fun c hc e => absurd e (hb c hc))
  · subst e
    refine pk_eq Q.length 6 (fun z => ?_) (fun z => ⟨vp_in_nI (by omega) (by omega), ?_⟩)
    · exact ft_y_append (q := 13) (by omega) hY.2.1.2.1 hQ6 (fun hb => absurd rfl (hb c hc)) (fun _ _ _ _ => ⟨rfl, ft_mk F⟩) (fun _ _ _ h => absurd h (by omega))
    · rw [nI_clamp (n := Q.length) (by omega)]
      have hA' := ft_At_push hAq hc
      rw [Nat.zero_add] at hA'
      refine nm_e ?_
      refine ft_x_next (s := Q) (a := c) hL T (ft_C_Cg hW) (by omega) hc pk_us (hLy Q (ft_sf_refl Q)) (fun qn' h1 h2 => nm_r (nI_1 _) ?_)
      have hLy' : ft_Ly (ft_C m W) N L (c :: Q) qn' := by
        intro s hs p hp
        have hnp := (T.2.1 p hp).1
        rcases ft_sf_cons.mp hs with e | e
        · rw [e, List.length_cons, show (Q.length + 1) * 80 + N p = Q.length * 80 + 80 + N p by omega]
          exact h2 p hp
        · have := ft_sf_len e
          rw [h1 _ (by omega)]
          exact hLy s e p hp
      refine ft_rank (k := k + 2) (D := D) (Q := c :: Q) hL hW (ft_Y_Q hW hY hc (by omega)) hAd hA' T b0 hWt hLy' (rt := rt) (fun n' qk' qr' qs' qh' J => ?_)
      refine ft_y_append (q := 13) (by omega) hY.2.1.2.1 hQ6 (fun hb => absurd rfl (hb c hc)) (fun _ _ _ h => absurd h z) (fun c' hc' e' h => ⟨rfl, ?_⟩)
      have e2 : c' = c := by rw [nI_eq (by omega) (by omega)] at e'; exact e'.symm
      subst e2
      exact J
theorem i_vc_backspace {k : Nat} {u : SX} {v : SY} (I : i_Rel k u v) (hk : k + 2 ≤ 1025) : wpX_backspace (fun r u' => wpY_backspace (fun r' v' => r' = r ∧ i_Rel (k + 2) u' v') v) u := by
  refine ft_el (P := fun u v => wpX_backspace (fun r u' => wpY_backspace (fun r' v' => r' = r ∧ i_Rel (k + 2) u' v') v) u) ?_ I
  intro L m D Q W g N l n σ qd qq qb qc qp ql qe qo qw qn qk qr qs qh rl rn rw rt F
  obtain ⟨hL, hW, hY, hAd, hAq, T, b0, hWt, hLy, hall, R, hRk⟩ := id F
  have hQ6 := hY.2.1.2.2
  have hq13 := hY.2.1.2.1
  unfold wpX_backspace
  dsimp only
  cases Q with
  | nil =>
    refine br_t rfl ?_
    unfold wpY_backspace
    dsimp only
    exact br_t hq13 ⟨rfl, ft_mk F⟩
  | cons c Q =>
    have hsf : ft_sf Q (c :: Q) = true := ft_sf_cons.mpr (Or.inr (ft_sf_refl Q))
    rw [List.length_cons] at hQ6 hq13 ⊢
    refine br_f (nI_ne0 (by omega) (by omega)) (nm_r (nI_pred Q.length) ?_)
    refine ft_rank (k := k + 2) (D := D) (Q := Q) hL hW (ft_Y_q hW.1 hY hsf) hAd (ft_At_sf hAq hsf) T b0 hWt (fun s hs => hLy s (ft_sf_trans hs hsf)) (rt := rt) (fun n' qk' qr' qs' qh' J => ⟨vp_in_nI (by omega) (by omega), ?_⟩)
    have hx := hAq.1
    rw [Nat.zero_add] at hx
    dsimp only
    rw [nI_clamp (n := Q.length) (by omega), hx]
    unfold wpY_backspace
    dsimp only
    rw [hq13, nI_pred]
    refine br_f (nI_ne0 (by omega) (by omega)) (nm_e ?_)
    rw [pk_us, show (78 : Int32) + nI Q.length = nI (78 + Q.length) from nI_add 78 _, nI_clamp (n := 78 + Q.length) (by omega)]
    exact ⟨vp_in_nI (by omega) (by omega), hY.2.1.1.1, J⟩
theorem i_vc_reset {k : Nat} {u : SX} {v : SY} (I : i_Rel k u v) (hk : k + 2 ≤ 1025) : wpX_reset (fun u' => wpY_reset (fun v' => i_Rel (k + 2) u' v') v) u := by
  refine ft_el (P := fun u v => wpX_reset (fun u' => wpY_reset (fun v' => i_Rel (k + 2) u' v') v) u) ?_ I
  intro L m D Q W g N l n σ qd qq qb qc qp ql qe qo qw qn qk qr qs qh rl rn rw rt F
  obtain ⟨hL, hW, hY, hAd, hAq, T, b0, hWt, hLy, hall, R, hRk⟩ := id F
  unfold wpX_reset wpY_reset
  dsimp only
  exact ft_rank (k := k + 2) (D := D) (Q := []) hL hW (ft_Y_q hW.1 hY (ft_sf_nil Q)) hAd trivial T b0 hWt (fun s hs => hLy s (ft_sf_trans hs (ft_sf_nil Q))) (rt := rt) (fun n' qk' qr' qs' qh' J => nm_e J)
theorem i_vc_offered {k : Nat} {u : SX} {v : SY} (I : i_Rel k u v) (hk : k + 2 ≤ 1025) : wpX_offered (fun r => wpY_offered (fun r' v' => r' = r ∧ i_Rel (k + 2) u v') v) u := by
  refine ft_el (P := fun u v => wpX_offered (fun r => wpY_offered (fun r' v' => r' = r ∧ i_Rel (k + 2) u v') v) u) ?_ I
  intro L m D Q W g N l n σ qd qq qb qc qp ql qe qo qw qn qk qr qs qh rl rn rw rt F
  obtain ⟨hL, hW, hY, hAd, hAq, T, b0, hWt, hLy, hall, R, hRk⟩ := id F
  unfold wpX_offered
  dsimp only
  refine ft_y_offered hL hW hY (fun rt' => ⟨?_, ft_mk F⟩)
  rw [ft_R_all R hall fun v hv => by rw [decide_eq_true_eq]]
theorem i_vc_offer {k : Nat} {u : SX} {v : SY} (I : i_Rel k u v) (hk : k + 2 ≤ 1025) (v1 : Int32) : wpX_offer (fun r => wpY_offer (fun r' v' => r' = r ∧ i_Rel (k + 2) u v') v v1) u v1 := by
  refine ft_el (P := fun u v => wpX_offer (fun r => wpY_offer (fun r' v' => r' = r ∧ i_Rel (k + 2) u v') v v1) u v1) ?_ I
  intro L m D Q W g N l n σ qd qq qb qc qp ql qe qo qw qn qk qr qs qh rl rn rw rt F
  obtain ⟨hL, hW, hY, hAd, hAq, T, b0, hWt, hLy, hall, R, hRk⟩ := id F
  have hm := hW.1
  have hn := ft_R_le R
  unfold wpX_offer wpY_offer
  dsimp only
  refine ft_x_badRank (by omega) (fun r hr e => br_t rfl ?_) (fun hb => br_f ft_n10 ?_)
  · subst e
    have hs := (R.1 r hr).1
    have hNs := T.2.1 _ (hWt.1 _ hs).1
    rw [nI_clamp (n := r) (by omega), (hRk r hr).1, nI_clamp (n := N (W (σ r))) (by omega), hNs.2.2]
    refine ⟨vp_in_nI (by omega) (by omega), vp_in_nI hNs.1 (by omega), ?_⟩
    refine ft_y_wordAt hL hW hY R hall (fun r' rt' hr' e => br_f (ft_m4ne (by have := (R.1 r' hr').1; omega)) ?_) (fun rt' hb => absurd rfl (hb r hr))
    have : r = r' := by rw [nI_eq (by omega) (by omega)] at e; exact e
    subst this
    have z := ft_y_of20 (yl := nI L) (yc := nI m) (rt := rt') (post := fun r' v' => r' = nI (ft_co (W (σ r))) ∧ i_Rel (k + 2) (nI L, nI D.length, nI Q.length, nI m, nI n, qd, qq, qb, qc, qp, ql, qe, qo, qw, qn, qk, qr, qs, qh) v') hW hY hs ⟨rfl, ft_mk F⟩ (W (σ r)).length 0 (by omega) _ (Nat.lt_succ_self _)
    rw [ft_tk_0] at z
    exact ⟨_, z⟩
  · exact ft_y_wordAt hL hW hY R hall (fun r' rt' hr' e => absurd e (hb r' hr')) (fun rt' _ => br_t rfl ⟨rfl, ft_mk F⟩)
theorem i_vc_distance {k : Nat} {u : SX} {v : SY} (I : i_Rel k u v) (hk : k + 2 ≤ 1025) (v1 : Int32) : wpX_distance (fun r => wpY_distance (fun r' v' => r' = r ∧ i_Rel (k + 2) u v') v v1) u v1 := by
  refine ft_el (P := fun u v => wpX_distance (fun r => wpY_distance (fun r' v' => r' = r ∧ i_Rel (k + 2) u v') v v1) u v1) ?_ I
  intro L m D Q W g N l n σ qd qq qb qc qp ql qe qo qw qn qk qr qs qh rl rn rw rt F
  obtain ⟨hL, hW, hY, hAd, hAq, T, b0, hWt, hLy, hall, R, hRk⟩ := id F
  have hm := hW.1
  have hn := ft_R_le R
  unfold wpX_distance wpY_distance
  dsimp only
  refine ft_x_badRank (by omega) (fun r hr e => br_t rfl ?_) (fun hb => br_f ft_n10 ?_)
  · subst e
    have hs := (R.1 r hr).1
    rw [nI_clamp (n := r) (by omega), (hRk r hr).2]
    refine ⟨vp_in_nI (by omega) (by omega), ?_⟩
    refine ft_y_wordAt hL hW hY R hall (fun r' rt' hr' e => br_f (ft_m4ne (by have := (R.1 r' hr').1; omega)) ?_) (fun rt' hb => absurd rfl (hb r hr))
    have : r = r' := by rw [nI_eq (by omega) (by omega)] at e; exact e
    subst this
    exact ft_y_reach hW hY hs (fun rt2 => ⟨rfl, ft_mk F⟩)
  · exact ft_y_wordAt hL hW hY R hall (fun r' rt' hr' e => absurd e (hb r' hr')) (fun rt' _ => br_t rfl ⟨rfl, ft_mk F⟩)
theorem i_vc_weightAt {k : Nat} {u : SX} {v : SY} (I : i_Rel k u v) (hk : k + 2 ≤ 1025) (v1 : Int32) : wpX_weightAt (fun r => wpY_weightAt (fun r' v' => r' = r ∧ i_Rel (k + 2) u v') v v1) u v1 := by
  refine ft_el (P := fun u v => wpX_weightAt (fun r => wpY_weightAt (fun r' v' => r' = r ∧ i_Rel (k + 2) u v') v v1) u v1) ?_ I
  intro L m D Q W g N l n σ qd qq qb qc qp ql qe qo qw qn qk qr qs qh rl rn rw rt F
  obtain ⟨hL, hW, hY, hAd, hAq, T, b0, hWt, hLy, hall, R, hRk⟩ := id F
  have hm := hW.1
  have hn := ft_R_le R
  unfold wpX_weightAt wpY_weightAt
  dsimp only
  refine ft_x_badRank (by omega) (fun r hr e => br_t rfl ?_) (fun hb => br_f ft_n10 ?_)
  · subst e
    have hs := (R.1 r hr).1
    have hNs := T.2.1 _ (hWt.1 _ hs).1
    rw [nI_clamp (n := r) (by omega), (hRk r hr).1, nI_clamp (n := N (W (σ r))) (by omega), (hWt.1 _ hs).2]
    refine ⟨vp_in_nI (by omega) (by omega), vp_in_nI hNs.1 (by omega), ?_⟩
    refine ft_y_wordAt hL hW hY R hall (fun r' rt' hr' e => br_f (ft_m4ne (by have := (R.1 r' hr').1; omega)) ?_) (fun rt' hb => absurd rfl (hb r hr))
    have : r = r' := by rw [nI_eq (by omega) (by omega)] at e; exact e
    subst this
    refine ⟨vp_in_nI (by omega) (by omega), ?_⟩
    rw [nI_clamp (n := σ r) (by omega)]
    exact ⟨(hY.2.2 _ hs).2.2, ft_mk F⟩
  · exact ft_y_wordAt hL hW hY R hall (fun r' rt' hr' e => absurd e (hb r' hr')) (fun rt' _ => br_t rfl ⟨rfl, ft_mk F⟩)
theorem i_vc_nearest {k : Nat} {u : SX} {v : SY} (I : i_Rel k u v) (hk : k + 2 ≤ 1025) : wpX_nearest (fun r => wpY_nearest (fun r' v' => r' = r ∧ i_Rel (k + 2) u v') v) u := by
  refine ft_el (P := fun u v => wpX_nearest (fun r => wpY_nearest (fun r' v' => r' = r ∧ i_Rel (k + 2) u v') v) u) ?_ I
  intro L m D Q W g N l n σ qd qq qb qc qp ql qe qo qw qn qk qr qs qh rl rn rw rt F
  obtain ⟨hL, hW, hY, hAd, hAq, T, b0, hWt, hLy, hall, R, hRk⟩ := id F
  exact ft_x_nearest hL T (ft_C_Cg hW) hW hWt hY.2.1.2.2 (hLy Q (ft_sf_refl Q)) (fun z => ft_y_nearest hL hW hY (fun rt' _ => ⟨rfl, ft_mk F⟩) (fun rt' y => absurd z y)) (fun z => ft_y_nearest hL hW hY (fun rt' y => absurd y z) (fun rt' _ => ⟨rfl, ft_mk F⟩))
theorem i_vc_exact {k : Nat} {u : SX} {v : SY} (I : i_Rel k u v) (hk : k + 2 ≤ 1025) : wpX_exact (fun r => wpY_exact (fun r' => r' = r ∧ i_Rel (k + 2) u v) v) u := by
  refine ft_el (P := fun u v => wpX_exact (fun r => wpY_exact (fun r' => r' = r ∧ i_Rel (k + 2) u v) v) u) ?_ I
  intro L m D Q W g N l n σ qd qq qb qc qp ql qe qo qw qn qk qr qs qh rl rn rw rt F
  obtain ⟨hL, hW, hY, hAd, hAq, T, b0, hWt, hLy, hall, R, hRk⟩ := id F
  unfold wpX_exact
  dsimp only
  refine ft_x_queryNode T (ft_C_Cg hW) hY.2.1.2.2 hAq (fun hin => ?_) (fun hout => br_f (by decide) ?_)
  · have hNQ := (T.2.1 Q hin).1
    refine br_t (nI_pos' (by omega)) ⟨vp_in_nI hNQ (by omega), ?_⟩
    rw [nI_clamp (n := N Q) (by omega)]
    refine ft_y_exact hW hY ⟨?_, ft_mk F⟩
    cases Q with
    | nil => rw [T.1, b0, ft_C_nil]
    | cons c y => exact (T.2.2.1 c y (ft_in_c hin)).2.1.symm
  · refine ft_y_exact hW hY ⟨?_, ft_mk F⟩
    have : ft_C m W Q = 0 := by
      cases hc : ft_C m W Q with
      | zero => rfl
      | succ j => exact absurd (Or.inr (by omega)) hout
    rw [this]
    rfl
theorem i_vc_continues {k : Nat} {u : SX} {v : SY} (I : i_Rel k u v) (hk : k + 2 ≤ 1025) : wpX_continues (fun r => wpY_continues (fun r' => r' = r ∧ i_Rel (k + 2) u v) v) u := by
  refine ft_el (P := fun u v => wpX_continues (fun r => wpY_continues (fun r' => r' = r ∧ i_Rel (k + 2) u v) v) u) ?_ I
  intro L m D Q W g N l n σ qd qq qb qc qp ql qe qo qw qn qk qr qs qh rl rn rw rt F
  obtain ⟨hL, hW, hY, hAd, hAq, T, b0, hWt, hLy, hall, R, hRk⟩ := id F
  exact ft_x_continues T (ft_C_Cg hW) hY.2.1.2.2 hAq (ft_y_continues hW hY ⟨rfl, ft_mk F⟩)
end
section
/-! adding and removing -/
theorem ft_Wt_old {C N : List Nat → Nat} {m w wt : Nat} {W : Nat → List Nat} {g : Nat → Nat} {qb qc qp ql qe qo qw : Nat → Int32} (h : ft_Wt m W g C N qw) (T : ft_T C N qb qc qp ql qe qo) (hW : ft_Wd m W g) (hw : w < m) : ft_Wt m W (ft_wu g w wt) C N (upd qw (N (W w)) (nI wt)) := by
  have h0 := (h.1 w hw).1
  refine ⟨fun v hv => ?_, fun p hp hn => ?_⟩
  · by_cases e : v = w
    · rw [e, pk_us, ft_wu_s]; exact ⟨h0, rfl⟩
    · have h1 := h.1 v hv
      rw [ft_wu_n e, pk_un (fun z => e (hW.2.2 v w hv hw (T.2.2.2.1 _ _ h1.1 h0 z)))]
      exact h1
  · rw [pk_un (fun z => hn w hw (T.2.2.2.1 _ _ hp h0 z).symm)]
    exact h.2 p hp hn
theorem ft_Wd_old {m w wt : Nat} {W : Nat → List Nat} {g : Nat → Nat} (hW : ft_Wd m W g) (hwt : wt ≤ 99) : ft_Wd m W (ft_wu g w wt) := by
  refine ⟨hW.1, fun v hv => ?_, hW.2.2⟩
  have h1 := hW.2.1 v hv
  refine ⟨h1.1, h1.2.1, h1.2.2.1, ?_⟩
  by_cases e : v = w
  · rw [e, ft_wu_s]; exact hwt
  · rw [ft_wu_n e]; exact h1.2.2.2
theorem ft_N1 {C N : List Nat → Nat} {D : List Nat} {qb qc qp ql qe qo : Nat → Int32} (T : ft_T C N qb qc qp ql qe qo) (hin : ft_in C D) (hD : 1 ≤ D.length) : 1 ≤ N D := by
  cases D with
  | nil => simp only [List.length_nil] at hD; omega
  | cons c y => exact (T.2.2.1 c y (ft_in_c hin)).1
theorem i_vc_add {k : Nat} {u : SX} {v : SY} (I : i_Rel k u v) (hk : k + 2 ≤ 1025) (v1 : Int32) : wpX_add (fun r u' => wpY_add (fun r' v' => r' = r ∧ i_Rel (k + 2) u' v') v v1) u v1 := by
  refine ft_el (P := fun u v => wpX_add (fun r u' => wpY_add (fun r' v' => r' = r ∧ i_Rel (k + 2) u' v') v v1) u v1) ?_ I
  intro L m D Q W g N l n σ qd qq qb qc qp ql qe qo qw qn qk qr qs qh rl rn rw rt F
  obtain ⟨hL, hW, hY, hAd, hAq, T, b0, hWt, hLy, hall, R, hRk⟩ := id F
  have hD6 := hY.1.2.2
  have hQ6 := hY.2.1.2.2
  have hm := hW.1
  unfold wpX_add
  dsimp only
  refine br_c (fun h0 => ft_y_add_bad hY (Or.inl h0) ⟨rfl, ft_mk F⟩) (fun h0 => br_c (fun h9 => ft_y_add_bad hY (Or.inr (Or.inl h9)) ⟨rfl, ft_mk F⟩) (fun h9 => pk_eq D.length 0 (fun hd => ft_y_add_bad hY (Or.inr (Or.inr hd)) ⟨rfl, ft_mk F⟩) (fun hd => ?_)))
  obtain ⟨wt, hwt, rfl⟩ := nI_of2 (M := 99) (n := 99) (by decide) h0 (Int32.not_lt.mp h9)
  have hD1 : 1 ≤ D.length := by omega
  have k55 : (∀ w, w < m → W w ≠ D) → wX_add_55 (fun r u' => wpY_add (fun r' v' => r' = r ∧ i_Rel (k + 2) u' v') (nI L, nI m, rl, rn, rw, rt) (nI wt)) (nI wt) (nI L) (nI D.length) (nI Q.length) (nI m) (nI n) qd qq qb qc qp ql qe qo qw qn qk qr qs qh := by
    intro hnw
    unfold wX_add_55
    refine pk_eq m 12 (fun e => ?_) (fun e => ?_)
    · exact ft_y_add_go hW hY hwt hD1 (fun w hw e => absurd e (hnw w hw)) (fun _ _ => ⟨rfl, ft_mk F⟩) (fun _ h => absurd h (by omega))
    · rw [b0, nI_1]
      refine nm_e ?_
      have T0 := ft_T_b0 (v := nI (m + 1)) T
      have T1 : ft_T (ft_Cq (ft_C m W) (ft_tk D 0)) N (upd qb 0 (nI (m + 1))) qc qp ql qe qo := by
        rw [ft_tk_0]
        exact ft_T_cg (fun c p => ft_Cq_n (ft_C m W) c p) T0
      have Wt1 : ft_Wt m W g (ft_Cq (ft_C m W) (ft_tk D 0)) N qw := by
        rw [ft_tk_0]
        refine ft_Wt_in hWt (fun x hx => ?_) (fun w hw => ?_)
        · cases x with
          | nil => exact ft_in_nil _
          | cons c y =>
            have := ft_in_c hx
            rw [ft_Cq_n] at this
            exact Or.inr this
        · have := ft_C_pos (m := m) (W := W) hw (ft_sf_refl (W w))
          exact Or.inr (by unfold ft_Cq; omega)
      have z := ft_x_a86 (post := fun r u' => wpY_add (fun r' v' => r' = r ∧ i_Rel (k + 2) u' v') (nI L, nI m, rl, rn, rw, rt) (nI wt)) (xc := nI n) (qn := qn) (qk := qk) (qr := qr) (qs := qs) (qh := qh) hL hW (by omega) hD1 hD6 hAd hwt hnw hQ6 hAq (fun N' l' k' σ' qb' qc' qp' ql' qe' qo' qw' qn' qk' qr' qs' qh' a1 a2 a3 a4 a5 a6 a7 => by
        refine ft_y_add_go hW hY hwt hD1 (fun w hw e => absurd e (hnw w hw)) (fun _ h => absurd h e) (fun _ h rl' c1 c2 => ⟨rfl, ?_⟩)
        exact ft_mk (D := []) (m := m + 1) ⟨hL, ft_Wd_add hW h hD1 hD6 (ft_At_ok hAd) hwt hnw, ft_Y_new hW h hY c1 c2, trivial, hAq, a1, a3, a2, a4, a5, a6, a7⟩) D.length 0 N _ _ _ _ _ _ _ (by omega) T1 Wt1 pk_us (D.length + 1) (by omega)
      rw [ft_tk_0, T.1] at z
      exact ⟨_, z⟩
  refine ft_x_draftNode T (ft_C_Cg hW) hD6 hAd (fun hin => ?_) (fun hout => ?_)
  · have hND := (T.2.1 D hin).1
    have hN1 := ft_N1 T hin hD1
    have vN : vp_in (nI (N D)) 80 := vp_in_nI hND (by omega)
    refine br_f (nI_nle (by omega) (by omega)) ⟨vN, ?_⟩
    rw [nI_clamp (n := N D) (by omega)]
    by_cases hw : ∃ w, w < m ∧ W w = D
    · obtain ⟨w, hw, e⟩ := hw
      subst e
      have hg := (hW.2.1 w hw).2.2.2
      rw [(hWt.1 w hw).2]
      refine br_f (nI_pos (by omega)) ⟨vN, nm_e ?_⟩
      refine ft_rank (k := k + 2) (D := []) (Q := Q) hL (ft_Wd_old (w := w) hW hwt) (ft_Y_D0 hm (ft_Y_old (w := w) (wt := wt) hY)) (by trivial) hAq T b0 (ft_Wt_old hWt T hW hw) hLy (rt := rt) (fun n' qk' qr' qs' qh' J => ?_)
      refine ft_y_add_go hW hY hwt hD1 (fun w' hw' e => ⟨rfl, ?_⟩) (fun hn => absurd rfl (hn w hw)) (fun hn => absurd rfl (hn w hw))
      have : w' = w := hW.2.2 w' w hw' hw e
      subst this
      exact J
    · rw [hWt.2 D hin fun w hw' e => hw ⟨w, hw', e⟩]
      exact br_t (by decide) (k55 fun w hw' e => hw ⟨w, hw', e⟩)
  · exact br_t (by decide) (k55 fun w hw e => hout (e ▸ (hWt.1 w hw).1))
theorem i_vc_remove {k : Nat} {u : SX} {v : SY} (I : i_Rel k u v) (hk : k + 2 ≤ 1025) : wpX_remove (fun r u' => wpY_remove (fun r' v' => r' = r ∧ i_Rel (k + 2) u' v') v) u := by
  refine ft_el (P := fun u v => wpX_remove (fun r u' => wpY_remove (fun r' v' => r' = r ∧ i_Rel (k + 2) u' v') v) u) ?_ I
  intro L m D Q W g N l n σ qd qq qb qc qp ql qe qo qw qn qk qr qs qh rl rn rw rt F
  obtain ⟨hL, hW, hY, hAd, hAq, T, b0, hWt, hLy, hall, R, hRk⟩ := id F
  have hD6 := hY.1.2.2
  have hQ6 := hY.2.1.2.2
  have hm := hW.1
  unfold wpX_remove
  dsimp only
  refine pk_eq D.length 0 (fun hd => ?_) (fun hd => ?_)
  · unfold wpY_remove
    dsimp only
    exact br_t (by rw [hY.1.2.1, hd]; rfl) ⟨rfl, ft_mk F⟩
  · have hD1 : 1 ≤ D.length := by omega
    refine ft_x_draftNode T (ft_C_Cg hW) hD6 hAd (fun hin => ?_) (fun hout => ?_)
    · have hND := (T.2.1 D hin).1
      have hN1 := ft_N1 T hin hD1
      have vN : vp_in (nI (N D)) 80 := vp_in_nI hND (by omega)
      refine br_f (nI_pos (by omega)) ⟨vN, ?_⟩
      rw [nI_clamp (n := N D) (by omega)]
      by_cases hw : ∃ w, w < m ∧ W w = D
      · obtain ⟨w, hw, e⟩ := hw
        subst e
        have hg := (hW.2.1 w hw).2.2.2
        have ho := (hW.2.1 w hw).2.2.1
        obtain ⟨m, rfl⟩ : ∃ m', m = m' + 1 := ⟨m - 1, by omega⟩
        have hW' := ft_Wd_rem hW (j := w) (by omega)
        have Wt' := ft_Wt_rem hWt T hW (j := w) (by omega)
        have hCr := ft_C_rem m W w (by omega)
        rw [(hWt.1 w hw).2, b0, nI_pred]
        refine br_t (nI_pos' (by omega)) ⟨vN, nm_e ⟨vN, nm_e (nm_e (nm_e ?_))⟩⟩
        have T0 := ft_T_b0 (v := nI m) T
        rw [hCr] at T0 Wt'
        have z := ft_x_rm71 (post := fun r u' => wpY_remove (fun r' v' => r' = r ∧ i_Rel (k + 2) u' v') (nI L, nI (m + 1), rl, rn, rw, rt)) (old := nI (g w)) (D := W w) (xd := nI (W w).length) (xc := nI n) (qd := qd) (qn := qn) (qk := qk) (qr := qr) (qs := qs) (qh := qh) hL hW' (by omega) hD6 ho hQ6 hAq Wt' (fun l' k' σ' qb' qc' qn' qk' qr' qs' qh' a1 a2 a3 a4 a5 a6 a7 => by
          refine ft_y_rem_go hW hY hD1 (w := w) (by omega) rfl (fun rl' c1 c2 => ⟨rfl, ?_⟩)
          exact ft_mk (D := []) ⟨hL, hW', ft_Y_rem hW (by omega) hY c1 c2, trivial, hAq, a1, a3, a2, a4, a5, a6, a7⟩) (W w) (upd qb 0 (nI m)) qc (ft_sf_refl _) T0 pk_us ((W w).length + 1) (by omega)
        rw [Nat.sub_self] at z
        exact ⟨_, z⟩
      · rw [hWt.2 D hin fun w hw' e => hw ⟨w, hw', e⟩]
        exact br_f (by decide) (ft_y_rem_no hW hY hD1 (fun w hw' e => hw ⟨w, hw', e⟩) ⟨rfl, ft_mk F⟩)
    · exact br_t (by decide) (ft_y_rem_no hW hY hD1 (fun w hw e => hout (e ▸ (hWt.1 w hw).1)) ⟨rfl, ft_mk F⟩)
end
