section
/-- nodes: leaves below n, inner nodes from 8 on (n - 1 of them) -/
def ph_nd (n x : Nat) : Prop := x < n ∨ (8 ≤ x ∧ x < n + 7)
def ph_in (n x : Nat) : Prop := 8 ≤ x ∧ x < n + 7
/-- a well formed tree: t the top, P parents, F and S the two children, r a rank that grows upwards, below K -/
def ph_wf (n t : Nat) (P F S r : Nat → Nat) (K : Nat) : Prop :=
  (1 ≤ n ∧ n ≤ 7 ∧ ph_nd n t) ∧
  (∀ x, ph_nd n x → x ≠ t → ph_in n (P x) ∧ (F (P x) = x ∨ S (P x) = x)) ∧
  (∀ p, ph_in n p → ph_nd n (F p) ∧ ph_nd n (S p) ∧ F p ≠ S p ∧ F p ≠ t ∧ S p ≠ t ∧ P (F p) = p ∧ P (S p) = p) ∧
  (∀ x, ph_nd n x → x ≠ t → r x < r (P x)) ∧ (∀ x, ph_nd n x → r x < K)
theorem ph_in_nd {n x : Nat} (h : ph_in n x) : ph_nd n x := Or.inr h
theorem ph_nd_in {n x : Nat} (hn : n ≤ 7) (h : ph_nd n x) (h8 : ¬ x < 8) : ph_in n x := by
  unfold ph_nd at h; unfold ph_in; omega
theorem ph_nd_lf {n x : Nat} (h : ph_nd n x) (h8 : x < 8) : x < n := by
  unfold ph_nd at h; omega
theorem ph_nd14 {n x : Nat} (hn : n ≤ 7) (h : ph_nd n x) : x < 14 := by
  unfold ph_nd at h; omega
theorem ph_in14 {n x : Nat} (hn : n ≤ 7) (h : ph_in n x) : x < 14 := by
  unfold ph_in at h; omega
/-- the k-th ancestor (it stays at the top) -/
def ph_up (P : Nat → Nat) (t : Nat) : Nat → Nat → Nat
  | 0, x => x
  | k + 1, x => if x = t then t else ph_up P t k (P x)
/-- x is y or below it -/
def ph_un (P : Nat → Nat) (t x y : Nat) : Prop := ∃ k, ph_up P t k x = y
section
variable {n t K : Nat} {P F S r : Nat → Nat}
theorem ph_dn (w : ph_wf n t P F S r K) {Q : Nat → Prop} (ht : Q t) (hs : ∀ x, ph_nd n x → x ≠ t → ph_nd n (P x) → Q (P x) → Q x) : ∀ x, ph_nd n x → Q x := by
  obtain ⟨_, w2, _, w4, w5⟩ := w
  have key : ∀ m x, ph_nd n x → K - r x ≤ m → Q x := by
    intro m
    induction m with
    | zero =>
      intro x hx h
      have := w5 x hx
      omega
    | succ m ih =>
      intro x hx h
      by_cases e : x = t
      · rw [e]; exact ht
      · have h1 := (w2 x hx e).1
        have h2 := w4 x hx e
        have h3 := w5 x hx
        exact hs x hx e (ph_in_nd h1) (ih (P x) (ph_in_nd h1) (by omega))
  exact fun x hx => key _ x hx (Nat.le_refl _)
theorem ph_lu (w : ph_wf n t P F S r K) {Q : Nat → Prop} (hl : ∀ x, x < n → Q x) (hi : ∀ p, ph_in n p → Q (F p) → Q (S p) → Q p) : ∀ x, ph_nd n x → Q x := by
  obtain ⟨⟨_, hn, _⟩, _, w3, w4, _⟩ := w
  have key : ∀ m x, ph_nd n x → r x < m → Q x := by
    intro m
    induction m with
    | zero => intro x _ h; omega
    | succ m ih =>
      intro x hx h
      by_cases h8 : x < 8
      · exact hl x (ph_nd_lf hx h8)
      · have hp := ph_nd_in hn hx h8
        obtain ⟨f1, f2, _, f4, f5, f6, f7⟩ := w3 x hp
        have g1 := w4 _ f1 f4
        have g2 := w4 _ f2 f5
        rw [f6] at g1
        rw [f7] at g2
        exact hi x hp (ih _ f1 (by omega)) (ih _ f2 (by omega))
  exact fun x hx => key _ x hx (Nat.lt_succ_self _)
theorem ph_un0 (P : Nat → Nat) (t x : Nat) : ph_un P t x x := ⟨0, rfl⟩
theorem ph_unS {x y : Nat} (hx : x ≠ t) (h : ph_un P t (P x) y) : ph_un P t x y := by
  obtain ⟨k, hk⟩ := h
  refine ⟨k + 1, ?_⟩
  show (if x = t then t else ph_up P t k (P x)) = y
  rw [if_neg hx]
  exact hk
theorem ph_unC {x y : Nat} (h : ph_un P t x y) : x = y ∨ (x ≠ t ∧ ph_un P t (P x) y) := by
  obtain ⟨k, hk⟩ := h
  cases k with
  | zero => exact Or.inl hk
  | succ k =>
    have hk' : (if x = t then t else ph_up P t k (P x)) = y := hk
    by_cases e : x = t
    · rw [if_pos e] at hk'
      exact Or.inl (e.trans hk')
    · rw [if_neg e] at hk'
      exact Or.inr ⟨e, k, hk'⟩
theorem ph_untop {y : Nat} (h : ph_un P t t y) : y = t := by
  rcases ph_unC h with e | ⟨e, _⟩
  · exact e.symm
  · exact absurd rfl e
theorem ph_unX {y z : Nat} (hyz : ph_un P t y z) : ∀ k x, ph_up P t k x = y → ph_un P t x z := by
  intro k
  induction k with
  | zero =>
    intro x h
    have h' : x = y := h
    rw [h']; exact hyz
  | succ k ih =>
    intro x h
    have h' : (if x = t then t else ph_up P t k (P x)) = y := h
    by_cases e : x = t
    · rw [if_pos e] at h'
      have e' : x = y := e.trans h'
      rw [e']; exact hyz
    · rw [if_neg e] at h'
      exact ph_unS e (ih _ h')
theorem ph_un_tr {x y z : Nat} (h1 : ph_un P t x y) (h2 : ph_un P t y z) : ph_un P t x z := by
  obtain ⟨k, hk⟩ := h1
  exact ph_unX h2 k x hk
theorem ph_unT (w : ph_wf n t P F S r K) : ∀ x, ph_nd n x → ph_un P t x t :=
  ph_dn w (Q := fun x => ph_un P t x t) (ph_un0 P t t) (fun x _ hx _ h => ph_unS hx h)
theorem ph_unR (w : ph_wf n t P F S r K) {y : Nat} : ∀ x, ph_nd n x → ph_un P t x y → ph_nd n y ∧ r x ≤ r y := by
  have w' := w
  obtain ⟨⟨_, _, ht⟩, _, _, w4, _⟩ := w'
  refine ph_dn w (Q := fun x => ph_un P t x y → ph_nd n y ∧ r x ≤ r y) (fun h => ?_) (fun x hx hxt hp ih h => ?_)
  · rw [ph_untop h]
    exact ⟨ht, Nat.le_refl _⟩
  · rcases ph_unC h with e | ⟨_, h2⟩
    · rw [← e]
      exact ⟨hx, Nat.le_refl _⟩
    · have h3 := ih h2
      have h4 := w4 x hx hxt
      exact ⟨h3.1, by omega⟩
theorem ph_unL (w : ph_wf n t P F S r K) {x y : Nat} (hx : ph_nd n x) (h : ph_un P t x y) (hne : x ≠ y) : r x < r y := by
  have w' := w
  obtain ⟨_, w2, _, w4, _⟩ := w'
  rcases ph_unC h with e | ⟨hxt, h2⟩
  · exact absurd e hne
  · have h3 := (ph_unR w _ (ph_in_nd (w2 x hx hxt).1) h2).2
    have h4 := w4 x hx hxt
    omega
theorem ph_unP (w : ph_wf n t P F S r K) {x : Nat} (hx : ph_nd n x) (hxt : x ≠ t) : ¬ ph_un P t (P x) x := by
  intro h
  have w' := w
  obtain ⟨_, w2, _, w4, _⟩ := w'
  have h3 := (ph_unR w _ (ph_in_nd (w2 x hx hxt).1) h).2
  have h4 := w4 x hx hxt
  omega
theorem ph_unF (w : ph_wf n t P F S r K) {q : Nat} (hq : ph_in n q) : ph_un P t (F q) q ∧ ph_un P t (S q) q := by
  have w' := w
  obtain ⟨_, _, w3, _, _⟩ := w'
  obtain ⟨f1, f2, f3, f4, f5, f6, f7⟩ := w3 q hq
  refine ⟨ph_unS f4 ?_, ph_unS f5 ?_⟩
  · rw [f6]; exact ph_un0 _ _ _
  · rw [f7]; exact ph_un0 _ _ _
theorem ph_unQ (w : ph_wf n t P F S r K) {q : Nat} (hq : ph_in n q) : ¬ ph_un P t q (F q) ∧ ¬ ph_un P t q (S q) := by
  have w' := w
  obtain ⟨_, _, w3, _, _⟩ := w'
  obtain ⟨f1, f2, f3, f4, f5, f6, f7⟩ := w3 q hq
  refine ⟨fun h => ?_, fun h => ?_⟩
  · exact ph_unP w f1 f4 (by rw [f6]; exact h)
  · exact ph_unP w f2 f5 (by rw [f7]; exact h)
theorem ph_un_ch (w : ph_wf n t P F S r K) {q : Nat} (hq : ph_in n q) : ∀ x, ph_nd n x → ph_un P t x q → x = q ∨ ph_un P t x (F q) ∨ ph_un P t x (S q) := by
  have w' := w
  obtain ⟨_, w2, w3, _, _⟩ := w'
  refine ph_dn w (Q := fun x => ph_un P t x q → x = q ∨ ph_un P t x (F q) ∨ ph_un P t x (S q)) (fun h => Or.inl (ph_untop h).symm) (fun x hx hxt hp ih h => ?_)
  rcases ph_unC h with e | ⟨_, h2⟩
  · exact Or.inl e
  · rcases ih h2 with e | e | e
    · have h3 := (w2 x hx hxt).2
      rw [e] at h3
      rcases h3 with g | g
      · exact Or.inr (Or.inl (by rw [g]; exact ph_un0 _ _ _))
      · exact Or.inr (Or.inr (by rw [g]; exact ph_un0 _ _ _))
    · exact Or.inr (Or.inl (ph_unS hxt e))
    · exact Or.inr (Or.inr (ph_unS hxt e))
theorem ph_un_ex (w : ph_wf n t P F S r K) {q : Nat} (hq : ph_in n q) : ∀ x, ph_nd n x → ph_un P t x (F q) → ph_un P t x (S q) → False := by
  have w' := w
  obtain ⟨_, w2, w3, _, _⟩ := w'
  obtain ⟨f1, f2, f3, f4, f5, f6, f7⟩ := w3 q hq
  have g1 : ¬ ph_un P t (F q) (S q) := by
    intro h
    rcases ph_unC h with e | ⟨_, h2⟩
    · exact f3 e
    · rw [f6] at h2
      exact (ph_unQ w hq).2 h2
  have g2 : ¬ ph_un P t (S q) (F q) := by
    intro h
    rcases ph_unC h with e | ⟨_, h2⟩
    · exact f3 e.symm
    · rw [f7] at h2
      exact (ph_unQ w hq).1 h2
  refine ph_dn w (Q := fun x => ph_un P t x (F q) → ph_un P t x (S q) → False) (fun h _ => f4 (ph_untop h)) (fun x hx hxt hp ih h h' => ?_)
  rcases ph_unC h with e | ⟨_, h2⟩
  · rw [e] at h'; exact g1 h'
  · rcases ph_unC h' with e | ⟨_, h2'⟩
    · rw [e] at h; exact g2 h
    · exact ih h2 h2'
/-- the number of inner nodes under a node -/
noncomputable def ph_b (p : Prop) : Nat := @ite Nat p (Classical.propDecidable p) 1 0
theorem ph_b1 {p : Prop} (h : p) : ph_b p = 1 := by unfold ph_b; exact if_pos h
theorem ph_b0 {p : Prop} (h : ¬ p) : ph_b p = 0 := by unfold ph_b; exact if_neg h
theorem ph_ble (p : Prop) : ph_b p ≤ 1 := by
  by_cases h : p
  · rw [ph_b1 h]; omega
  · rw [ph_b0 h]; omega
noncomputable def ph_c (n : Nat) (P : Nat → Nat) (t z x : Nat) : Nat := ph_b (ph_in n z ∧ ph_un P t z x)
noncomputable def ph_cnt (n : Nat) (P : Nat → Nat) (t x : Nat) : Nat := ph_c n P t 8 x + ph_c n P t 9 x + ph_c n P t 10 x + ph_c n P t 11 x + ph_c n P t 12 x + ph_c n P t 13 x
theorem ph_cnt6 (n : Nat) (P : Nat → Nat) (t x : Nat) : ph_cnt n P t x ≤ 6 := by
  unfold ph_cnt ph_c
  have h1 := ph_ble (ph_in n 8 ∧ ph_un P t 8 x)
  have h2 := ph_ble (ph_in n 9 ∧ ph_un P t 9 x)
  have h3 := ph_ble (ph_in n 10 ∧ ph_un P t 10 x)
  have h4 := ph_ble (ph_in n 11 ∧ ph_un P t 11 x)
  have h5 := ph_ble (ph_in n 12 ∧ ph_un P t 12 x)
  have h6 := ph_ble (ph_in n 13 ∧ ph_un P t 13 x)
  omega
theorem ph_c_eq (w : ph_wf n t P F S r K) {x : Nat} (hx : ph_in n x) (z : Nat) : ph_c n P t z x = ph_b (z = x) + ph_c n P t z (F x) + ph_c n P t z (S x) := by
  by_cases hz : ph_in n z
  · by_cases e : z = x
    · have e1 : ph_c n P t z x = 1 := ph_b1 ⟨hz, by rw [e]; exact ph_un0 _ _ _⟩
      have e2 : ph_c n P t z (F x) = 0 := ph_b0 (fun h => (ph_unQ w hx).1 (by have h2 := h.2; rw [e] at h2; exact h2))
      have e3 : ph_c n P t z (S x) = 0 := ph_b0 (fun h => (ph_unQ w hx).2 (by have h2 := h.2; rw [e] at h2; exact h2))
      rw [e1, e2, e3, ph_b1 e]
    · rw [ph_b0 e]
      by_cases h1 : ph_un P t z x
      · have e1 : ph_c n P t z x = 1 := ph_b1 ⟨hz, h1⟩
        rcases ph_un_ch w hx z (ph_in_nd hz) h1 with g | g | g
        · exact absurd g e
        · have e2 : ph_c n P t z (F x) = 1 := ph_b1 ⟨hz, g⟩
          have e3 : ph_c n P t z (S x) = 0 := ph_b0 (fun h => ph_un_ex w hx z (ph_in_nd hz) g h.2)
          rw [e1, e2, e3]
        · have e2 : ph_c n P t z (F x) = 0 := ph_b0 (fun h => ph_un_ex w hx z (ph_in_nd hz) h.2 g)
          have e3 : ph_c n P t z (S x) = 1 := ph_b1 ⟨hz, g⟩
          rw [e1, e2, e3]
      · have e1 : ph_c n P t z x = 0 := ph_b0 (fun h => h1 h.2)
        have e2 : ph_c n P t z (F x) = 0 := ph_b0 (fun h => h1 (ph_un_tr h.2 (ph_unF w hx).1))
        have e3 : ph_c n P t z (S x) = 0 := ph_b0 (fun h => h1 (ph_un_tr h.2 (ph_unF w hx).2))
        rw [e1, e2, e3]
  · have e1 : ph_c n P t z x = 0 := ph_b0 (fun h => hz h.1)
    have e2 : ph_c n P t z (F x) = 0 := ph_b0 (fun h => hz h.1)
    have e3 : ph_c n P t z (S x) = 0 := ph_b0 (fun h => hz h.1)
    have e4 : ph_b (z = x) = 0 := ph_b0 (fun h => hz (by rw [h]; exact hx))
    rw [e1, e2, e3, e4]
theorem ph_cnt_eq (w : ph_wf n t P F S r K) {x : Nat} (hx : ph_in n x) : ph_cnt n P t x = 1 + ph_cnt n P t (F x) + ph_cnt n P t (S x) := by
  have hs : ph_b (8 = x) + ph_b (9 = x) + ph_b (10 = x) + ph_b (11 = x) + ph_b (12 = x) + ph_b (13 = x) = 1 := by
    have h14 := ph_in14 w.1.2.1 hx
    have h8 := hx.1
    have hh : x = 8 ∨ x = 9 ∨ x = 10 ∨ x = 11 ∨ x = 12 ∨ x = 13 := by omega
    rcases hh with e | e | e | e | e | e <;> subst e
    · rw [ph_b1 rfl, ph_b0 (by omega), ph_b0 (by omega), ph_b0 (by omega), ph_b0 (by omega), ph_b0 (by omega)]
    · rw [ph_b0 (by omega), ph_b1 rfl, ph_b0 (by omega), ph_b0 (by omega), ph_b0 (by omega), ph_b0 (by omega)]
    · rw [ph_b0 (by omega), ph_b0 (by omega), ph_b1 rfl, ph_b0 (by omega), ph_b0 (by omega), ph_b0 (by omega)]
    · rw [ph_b0 (by omega), ph_b0 (by omega), ph_b0 (by omega), ph_b1 rfl, ph_b0 (by omega), ph_b0 (by omega)]
    · rw [ph_b0 (by omega), ph_b0 (by omega), ph_b0 (by omega), ph_b0 (by omega), ph_b1 rfl, ph_b0 (by omega)]
    · rw [ph_b0 (by omega), ph_b0 (by omega), ph_b0 (by omega), ph_b0 (by omega), ph_b0 (by omega), ph_b1 rfl]
  have e8 := ph_c_eq w hx 8
  have e9 := ph_c_eq w hx 9
  have e10 := ph_c_eq w hx 10
  have e11 := ph_c_eq w hx 11
  have e12 := ph_c_eq w hx 12
  have e13 := ph_c_eq w hx 13
  unfold ph_cnt
  omega
end
/-- a fold over the tree, with fuel -/
def ph_fold {α : Type} (lf : Nat → α) (op : α → α → α) (F S : Nat → Nat) : Nat → Nat → α
  | 0, x => lf x
  | m + 1, x => if x < 8 then lf x else op (ph_fold lf op F S m (F x)) (ph_fold lf op F S m (S x))
def ph_val {α : Type} (lf : Nat → α) (op : α → α → α) (F S : Nat → Nat) (x : Nat) : α := ph_fold lf op F S 7 x
section
variable {α : Type} {lf : Nat → α} {op : α → α → α} {n t K : Nat} {P F S r : Nat → Nat}
theorem ph_fold_ind (w : ph_wf n t P F S r K) : ∀ m k x, ph_nd n x → ph_cnt n P t x < m → ph_cnt n P t x < k → ph_fold lf op F S m x = ph_fold lf op F S k x := by
  intro m
  induction m with
  | zero => intro k x _ h; omega
  | succ m ih =>
    intro k x hx h1 h2
    cases k with
    | zero => omega
    | succ k =>
      show (if x < 8 then lf x else op (ph_fold lf op F S m (F x)) (ph_fold lf op F S m (S x))) = (if x < 8 then lf x else op (ph_fold lf op F S k (F x)) (ph_fold lf op F S k (S x)))
      by_cases h8 : x < 8
      · rw [if_pos h8, if_pos h8]
      · have w' := w
        obtain ⟨⟨_, hn, _⟩, _, w3, _, _⟩ := w'
        have hi := ph_nd_in hn hx h8
        have hc := ph_cnt_eq w hi
        obtain ⟨f1, f2, _⟩ := w3 x hi
        rw [if_neg h8, if_neg h8, ih k (F x) f1 (by omega) (by omega), ih k (S x) f2 (by omega) (by omega)]
theorem ph_val_lf {x : Nat} (h : x < 8) : ph_val lf op F S x = lf x := by
  show (if x < 8 then lf x else op (ph_fold lf op F S 6 (F x)) (ph_fold lf op F S 6 (S x))) = lf x
  rw [if_pos h]
theorem ph_val_in (w : ph_wf n t P F S r K) {x : Nat} (hx : ph_in n x) : ph_val lf op F S x = op (ph_val lf op F S (F x)) (ph_val lf op F S (S x)) := by
  have w' := w
  obtain ⟨_, _, w3, _, _⟩ := w'
  obtain ⟨f1, f2, _⟩ := w3 x hx
  have h8 : ¬ x < 8 := by have := hx.1; omega
  have hc := ph_cnt_eq w hx
  have h6 := ph_cnt6 n P t x
  show (if x < 8 then lf x else op (ph_fold lf op F S 6 (F x)) (ph_fold lf op F S 6 (S x))) = op (ph_fold lf op F S 7 (F x)) (ph_fold lf op F S 7 (S x))
  rw [if_neg h8, ph_fold_ind w 6 7 (F x) f1 (by omega) (by omega), ph_fold_ind w 6 7 (S x) f2 (by omega) (by omega)]
end
theorem ph_pig : ∀ (N m : Nat) (f : Nat → Nat), (∀ j, j < m → f j < N) → (∀ i j, i < m → j < m → f i = f j → i = j) → m ≤ N := by
  intro N
  induction N with
  | zero =>
    intro m f h _
    cases m with
    | zero => omega
    | succ m => exact absurd (h 0 (by omega)) (by omega)
  | succ N ih =>
    intro m f h inj
    by_cases hex : ∃ j, j < m ∧ f j = N
    · obtain ⟨j0, hj0, e0⟩ := hex
      have hk := ih (m - 1) (fun j => if j < j0 then f j else f (j + 1)) (fun j hj => by
        show (if j < j0 then f j else f (j + 1)) < N
        by_cases hlt : j < j0
        · rw [if_pos hlt]
          have a := h j (by omega)
          have b : f j ≠ N := fun e => by
            have := inj j j0 (by omega) hj0 (e.trans e0.symm)
            omega
          omega
        · rw [if_neg hlt]
          have a := h (j + 1) (by omega)
          have b : f (j + 1) ≠ N := fun e => by
            have := inj (j + 1) j0 (by omega) hj0 (e.trans e0.symm)
            omega
          omega) (fun i j hi hj e => by
        have e' : (if i < j0 then f i else f (i + 1)) = (if j < j0 then f j else f (j + 1)) := e
        by_cases h1 : i < j0
        · rw [if_pos h1] at e'
          by_cases h2 : j < j0
          · rw [if_pos h2] at e'
            exact inj _ _ (by omega) (by omega) e'
          · rw [if_neg h2] at e'
            have := inj _ _ (by omega) (by omega) e'
            omega
        · rw [if_neg h1] at e'
          by_cases h2 : j < j0
          · rw [if_pos h2] at e'
            have := inj _ _ (by omega) (by omega) e'
            omega
          · rw [if_neg h2] at e'
            have := inj _ _ (by omega) (by omega) e'
            omega)
      omega
    · have hk := ih m f (fun j hj => by
        have a := h j hj
        have b : f j ≠ N := fun e => hex ⟨j, hj, e⟩
        omega) inj
      omega
theorem ph_pig13 {n m : Nat} {o : Nat → Nat} (hn : n ≤ 7) (hd : ∀ j, j < m → ph_nd n (o j)) (inj : ∀ i j, i < m → j < m → o i = o j → i = j) : m ≤ 13 := by
  refine ph_pig 13 m (fun j => if o j < 8 then o j else o j - 1) (fun j hj => ?_) (fun i j hi hj e => ?_)
  · have h := hd j hj
    show (if o j < 8 then o j else o j - 1) < 13
    unfold ph_nd at h
    by_cases h8 : o j < 8
    · rw [if_pos h8]; omega
    · rw [if_neg h8]; omega
  · have e' : (if o i < 8 then o i else o i - 1) = (if o j < 8 then o j else o j - 1) := e
    have h1 := hd i hi
    have h2 := hd j hj
    unfold ph_nd at h1 h2
    apply inj i j hi hj
    by_cases g1 : o i < 8
    · rw [if_pos g1] at e'
      by_cases g2 : o j < 8
      · rw [if_pos g2] at e'; exact e'
      · rw [if_neg g2] at e'; omega
    · rw [if_neg g1] at e'
      by_cases g2 : o j < 8
      · rw [if_pos g2] at e'; omega
      · rw [if_neg g2] at e'; omega
end
section
/-- the exchange of x and y -/
def ph_sw (x y k : Nat) : Nat := if k = x then y else if k = y then x else k
theorem ph_sw_l (x y : Nat) : ph_sw x y x = y := by unfold ph_sw; exact if_pos rfl
theorem ph_sw_r (x y : Nat) : ph_sw x y y = x := by
  unfold ph_sw
  by_cases e : y = x
  · rw [if_pos e]; exact e
  · rw [if_neg e, if_pos rfl]
theorem ph_sw_n {x y k : Nat} (h1 : k ≠ x) (h2 : k ≠ y) : ph_sw x y k = k := by
  unfold ph_sw
  rw [if_neg h1, if_neg h2]
theorem ph_sw2 (x y k : Nat) : ph_sw x y (ph_sw x y k) = k := by
  by_cases h1 : k = x
  · rw [h1, ph_sw_l, ph_sw_r]
  · by_cases h2 : k = y
    · rw [h2, ph_sw_r, ph_sw_l]
    · rw [ph_sw_n h1 h2, ph_sw_n h1 h2]
theorem ph_sw_inj {x y a b : Nat} (h : ph_sw x y a = ph_sw x y b) : a = b := by
  have h2 : ph_sw x y (ph_sw x y a) = ph_sw x y (ph_sw x y b) := by rw [h]
  rw [ph_sw2, ph_sw2] at h2
  exact h2
section
variable {n t K : Nat} {P F S r : Nat → Nat}
theorem ph_sw_nd {x y k : Nat} (hx : ph_nd n x) (hy : ph_nd n y) (hk : ph_nd n k) : ph_nd n (ph_sw x y k) := by
  by_cases h1 : k = x
  · rw [h1, ph_sw_l]; exact hy
  · by_cases h2 : k = y
    · rw [h2, ph_sw_r]; exact hx
    · rw [ph_sw_n h1 h2]; exact hk
theorem ph_wf_ex (w : ph_wf n t P F S r K) {x y : Nat} (hx : ph_nd n x) (hy : ph_nd n y) (h1 : ¬ ph_un P t x y) (h2 : ¬ ph_un P t y x) :
    ∃ r' K', ph_wf n t (fun k => P (ph_sw x y k)) (fun k => ph_sw x y (F k)) (fun k => ph_sw x y (S k)) r' K' := by
  have w' := w
  obtain ⟨w1, w2, w3, w4, w5⟩ := w'
  have hxt : x ≠ t := fun e => h2 (by rw [e]; exact ph_unT w y hy)
  have hyt : y ≠ t := fun e => h1 (by rw [e]; exact ph_unT w x hx)
  have hst : ∀ k, k ≠ t → ph_sw x y k ≠ t := by
    intro k hk e
    have e2 : ph_sw x y (ph_sw x y k) = ph_sw x y t := by rw [e]
    rw [ph_sw2, ph_sw_n (fun e => hxt e.symm) (fun e => hyt e.symm)] at e2
    exact hk e2
  refine ⟨fun z => r z + K * ph_b (¬ (ph_un P t z x ∨ ph_un P t z y)), 2 * K, w1, ?_, ?_, ?_, ?_⟩
  · intro z hz hzt
    obtain ⟨g1, g2⟩ := w2 _ (ph_sw_nd hx hy hz) (hst z hzt)
    refine ⟨g1, ?_⟩
    rcases g2 with g | g
    · left
      show ph_sw x y (F (P (ph_sw x y z))) = z
      rw [g, ph_sw2]
    · right
      show ph_sw x y (S (P (ph_sw x y z))) = z
      rw [g, ph_sw2]
  · intro p hp
    obtain ⟨f1, f2, f3, f4, f5, f6, f7⟩ := w3 p hp
    refine ⟨ph_sw_nd hx hy f1, ph_sw_nd hx hy f2, fun e => f3 (ph_sw_inj e), hst _ f4, hst _ f5, ?_, ?_⟩
    · show P (ph_sw x y (ph_sw x y (F p))) = p
      rw [ph_sw2]; exact f6
    · show P (ph_sw x y (ph_sw x y (S p))) = p
      rw [ph_sw2]; exact f7
  · intro z hz hzt
    show r z + K * ph_b (¬ (ph_un P t z x ∨ ph_un P t z y)) < r (P (ph_sw x y z)) + K * ph_b (¬ (ph_un P t (P (ph_sw x y z)) x ∨ ph_un P t (P (ph_sw x y z)) y))
    have hzK := w5 z hz
    by_cases e1 : z = x
    · rw [e1, ph_sw_l, ph_b0 (fun h => h (Or.inl (ph_un0 _ _ _))), ph_b1]
      · have := w5 x hx
        omega
      · rintro (h | h)
        · exact h2 (ph_unS hyt h)
        · exact ph_unP w hy hyt h
    · by_cases e2 : z = y
      · rw [e2, ph_sw_r, ph_b0 (fun h => h (Or.inr (ph_un0 _ _ _))), ph_b1]
        · have := w5 y hy
          omega
        · rintro (h | h)
          · exact ph_unP w hx hxt h
          · exact h1 (ph_unS hxt h)
      · rw [ph_sw_n e1 e2]
        have h4 := w4 z hz hzt
        by_cases hu : ph_un P t (P z) x ∨ ph_un P t (P z) y
        · have hu' : ph_un P t z x ∨ ph_un P t z y := hu.elim (fun h => Or.inl (ph_unS hzt h)) (fun h => Or.inr (ph_unS hzt h))
          rw [ph_b0 (fun h => h hu'), ph_b0 (fun h => h hu)]
          omega
        · rw [ph_b1 hu]
          have h5 := ph_ble (¬ (ph_un P t z x ∨ ph_un P t z y))
          have h6 := Nat.mul_le_mul_left K h5
          omega
  · intro z hz
    have hzK := w5 z hz
    have h5 := ph_ble (¬ (ph_un P t z x ∨ ph_un P t z y))
    have h6 := Nat.mul_le_mul_left K h5
    show r z + K * ph_b (¬ (ph_un P t z x ∨ ph_un P t z y)) < 2 * K
    omega
theorem ph_ex_out (w : ph_wf n t P F S r K) {x y : Nat} (hx : ph_nd n x) (hy : ph_nd n y) (h1 : ¬ ph_un P t x y) (h2 : ¬ ph_un P t y x) :
    ∀ z, ph_nd n z → ¬ ph_un P t z x → ¬ ph_un P t z y → ¬ ph_un (fun k => P (ph_sw x y k)) t z x ∧ ¬ ph_un (fun k => P (ph_sw x y k)) t z y := by
  have hxt : x ≠ t := fun e => h2 (by rw [e]; exact ph_unT w y hy)
  have hyt : y ≠ t := fun e => h1 (by rw [e]; exact ph_unT w x hx)
  refine ph_dn w (Q := fun z => ¬ ph_un P t z x → ¬ ph_un P t z y → ¬ ph_un (fun k => P (ph_sw x y k)) t z x ∧ ¬ ph_un (fun k => P (ph_sw x y k)) t z y) (fun _ _ => ?_) (fun z hz hzt hp ih g1 g2 => ?_)
  · exact ⟨fun h => hxt (ph_untop h), fun h => hyt (ph_untop h)⟩
  · have e1 : z ≠ x := fun e => g1 (by rw [e]; exact ph_un0 _ _ _)
    have e2 : z ≠ y := fun e => g2 (by rw [e]; exact ph_un0 _ _ _)
    have ih' := ih (fun h => g1 (ph_unS hzt h)) (fun h => g2 (ph_unS hzt h))
    refine ⟨fun h => ?_, fun h => ?_⟩
    · rcases ph_unC h with e | ⟨_, h3⟩
      · exact e1 e
      · have h4 : ph_un (fun k => P (ph_sw x y k)) t (P (ph_sw x y z)) x := h3
        rw [ph_sw_n e1 e2] at h4
        exact ih'.1 h4
    · rcases ph_unC h with e | ⟨_, h3⟩
      · exact e2 e
      · have h4 : ph_un (fun k => P (ph_sw x y k)) t (P (ph_sw x y z)) y := h3
        rw [ph_sw_n e1 e2] at h4
        exact ih'.2 h4
theorem ph_ex_nu (w : ph_wf n t P F S r K) {x y : Nat} (hx : ph_nd n x) (hy : ph_nd n y) (h1 : ¬ ph_un P t x y) (h2 : ¬ ph_un P t y x) :
    ¬ ph_un (fun k => P (ph_sw x y k)) t x y ∧ ¬ ph_un (fun k => P (ph_sw x y k)) t y x := by
  have w' := w
  obtain ⟨_, w2, _, _, _⟩ := w'
  have hxt : x ≠ t := fun e => h2 (by rw [e]; exact ph_unT w y hy)
  have hyt : y ≠ t := fun e => h1 (by rw [e]; exact ph_unT w x hx)
  have hne : x ≠ y := fun e => h1 (by rw [e]; exact ph_un0 _ _ _)
  have a1 := ph_ex_out w hx hy h1 h2 (P y) (ph_in_nd (w2 y hy hyt).1) (fun h => h2 (ph_unS hyt h)) (ph_unP w hy hyt)
  have a2 := ph_ex_out w hx hy h1 h2 (P x) (ph_in_nd (w2 x hx hxt).1) (ph_unP w hx hxt) (fun h => h1 (ph_unS hxt h))
  refine ⟨fun h => ?_, fun h => ?_⟩
  · rcases ph_unC h with e | ⟨_, h3⟩
    · exact hne e
    · have h4 : ph_un (fun k => P (ph_sw x y k)) t (P (ph_sw x y x)) y := h3
      rw [ph_sw_l] at h4
      exact a1.2 h4
  · rcases ph_unC h with e | ⟨_, h3⟩
    · exact hne e.symm
    · have h4 : ph_un (fun k => P (ph_sw x y k)) t (P (ph_sw x y y)) x := h3
      rw [ph_sw_r] at h4
      exact a2.1 h4
end
/-- a pointer to a becomes one to b -/
def ph_sb (a b k : Nat) : Nat := if k = a then b else k
theorem ph_sb_e (a b : Nat) : ph_sb a b a = b := by unfold ph_sb; exact if_pos rfl
theorem ph_sb_n {a b k : Nat} (h : k ≠ a) : ph_sb a b k = k := by unfold ph_sb; exact if_neg h
/-- the parents after a leaf n and an inner node n + 7 have come at x -/
def ph_atP (n x : Nat) (P : Nat → Nat) (z : Nat) : Nat := if z = x then n + 7 else if z = n then n + 7 else if z = n + 7 then P x else P z
def ph_atC (n x c : Nat) (F : Nat → Nat) (k : Nat) : Nat := if k = n + 7 then c else ph_sb x (n + 7) (F k)
section
variable {n t K : Nat} {P F S r : Nat → Nat}
theorem ph_wf_at (w : ph_wf n t P F S r K) (hn : n < 7) {x : Nat} (hx : ph_nd n x) :
    ∃ r' K', ph_wf (n + 1) (ph_sb x (n + 7) t) (ph_atP n x P) (ph_atC n x x F) (ph_atC n x n S) r' K' := by
  have w' := w
  obtain ⟨⟨w0, _, wt⟩, w2, w3, w4, w5⟩ := w'
  have up : ∀ z, ph_nd n z → ph_nd (n + 1) z := by
    intro z hz
    unfold ph_nd at hz ⊢
    omega
  have dn : ∀ z, ph_nd (n + 1) z → z ≠ n → z ≠ n + 7 → ph_nd n z := by
    intro z hz h1 h2
    unfold ph_nd at hz ⊢
    omega
  have ne : ∀ z, ph_nd n z → z ≠ n ∧ z ≠ n + 7 := by
    intro z hz
    unfold ph_nd at hz
    omega
  have ndi : ph_nd (n + 1) (n + 7) := by unfold ph_nd; omega
  have ndl : ph_nd (n + 1) n := by unfold ph_nd; omega
  have ini : ph_in (n + 1) (n + 7) := by unfold ph_in; omega
  have inu : ∀ z, ph_in n z → ph_in (n + 1) z ∧ z ≠ n + 7 := by
    intro z hz
    unfold ph_in at hz ⊢
    omega
  have ind : ∀ z, ph_in (n + 1) z → z ≠ n + 7 → ph_in n z := by
    intro z hz h
    unfold ph_in at hz ⊢
    omega
  have hxn := ne x hx
  have htn := ne t wt
  have Px : ph_atP n x P x = n + 7 := if_pos rfl
  have Pn : ph_atP n x P n = n + 7 := by
    unfold ph_atP
    rw [if_neg (fun e => hxn.1 e.symm), if_pos rfl]
  have Pi : ph_atP n x P (n + 7) = P x := by
    unfold ph_atP
    rw [if_neg (fun e => hxn.2 e.symm), if_neg (by omega), if_pos rfl]
  have Po : ∀ z, ph_nd n z → z ≠ x → ph_atP n x P z = P z := by
    intro z hz h
    unfold ph_atP
    rw [if_neg h, if_neg (ne z hz).1, if_neg (ne z hz).2]
  have Ci : ∀ c G, ph_atC n x c G (n + 7) = c := fun c G => if_pos rfl
  have Co : ∀ c G k, k ≠ n + 7 → ph_atC n x c G k = ph_sb x (n + 7) (G k) := fun c G k h => if_neg h
  have tn : ∀ z, ph_nd n z → z ≠ x → z ≠ ph_sb x (n + 7) t → z ≠ t := by
    intro z hz hzx h e
    rw [← e, ph_sb_n hzx] at h
    exact h rfl
  have nt : ∀ z, ph_nd n z → z ≠ t → z ≠ ph_sb x (n + 7) t := by
    intro z hz h
    by_cases e : t = x
    · rw [e, ph_sb_e]; exact (ne z hz).2
    · rw [ph_sb_n e]; exact h
  have child : ∀ (G : Nat → Nat) (k : Nat), ph_in n k → ph_nd n (G k) → G k ≠ t → P (G k) = k → ph_nd (n + 1) (ph_sb x (n + 7) (G k)) ∧ ph_sb x (n + 7) (G k) ≠ ph_sb x (n + 7) t ∧ ph_atP n x P (ph_sb x (n + 7) (G k)) = k := by
    intro G k hk g1 g2 g3
    by_cases e : G k = x
    · rw [e, ph_sb_e]
      refine ⟨ndi, ?_, ?_⟩
      · rw [ph_sb_n (fun h => g2 (e.trans h.symm))]
        exact fun h => htn.2 h.symm
      · rw [Pi, ← e]; exact g3
    · rw [ph_sb_n e]
      exact ⟨up _ g1, nt _ g1 g2, by rw [Po _ g1 e]; exact g3⟩
  refine ⟨fun z => if z = n then 0 else if z = n + 7 then 2 * r x + 2 else 2 * r z + 1, 2 * K + 2, ⟨by omega, by omega, ?_⟩, ?_, ?_, ?_, ?_⟩
  · by_cases e : t = x
    · rw [e, ph_sb_e]; exact ndi
    · rw [ph_sb_n e]; exact up t wt
  · intro z hz hzt
    by_cases e1 : z = x
    · rw [e1, Px]
      exact ⟨ini, Or.inl (Ci _ _)⟩
    · by_cases e2 : z = n
      · rw [e2, Pn]
        exact ⟨ini, Or.inr (Ci _ _)⟩
      · by_cases e3 : z = n + 7
        · have hxt : x ≠ t := fun e => hzt (by rw [← e, ph_sb_e, e3])
          obtain ⟨g1, g2⟩ := w2 x hx hxt
          rw [e3, Pi]
          refine ⟨(inu _ g1).1, ?_⟩
          rw [Co _ _ _ (inu _ g1).2, Co _ _ _ (inu _ g1).2]
          rcases g2 with g | g
          · left; rw [g, ph_sb_e]
          · right; rw [g, ph_sb_e]
        · have hz' := dn z hz e2 e3
          obtain ⟨g1, g2⟩ := w2 z hz' (tn z hz' e1 hzt)
          rw [Po z hz' e1]
          refine ⟨(inu _ g1).1, ?_⟩
          rw [Co _ _ _ (inu _ g1).2, Co _ _ _ (inu _ g1).2]
          rcases g2 with g | g
          · left; rw [g, ph_sb_n e1]
          · right; rw [g, ph_sb_n e1]
  · intro k hk
    by_cases e : k = n + 7
    · rw [e, Ci, Ci]
      refine ⟨up x hx, ndl, hxn.1, ?_, ?_, Px, Pn⟩
      · by_cases e' : t = x
        · rw [e', ph_sb_e]; exact hxn.2
        · rw [ph_sb_n e']; exact fun h => e' h.symm
      · by_cases e' : t = x
        · rw [e', ph_sb_e]; omega
        · rw [ph_sb_n e']; exact fun h => htn.1 h.symm
    · have hk' := ind k hk e
      obtain ⟨f1, f2, f3, f4, f5, f6, f7⟩ := w3 k hk'
      obtain ⟨a1, a2, a3⟩ := child F k hk' f1 f4 f6
      obtain ⟨b1, b2, b3⟩ := child S k hk' f2 f5 f7
      rw [Co _ _ _ e, Co _ _ _ e]
      refine ⟨a1, b1, ?_, a2, b2, a3, b3⟩
      intro h
      by_cases c1 : F k = x
      · rw [c1, ph_sb_e, ph_sb_n (fun h' => f3 (c1.trans h'.symm))] at h
        exact (ne _ f2).2 h.symm
      · rw [ph_sb_n c1] at h
        by_cases c2 : S k = x
        · rw [c2, ph_sb_e] at h
          exact (ne _ f1).2 h
        · rw [ph_sb_n c2] at h
          exact f3 h
  · intro z hz hzt
    show (if z = n then 0 else if z = n + 7 then 2 * r x + 2 else 2 * r z + 1) < (if ph_atP n x P z = n then 0 else if ph_atP n x P z = n + 7 then 2 * r x + 2 else 2 * r (ph_atP n x P z) + 1)
    by_cases e1 : z = x
    · rw [e1, Px, if_neg hxn.1, if_neg hxn.2, if_neg (show ¬ n + 7 = n by omega), if_pos rfl]
      omega
    · by_cases e2 : z = n
      · rw [e2, Pn, if_pos rfl, if_neg (show ¬ n + 7 = n by omega), if_pos rfl]
        omega
      · by_cases e3 : z = n + 7
        · have hxt : x ≠ t := fun e => hzt (by rw [← e, ph_sb_e, e3])
          obtain ⟨g1, g2⟩ := w2 x hx hxt
          have g3 := w4 x hx hxt
          have g4 := ne _ (ph_in_nd g1)
          rw [e3, Pi, if_neg (show ¬ n + 7 = n by omega), if_pos rfl, if_neg g4.1, if_neg g4.2]
          omega
        · have hz' := dn z hz e2 e3
          obtain ⟨g1, g2⟩ := w2 z hz' (tn z hz' e1 hzt)
          have g3 := w4 z hz' (tn z hz' e1 hzt)
          have g4 := ne _ (ph_in_nd g1)
          rw [Po z hz' e1, if_neg e2, if_neg e3, if_neg g4.1, if_neg g4.2]
          omega
  · intro z hz
    show (if z = n then 0 else if z = n + 7 then 2 * r x + 2 else 2 * r z + 1) < 2 * K + 2
    have hxK := w5 x hx
    by_cases e2 : z = n
    · rw [if_pos e2]; omega
    · rw [if_neg e2]
      by_cases e3 : z = n + 7
      · rw [if_pos e3]; omega
      · rw [if_neg e3]
        have := w5 z (dn z hz e2 e3)
        omega
end
end
section
/-- the parents after x has been moved to y: p is the parent of x, o its other child -/
def ph_mvP (x y p o : Nat) (P : Nat → Nat) (z : Nat) : Nat := if z = x then p else if z = y then p else if z = p then (if y = o then P p else P y) else if z = o then P p else P z
def ph_mvC (y p o c : Nat) (F : Nat → Nat) (k : Nat) : Nat := if k = p then c else ph_sb y p (ph_sb p o (F k))
noncomputable def ph_mvr (U : Nat → Prop) (K p v : Nat) (r : Nat → Nat) (z : Nat) : Nat := @ite Nat (U z) (Classical.propDecidable _) (r z) (if z = p then K + 2 * v + 1 else K + 2 * r z)
theorem ph_mvr_u {U : Nat → Prop} {K p v : Nat} {r : Nat → Nat} {z : Nat} (h : U z) : ph_mvr U K p v r z = r z := by unfold ph_mvr; exact if_pos h
theorem ph_mvr_p {U : Nat → Prop} {K p v : Nat} {r : Nat → Nat} (h : ¬ U p) : ph_mvr U K p v r p = K + 2 * v + 1 := by unfold ph_mvr; rw [if_neg h, if_pos rfl]
theorem ph_mvr_o {U : Nat → Prop} {K p v : Nat} {r : Nat → Nat} {z : Nat} (h : ¬ U z) (h2 : z ≠ p) : ph_mvr U K p v r z = K + 2 * r z := by unfold ph_mvr; rw [if_neg h, if_neg h2]
theorem ph_mv_inj {y p o a b : Nat} (h1 : y ≠ p) (h2 : p ≠ o) (ha : a ≠ o) (hb : b ≠ o) (h : ph_sb y p (ph_sb p o a) = ph_sb y p (ph_sb p o b)) : a = b := by
  unfold ph_sb at h
  grind
section
variable {n t K : Nat} {P F S r : Nat → Nat}
theorem ph_wf_mv (w : ph_wf n t P F S r K) {x y p o : Nat} (hx : ph_nd n x) (hy : ph_nd n y) (hxt : x ≠ t) (hu : ¬ ph_un P t y x) (hp : P x = p) (hyp : y ≠ p)
    (ho : (F p = x ∧ S p = o) ∨ (F p = o ∧ S p = x)) :
    ∃ r' K', ph_wf n (ph_sb y p (ph_sb p o t)) (ph_mvP x y p o P) (ph_mvC y p o y F) (ph_mvC y p o x S) r' K' := by
  have w' := w
  obtain ⟨⟨w0, hn, wt⟩, w2, w3, w4, w5⟩ := w'
  have ip : ph_in n p := by rw [← hp]; exact (w2 x hx hxt).1
  have hyx : y ≠ x := fun e => hu (by rw [e]; exact ph_un0 _ _ _)
  obtain ⟨f1, f2, f3, f4, f5, f6, f7⟩ := w3 p ip
  have no : ph_nd n o := by rcases ho with ⟨_, e⟩ | ⟨e, _⟩ <;> rw [← e] <;> assumption
  have oxe : o ≠ x := by rcases ho with ⟨e1, e2⟩ | ⟨e1, e2⟩ <;> rw [← e1, ← e2] <;> first | exact f3 | exact fun e => f3 e.symm
  have ot : o ≠ t := by rcases ho with ⟨_, e⟩ | ⟨e, _⟩ <;> rw [← e] <;> assumption
  have Po : P o = p := by rcases ho with ⟨_, e⟩ | ⟨e, _⟩ <;> rw [← e] <;> assumption
  have rx := w4 x hx hxt
  rw [hp] at rx
  have ro := w4 o no ot
  rw [Po] at ro
  have px : p ≠ x := fun e => by rw [e] at rx; omega
  have po : p ≠ o := fun e => by rw [e] at ro; omega
  have np := ph_in_nd ip
  have sib : ∀ z, ph_nd n z → z ≠ t → P z = p → z = x ∨ z = o := by
    intro z hz hzt e
    have h2 := (w2 z hz hzt).2
    rw [e] at h2
    rcases ho with ⟨e1, e2⟩ | ⟨e1, e2⟩
    · rw [e1, e2] at h2
      exact h2.imp (fun h => h.symm) (fun h => h.symm)
    · rw [e1, e2] at h2
      exact (h2.imp (fun h => h.symm) (fun h => h.symm)).symm
  have Qx : ph_mvP x y p o P x = p := if_pos rfl
  have Qy : ph_mvP x y p o P y = p := by unfold ph_mvP; rw [if_neg hyx, if_pos rfl]
  have Qp1 : y = o → ph_mvP x y p o P p = P p := fun e => by
    unfold ph_mvP; rw [if_neg px, if_neg (fun e => hyp e.symm), if_pos rfl, if_pos e]
  have Qp2 : y ≠ o → ph_mvP x y p o P p = P y := fun e => by
    unfold ph_mvP; rw [if_neg px, if_neg (fun e => hyp e.symm), if_pos rfl, if_neg e]
  have Qo : y ≠ o → ph_mvP x y p o P o = P p := fun e => by
    unfold ph_mvP; rw [if_neg oxe, if_neg (fun h => e h.symm), if_neg (fun h => po h.symm), if_pos rfl]
  have Qz : ∀ z, z ≠ x → z ≠ y → z ≠ p → z ≠ o → ph_mvP x y p o P z = P z := fun z h1 h2 h3 h4 => by
    unfold ph_mvP; rw [if_neg h1, if_neg h2, if_neg h3, if_neg h4]
  have Cp : ∀ c G, ph_mvC y p o c G p = c := fun c G => if_pos rfl
  have Ck : ∀ c G k, k ≠ p → ph_mvC y p o c G k = ph_sb y p (ph_sb p o (G k)) := fun c G k h => if_neg h
  have T1 : p = t → y = o → ph_sb y p (ph_sb p o t) = p := fun e e' => by rw [← e, ph_sb_e, e', ph_sb_e]
  have T2 : p = t → y ≠ o → ph_sb y p (ph_sb p o t) = o := fun e e' => by rw [← e, ph_sb_e, ph_sb_n (fun h => e' h.symm)]
  have T3 : p ≠ t → y = t → ph_sb y p (ph_sb p o t) = p := fun e e' => by rw [ph_sb_n (fun h => e h.symm), e', ph_sb_e]
  have T4 : p ≠ t → y ≠ t → ph_sb y p (ph_sb p o t) = t := fun e e' => by rw [ph_sb_n (fun h => e h.symm), ph_sb_n (fun h => e' h.symm)]
  have child : ∀ (G : Nat → Nat) (k : Nat), ph_in n k → k ≠ p → ph_nd n (G k) → G k ≠ t → P (G k) = k →
      ph_nd n (ph_sb y p (ph_sb p o (G k))) ∧ ph_sb y p (ph_sb p o (G k)) ≠ ph_sb y p (ph_sb p o t) ∧ ph_mvP x y p o P (ph_sb y p (ph_sb p o (G k))) = k := by
    intro G k hk hkp g1 g2 g3
    have gx : G k ≠ x := fun e => hkp (by rw [← g3, e, hp])
    have go : G k ≠ o := fun e => hkp (by rw [← g3, e, Po])
    by_cases e1 : G k = p
    · have pt : p ≠ t := fun e => g2 (e1.trans e)
      have yk : P p = k := by rw [← e1]; exact g3
      rw [e1, ph_sb_e]
      by_cases e2 : y = o
      · have h1 : ph_sb y p o = p := by rw [e2, ph_sb_e]
        rw [h1, T4 pt (fun h => ot (e2.symm.trans h)), Qp1 e2]
        exact ⟨np, pt, yk⟩
      · rw [ph_sb_n (fun h => e2 h.symm), Qo e2]
        refine ⟨no, ?_, yk⟩
        by_cases e3 : y = t
        · rw [T3 pt e3]; exact fun h => po h.symm
        · rw [T4 pt e3]; exact ot
    · rw [ph_sb_n e1]
      by_cases e2 : G k = y
      · have yo : y ≠ o := fun h => go (e2.trans h)
        have yt : y ≠ t := fun h => g2 (e2.trans h)
        rw [e2, ph_sb_e, Qp2 yo]
        refine ⟨np, ?_, by rw [← e2]; exact g3⟩
        by_cases e3 : p = t
        · rw [T2 e3 yo]; exact po
        · rw [T4 e3 yt]; exact e3
      · rw [ph_sb_n e2]
        refine ⟨g1, ?_, by rw [Qz _ gx e2 e1 go]; exact g3⟩
        by_cases e3 : p = t
        · by_cases e4 : y = o
          · rw [T1 e3 e4]; exact e1
          · rw [T2 e3 e4]; exact go
        · by_cases e4 : y = t
          · rw [T3 e3 e4]; exact e1
          · rw [T4 e3 e4]; exact g2
  have ntop : ∀ z, z ≠ x → z ≠ y → z ≠ p → z ≠ o → z ≠ ph_sb y p (ph_sb p o t) → z ≠ t := by
    intro z h1 h2 h3 h4 h5 e
    rw [T4 (fun e' => h3 (e.trans e'.symm)) (fun e' => h2 (e.trans e'.symm))] at h5
    exact h5 e
  have put : ∀ q v, ph_in n q → q ≠ p → (F q = v ∨ S q = v) → (ph_mvC y p o y F q = ph_sb y p (ph_sb p o v) ∨ ph_mvC y p o x S q = ph_sb y p (ph_sb p o v)) := by
    intro q v _ hq h
    rw [Ck _ _ _ hq, Ck _ _ _ hq]
    rcases h with h | h
    · left; rw [h]
    · right; rw [h]
  have nPp : p ≠ t → P p ≠ p := fun h e => by have := w4 p np h; rw [e] at this; omega
  have nPy : y ≠ t → y ≠ o → P y ≠ p := fun h h' e => (sib y hy h e).elim hyx h'
  have upx : ¬ ph_un P t p x := fun h => ph_unP w hx hxt (by rw [hp]; exact h)
  have uo : ¬ ph_un P t o x := fun h => by
    rcases ph_unC h with e | ⟨_, e⟩
    · exact oxe e
    · rw [Po] at e; exact upx e
  refine ⟨ph_mvr (fun z => ph_un P t z x) K p (r y) r, 3 * K, ⟨w0, hn, ?_⟩, ?_, ?_, ?_, ?_⟩
  · by_cases e3 : p = t
    · by_cases e4 : y = o
      · rw [T1 e3 e4]; exact np
      · rw [T2 e3 e4]; exact no
    · by_cases e4 : y = t
      · rw [T3 e3 e4]; exact np
      · rw [T4 e3 e4]; exact wt
  · intro z hz hzt
    by_cases c1 : z = x
    · rw [c1, Qx]; exact ⟨ip, Or.inr (Cp _ _)⟩
    · by_cases c2 : z = y
      · rw [c2, Qy]; exact ⟨ip, Or.inl (Cp _ _)⟩
      · by_cases c3 : z = p
        · by_cases e4 : y = o
          · have pt : p ≠ t := fun e => hzt (by rw [T1 e e4]; exact c3)
            obtain ⟨g1, g2⟩ := w2 p np pt
            rw [c3, Qp1 e4]
            have g3 := put _ _ g1 (nPp pt) g2
            rw [ph_sb_e, ← e4, ph_sb_e] at g3
            rw [← e4]
            exact ⟨g1, g3⟩
          · have yt : y ≠ t := fun e => hzt (by rw [T3 (fun h => hyp (e.trans h.symm)) e]; exact c3)
            obtain ⟨g1, g2⟩ := w2 y hy yt
            rw [c3, Qp2 e4]
            have g3 := put _ _ g1 (nPy yt e4) g2
            rw [ph_sb_n hyp, ph_sb_e] at g3
            exact ⟨g1, g3⟩
        · by_cases c4 : z = o
          · have e4 : y ≠ o := fun e => c2 (c4.trans e.symm)
            have pt : p ≠ t := fun e => hzt (by rw [T2 e e4]; exact c4)
            obtain ⟨g1, g2⟩ := w2 p np pt
            rw [c4, Qo e4]
            have g3 := put _ _ g1 (nPp pt) g2
            rw [ph_sb_e, ph_sb_n (fun h => e4 h.symm)] at g3
            exact ⟨g1, g3⟩
          · have zt := ntop z c1 c2 c3 c4 hzt
            obtain ⟨g1, g2⟩ := w2 z hz zt
            rw [Qz z c1 c2 c3 c4]
            have g3 := put _ _ g1 (fun e => (sib z hz zt e).elim c1 c4) g2
            rw [ph_sb_n c3, ph_sb_n c2] at g3
            exact ⟨g1, g3⟩
  · intro k hk
    by_cases e : k = p
    · rw [e, Cp, Cp]
      refine ⟨hy, hx, hyx, ?_, ?_, Qy, Qx⟩
      · by_cases e3 : p = t
        · by_cases e4 : y = o
          · rw [T1 e3 e4]; exact hyp
          · rw [T2 e3 e4]; exact e4
        · by_cases e4 : y = t
          · rw [T3 e3 e4]; exact hyp
          · rw [T4 e3 e4]; exact e4
      · by_cases e3 : p = t
        · by_cases e4 : y = o
          · rw [T1 e3 e4]; exact fun h => px h.symm
          · rw [T2 e3 e4]; exact fun h => oxe h.symm
        · by_cases e4 : y = t
          · rw [T3 e3 e4]; exact fun h => px h.symm
          · rw [T4 e3 e4]; exact hxt
    · obtain ⟨k1, k2, k3, k4, k5, k6, k7⟩ := w3 k hk
      obtain ⟨a1, a2, a3⟩ := child F k hk e k1 k4 k6
      obtain ⟨b1, b2, b3⟩ := child S k hk e k2 k5 k7
      rw [Ck _ _ _ e, Ck _ _ _ e]
      refine ⟨a1, b1, fun h => k3 (ph_mv_inj hyp po ?_ ?_ h), a2, b2, a3, b3⟩
      · exact fun h => e (by rw [← k6, h, Po])
      · exact fun h => e (by rw [← k7, h, Po])
  · intro z hz hzt
    have zK := w5 z hz
    by_cases c1 : z = x
    · rw [c1, Qx, ph_mvr_u (U := fun z => ph_un P t z x) (ph_un0 _ _ _), ph_mvr_p (U := fun z => ph_un P t z x) upx]
      have := w5 x hx
      omega
    · by_cases c2 : z = y
      · rw [c2, Qy, ph_mvr_o (U := fun z => ph_un P t z x) hu hyp, ph_mvr_p (U := fun z => ph_un P t z x) upx]
        omega
      · by_cases c3 : z = p
        · by_cases e4 : y = o
          · have pt : p ≠ t := fun e => hzt (by rw [T1 e e4]; exact c3)
            have g4 := w4 p np pt
            rw [c3, Qp1 e4, ph_mvr_p (U := fun z => ph_un P t z x) upx, ph_mvr_o (U := fun z => ph_un P t z x) (fun h => upx (ph_unS pt h)) (nPp pt), e4]
            omega
          · have yt : y ≠ t := fun e => hzt (by rw [T3 (fun h => hyp (e.trans h.symm)) e]; exact c3)
            have g4 := w4 y hy yt
            rw [c3, Qp2 e4, ph_mvr_p (U := fun z => ph_un P t z x) upx, ph_mvr_o (U := fun z => ph_un P t z x) (fun h => hu (ph_unS yt h)) (nPy yt e4)]
            omega
        · by_cases c4 : z = o
          · have e4 : y ≠ o := fun e => c2 (c4.trans e.symm)
            have pt : p ≠ t := fun e => hzt (by rw [T2 e e4]; exact c4)
            have g4 := w4 p np pt
            rw [c4, Qo e4, ph_mvr_o (U := fun z => ph_un P t z x) uo (fun h => po h.symm), ph_mvr_o (U := fun z => ph_un P t z x) (fun h => upx (ph_unS pt h)) (nPp pt)]
            omega
          · have zt := ntop z c1 c2 c3 c4 hzt
            have g4 := w4 z hz zt
            have g5 : P z ≠ p := fun e => (sib z hz zt e).elim c1 c4
            rw [Qz z c1 c2 c3 c4]
            by_cases c5 : ph_un P t z x
            · rcases ph_unC c5 with g | ⟨_, g⟩
              · exact absurd g c1
              · rw [ph_mvr_u (U := fun z => ph_un P t z x) c5, ph_mvr_u (U := fun z => ph_un P t z x) g]
                exact g4
            · rw [ph_mvr_o (U := fun z => ph_un P t z x) c5 c3, ph_mvr_o (U := fun z => ph_un P t z x) (fun h => c5 (ph_unS zt h)) g5]
              omega
  · intro z hz
    have zK := w5 z hz
    have yK := w5 y hy
    by_cases c5 : ph_un P t z x
    · rw [ph_mvr_u (U := fun z => ph_un P t z x) c5]; omega
    · by_cases c3 : z = p
      · rw [c3, ph_mvr_p (U := fun z => ph_un P t z x) upx]; omega
      · rw [ph_mvr_o (U := fun z => ph_un P t z x) c5 c3]; omega
end
end
section
/-- the least of 100000 and the first k places; the sum of the first k places -/
def ph_pm (f : Nat → Nat) : Nat → Nat
  | 0 => 100000
  | k + 1 => if ph_pm f k ≤ f k then ph_pm f k else f k
def ph_sm (g : Nat → Nat) : Nat → Nat
  | 0 => 0
  | k + 1 => ph_sm g k + g k
theorem ph_pm_s (f : Nat → Nat) (k : Nat) : ph_pm f (k + 1) = if ph_pm f k ≤ f k then ph_pm f k else f k := rfl
theorem ph_pm_cap (f : Nat → Nat) : ∀ k, ph_pm f k ≤ 100000 := by
  intro k
  induction k with
  | zero => exact Nat.le_refl _
  | succ k ih =>
    rw [ph_pm_s]
    by_cases h : ph_pm f k ≤ f k
    · rw [if_pos h]; exact ih
    · rw [if_neg h]; omega
theorem ph_pm_le (f : Nat → Nat) : ∀ k j, j < k → ph_pm f k ≤ f j := by
  intro k
  induction k with
  | zero => intro j h; omega
  | succ k ih =>
    intro j hj
    rw [ph_pm_s]
    by_cases e : j = k
    · rw [e]
      by_cases h : ph_pm f k ≤ f k
      · rw [if_pos h]; exact h
      · rw [if_neg h]; exact Nat.le_refl _
    · have := ih j (by omega)
      by_cases h : ph_pm f k ≤ f k
      · rw [if_pos h]; exact this
      · rw [if_neg h]; omega
theorem ph_pm_at (f : Nat → Nat) : ∀ k, ph_pm f k = 100000 ∨ ∃ j, j < k ∧ ph_pm f k = f j := by
  intro k
  induction k with
  | zero => exact Or.inl rfl
  | succ k ih =>
    rw [ph_pm_s]
    by_cases h : ph_pm f k ≤ f k
    · rw [if_pos h]
      rcases ih with e | ⟨j, hj, e⟩
      · exact Or.inl e
      · exact Or.inr ⟨j, by omega, e⟩
    · rw [if_neg h]
      exact Or.inr ⟨k, by omega, rfl⟩
theorem ph_sm4 (g : Nat → Nat) : ph_sm g 4 = g 0 + g 1 + g 2 + g 3 := by
  show 0 + g 0 + g 1 + g 2 + g 3 = _
  omega
theorem ph_sm_ge (g : Nat → Nat) {j : Nat} (hj : j < 4) : g j ≤ ph_sm g 4 := by
  rw [ph_sm4]
  have h : j = 0 ∨ j = 1 ∨ j = 2 ∨ j = 3 := by omega
  rcases h with e | e | e | e <;> rw [e] <;> omega
/-- the least cost below an edge -/
def ph_lst (C b : Nat → Nat) (s : Nat) : Nat := ph_pm (fun t => C (4 * s + t) + b t) 4
def ph_bl0 (ow : Nat → Nat) (site x : Nat) : Nat → Nat := fun s => if ow x / 4 ^ (3 - site) % 4 = s then 0 else 100000
def ph_bop (C : Nat → Nat) (b1 b2 : Nat → Nat) : Nat → Nat := fun s => ph_lst C b1 s + ph_lst C b2 s
def ph_B (ow C F S : Nat → Nat) (site x : Nat) : Nat → Nat := ph_val (ph_bl0 ow site) (ph_bop C) F S x
def ph_best (ow C F S : Nat → Nat) (t site : Nat) : Nat := ph_pm (ph_B ow C F S site t) 4
theorem ph_lst_le {C b : Nat → Nat} {m s : Nat} (hC : ∀ k, k < 16 → C k ≤ 9) (h : ∃ t, t < 4 ∧ b t ≤ m) (hs : s < 4) : ph_lst C b s ≤ 9 + m := by
  obtain ⟨t, ht, hb⟩ := h
  have h1 : ph_lst C b s ≤ C (4 * s + t) + b t := ph_pm_le (fun t => C (4 * s + t) + b t) 4 t ht
  have h2 := hC (4 * s + t) (by omega)
  omega
theorem ph_lst_t {C b : Nat → Nat} {s t : Nat} (ht : t < 4) : ph_lst C b s ≤ C (4 * s + t) + b t := ph_pm_le (fun t => C (4 * s + t) + b t) 4 t ht
theorem ph_lst_at {C b : Nat → Nat} {s : Nat} (h : ph_lst C b s < 100000) : ∃ t, t < 4 ∧ ph_lst C b s = C (4 * s + t) + b t := by
  rcases ph_pm_at (fun t => C (4 * s + t) + b t) 4 with e | e
  · have e' : ph_lst C b s = 100000 := e
    omega
  · exact e
theorem ph_lst_cap (C b : Nat → Nat) (s : Nat) : ph_lst C b s ≤ 100000 := ph_pm_cap _ _
section
variable {n t K site : Nat} {P F S r ow C : Nat → Nat}
theorem ph_B_lf {x : Nat} (h : x < 8) (s : Nat) : ph_B ow C F S site x s = if ow x / 4 ^ (3 - site) % 4 = s then 0 else 100000 := by
  unfold ph_B
  rw [ph_val_lf h]
  rfl
theorem ph_B_in (w : ph_wf n t P F S r K) {x : Nat} (h : ph_in n x) (s : Nat) : ph_B ow C F S site x s = ph_lst C (ph_B ow C F S site (F x)) s + ph_lst C (ph_B ow C F S site (S x)) s := by
  unfold ph_B
  rw [ph_val_in w h]
  rfl
theorem ph_Bbd (w : ph_wf n t P F S r K) (hC : ∀ k, k < 16 → C k ≤ 9) : ∀ x, ph_nd n x → ∃ s, s < 4 ∧ ph_B ow C F S site x s ≤ 18 * ph_cnt n P t x := by
  refine ph_lu w (fun x hx => ?_) (fun p hp h1 h2 => ⟨0, by omega, ?_⟩)
  · have hn := w.1.2.1
    refine ⟨ow x / 4 ^ (3 - site) % 4, by omega, ?_⟩
    rw [ph_B_lf (by omega), if_pos rfl]
    exact Nat.zero_le _
  · rw [ph_B_in w hp, ph_cnt_eq w hp]
    have a1 := ph_lst_le hC h1 (show 0 < 4 by omega)
    have a2 := ph_lst_le hC h2 (show 0 < 4 by omega)
    omega
theorem ph_B_in_le (w : ph_wf n t P F S r K) (hC : ∀ k, k < 16 → C k ≤ 9) {x s : Nat} (hp : ph_in n x) (hs : s < 4) : ph_B ow C F S site x s ≤ 108 := by
  have w' := w
  obtain ⟨_, _, w3, _, _⟩ := w'
  obtain ⟨f1, f2, _⟩ := w3 x hp
  have a1 := ph_lst_le hC (ph_Bbd w hC (ow := ow) (site := site) _ f1) hs
  have a2 := ph_lst_le hC (ph_Bbd w hC (ow := ow) (site := site) _ f2) hs
  have h6 := ph_cnt6 n P t x
  have hc := ph_cnt_eq w hp
  rw [ph_B_in w hp]
  omega
theorem ph_B_cap (w : ph_wf n t P F S r K) (hC : ∀ k, k < 16 → C k ≤ 9) {x s : Nat} (hx : ph_nd n x) (hs : s < 4) : ph_B ow C F S site x s ≤ 100000 := by
  by_cases h8 : x < 8
  · rw [ph_B_lf h8]
    by_cases e : ow x / 4 ^ (3 - site) % 4 = s
    · rw [if_pos e]; omega
    · rw [if_neg e]; omega
  · have := ph_B_in_le w hC (ow := ow) (site := site) (ph_nd_in w.1.2.1 hx h8) hs
    omega
theorem ph_B_lo (w : ph_wf n t P F S r K) (hC : ∀ k, k < 16 → C k ≤ 9) {x : Nat} (hx : ph_nd n x) : ∃ s, s < 4 ∧ ph_B ow C F S site x s ≤ 108 := by
  obtain ⟨s, hs, h⟩ := ph_Bbd w hC (ow := ow) (site := site) x hx
  have h6 := ph_cnt6 n P t x
  exact ⟨s, hs, by omega⟩
theorem ph_best_lt (w : ph_wf n t P F S r K) (hC : ∀ k, k < 16 → C k ≤ 9) : ph_best ow C F S t site < 100000 := by
  obtain ⟨s, hs, h⟩ := ph_B_lo w hC (ow := ow) (site := site) w.1.2.2
  have h1 : ph_best ow C F S t site ≤ ph_B ow C F S site t s := ph_pm_le _ 4 s hs
  omega
end
/-- the numbers of ways at a node: at least one where the cost is finite, 4 to the number of inner nodes at most -/
def ph_mp (q : Nat) (b M : Nat → Nat) : Prop := (∀ s, s < 4 → b s < 100000 → 1 ≤ M s) ∧ ph_sm M 4 ≤ 4 ^ q
def ph_num (C b M : Nat → Nat) (s : Nat) : Nat := ph_sm (fun t => if C (4 * s + t) + b t = ph_lst C b s then M t else 0) 4
theorem ph_num_ok {C b M : Nat → Nat} {q s : Nat} (hC : ∀ k, k < 16 → C k ≤ 9) (hb : ∃ t, t < 4 ∧ b t ≤ 108) (h : ph_mp q b M) (hs : s < 4) : 1 ≤ ph_num C b M s ∧ ph_num C b M s ≤ 4 ^ q := by
  obtain ⟨h1, h2⟩ := h
  have hl := ph_lst_le hC hb hs
  obtain ⟨t, ht, e⟩ := ph_lst_at (C := C) (b := b) (s := s) (by omega)
  constructor
  · have g := ph_sm_ge (fun t => if C (4 * s + t) + b t = ph_lst C b s then M t else 0) ht
    have g1 : (if C (4 * s + t) + b t = ph_lst C b s then M t else 0) = M t := if_pos e.symm
    have g2 := h1 t ht (by omega)
    have g3 : M t ≤ ph_num C b M s := by
      rw [← g1]; exact g
    omega
  · refine Nat.le_trans ?_ h2
    unfold ph_num
    rw [ph_sm4, ph_sm4]
    have g : ∀ u, (if C (4 * s + u) + b u = ph_lst C b s then M u else 0) ≤ M u := by
      intro u
      by_cases c : C (4 * s + u) + b u = ph_lst C b s
      · rw [if_pos c]; exact Nat.le_refl _
      · rw [if_neg c]; omega
    have g0 := g 0
    have g1 := g 1
    have g2 := g 2
    have g3 := g 3
    show (if C (4 * s + 0) + b 0 = ph_lst C b s then M 0 else 0) + (if C (4 * s + 1) + b 1 = ph_lst C b s then M 1 else 0) + (if C (4 * s + 2) + b 2 = ph_lst C b s then M 2 else 0) + (if C (4 * s + 3) + b 3 = ph_lst C b s then M 3 else 0) ≤ _
    omega
theorem ph_mp_lf {q : Nat} {b M : Nat → Nat} {v : Nat} (hb : ∀ s, s < 4 → b s = if v = s then 0 else 100000) (hM : ∀ s, s < 4 → M s = if v = s then 1 else 0) : ph_mp q b M := by
  constructor
  · intro s hs h
    rw [hb s hs] at h
    rw [hM s hs]
    by_cases e : v = s
    · rw [if_pos e]; omega
    · rw [if_neg e] at h; omega
  · have hq : 1 ≤ 4 ^ q := Nat.one_le_pow _ _ (by omega)
    rw [ph_sm4, hM 0 (by omega), hM 1 (by omega), hM 2 (by omega), hM 3 (by omega)]
    refine Nat.le_trans ?_ hq
    by_cases e0 : v = 0
    · rw [if_pos e0, if_neg (by omega), if_neg (by omega), if_neg (by omega)]; omega
    · by_cases e1 : v = 1
      · rw [if_neg (by omega), if_pos e1, if_neg (by omega), if_neg (by omega)]; omega
      · by_cases e2 : v = 2
        · rw [if_neg (by omega), if_neg (by omega), if_pos e2, if_neg (by omega)]; omega
        · rw [if_neg (by omega), if_neg (by omega), if_neg (by omega)]
          by_cases e3 : v = 3
          · rw [if_pos e3]; omega
          · rw [if_neg e3]; omega
theorem ph_mp_in {C b1 b2 M1 M2 b M : Nat → Nat} {q1 q2 : Nat} (hC : ∀ k, k < 16 → C k ≤ 9) (h1 : ∃ t, t < 4 ∧ b1 t ≤ 108) (h2 : ∃ t, t < 4 ∧ b2 t ≤ 108)
    (m1 : ph_mp q1 b1 M1) (m2 : ph_mp q2 b2 M2) (hM : ∀ s, s < 4 → M s = ph_num C b1 M1 s * ph_num C b2 M2 s) : ph_mp (1 + q1 + q2) b M := by
  have key : ∀ s, s < 4 → 1 ≤ M s ∧ M s ≤ 4 ^ q1 * 4 ^ q2 := by
    intro s hs
    obtain ⟨a1, a2⟩ := ph_num_ok hC h1 m1 hs
    obtain ⟨c1, c2⟩ := ph_num_ok hC h2 m2 hs
    rw [hM s hs]
    exact ⟨Nat.mul_le_mul a1 c1, Nat.mul_le_mul a2 c2⟩
  refine ⟨fun s hs _ => (key s hs).1, ?_⟩
  have k0 := (key 0 (by omega)).2
  have k1 := (key 1 (by omega)).2
  have k2 := (key 2 (by omega)).2
  have k3 := (key 3 (by omega)).2
  have e : 4 ^ (1 + q1 + q2) = 4 * (4 ^ q1 * 4 ^ q2) := by
    rw [Nat.pow_add, Nat.pow_add]
    show 4 * 4 ^ q1 * 4 ^ q2 = 4 * (4 ^ q1 * 4 ^ q2)
    rw [Nat.mul_assoc]
  rw [ph_sm4, e]
  omega
/-- the costs above a node against those below it -/
def ph_ap (best : Nat) (b A : Nat → Nat) : Prop := (∀ s, s < 4 → A s ≤ 100000 ∧ best ≤ b s + A s) ∧ ∃ s, s < 4 ∧ b s + A s = best
def ph_abv (C A bo : Nat → Nat) (s : Nat) : Nat := ph_pm (fun t => A t + ph_lst C bo t + C (4 * t + s)) 4
theorem ph_ap_top {b A : Nat → Nat} (h : ph_pm b 4 < 100000) (hA : ∀ s, s < 4 → A s = 0) : ph_ap (ph_pm b 4) b A := by
  refine ⟨fun s hs => ?_, ?_⟩
  · rw [hA s hs]
    have := ph_pm_le b 4 s hs
    omega
  · rcases ph_pm_at b 4 with e | ⟨s, hs, e⟩
    · omega
    · exact ⟨s, hs, by rw [hA s hs, e]; omega⟩
theorem ph_ap_step {C A bp bx bo A' : Nat → Nat} {best : Nat} (hb : best < 100000) (h : ph_ap best bp A) (hp : ∀ t, t < 4 → bp t = ph_lst C bx t + ph_lst C bo t)
    (hA : ∀ s, s < 4 → A' s = ph_abv C A bo s) : ph_ap best bx A' := by
  obtain ⟨h1, t, ht, h2⟩ := h
  have lo : ∀ s, s < 4 → best ≤ bx s + A' s := by
    intro s hs
    rw [hA s hs]
    rcases ph_pm_at (fun t => A t + ph_lst C bo t + C (4 * t + s)) 4 with e | ⟨u, hu, e⟩
    · have e' : ph_abv C A bo s = 100000 := e
      omega
    · have e' : ph_abv C A bo s = A u + ph_lst C bo u + C (4 * u + s) := e
      have g1 := (h1 u hu).2
      have g2 := hp u hu
      have g3 := ph_lst_t (C := C) (b := bx) (s := u) hs
      omega
  refine ⟨fun s hs => ⟨by rw [hA s hs]; exact ph_pm_cap _ _, lo s hs⟩, ?_⟩
  have g2 := hp t ht
  obtain ⟨s, hs, e⟩ := ph_lst_at (C := C) (b := bx) (s := t) (by omega)
  refine ⟨s, hs, ?_⟩
  have g3 := lo s hs
  have g4 : ph_abv C A bo s ≤ A t + ph_lst C bo t + C (4 * t + s) := ph_pm_le (fun t => A t + ph_lst C bo t + C (4 * t + s)) 4 t ht
  have g5 := hA s hs
  omega
/-- the leaves below a node, as bits -/
def ph_Z (F S : Nat → Nat) (x : Nat) : Int32 := ph_val (fun x => (1 : Int32) <<< (nI x &&& 31)) (fun a b => a ||| b) F S x
section
variable {n t K : Nat} {P F S r : Nat → Nat}
theorem ph_Z_lf {x : Nat} (h : x < 8) : ph_Z F S x = (1 : Int32) <<< (nI x &&& 31) := by
  unfold ph_Z
  rw [ph_val_lf h]
theorem ph_Z_in (w : ph_wf n t P F S r K) {x : Nat} (h : ph_in n x) : ph_Z F S x = ph_Z F S (F x) ||| ph_Z F S (S x) := by
  unfold ph_Z
  rw [ph_val_in w h]
theorem ph_Z_un (w : ph_wf n t P F S r K) {m : Nat} : ∀ x, ph_nd n x → ph_un P t x m → ph_Z F S m ||| ph_Z F S x = ph_Z F S m := by
  have w' := w
  obtain ⟨_, w2, w3, _, _⟩ := w'
  refine ph_dn w (Q := fun x => ph_un P t x m → ph_Z F S m ||| ph_Z F S x = ph_Z F S m) (fun h => ?_) (fun x hx hxt hp ih h => ?_)
  · rw [ph_untop h, Int32.or_self]
  · rcases ph_unC h with e | ⟨_, h2⟩
    · rw [e, Int32.or_self]
    · have i1 := ih h2
      obtain ⟨g1, g2⟩ := w2 x hx hxt
      have e : ph_Z F S (P x) ||| ph_Z F S x = ph_Z F S (P x) := by
        rw [ph_Z_in w g1]
        rcases g2 with g | g
        · rw [g, Int32.or_assoc, Int32.or_comm (ph_Z F S (S (P x))), ← Int32.or_assoc, Int32.or_self]
        · rw [g, Int32.or_assoc, Int32.or_self]
      rw [← i1, Int32.or_assoc, e]
theorem ph_absorb {a b : Int32} (h : a ||| b = a) : a &&& b = b := by
  rw [← h]
  apply Int32.toBitVec_inj.mp
  rw [Int32.toBitVec_and, Int32.toBitVec_or]
  ext i hi
  simp
  exact fun h' => Or.inr h'
theorem ph_Z_both (w : ph_wf n t P F S r K) {m x y : Nat} (hx : ph_nd n x) (hy : ph_nd n y) (h1 : ph_un P t x m) (h2 : ph_un P t y m) :
    ph_Z F S m &&& (ph_Z F S x ||| ph_Z F S y) = ph_Z F S x ||| ph_Z F S y := by
  apply ph_absorb
  rw [← Int32.or_assoc, ph_Z_un w x hx h1, ph_Z_un w y hy h2]
end
end
section
/-- the order o of m nodes: the top first, every node once, the children of a node behind it -/
def ph_ord (n t : Nat) (F S o : Nat → Nat) (m : Nat) : Prop :=
  (1 ≤ m ∧ m ≤ 13) ∧ (∀ j, j < m → ph_nd n (o j)) ∧ o 0 = t ∧ (∀ i j, i < m → j < m → o i = o j → i = j) ∧ (∀ x, ph_nd n x → ∃ j, j < m ∧ o j = x) ∧
  (∀ j, j < m → ph_in n (o j) → (∃ k, j < k ∧ k < m ∧ o k = F (o j)) ∧ (∃ k, j < k ∧ k < m ∧ o k = S (o j)))
/-- the same on the way: the first i of the m listed nodes are gone through -/
def ph_bfs (n t : Nat) (P F S o : Nat → Nat) (m i : Nat) : Prop :=
  (1 ≤ m ∧ i ≤ m) ∧ (∀ j, j < m → ph_nd n (o j)) ∧ o 0 = t ∧ (∀ i j, i < m → j < m → o i = o j → i = j) ∧
  (∀ j, 0 < j → j < m → ∃ k, k < i ∧ P (o j) = o k) ∧
  (∀ j, j < i → ph_in n (o j) → (∃ k, j < k ∧ k < m ∧ o k = F (o j)) ∧ (∃ k, j < k ∧ k < m ∧ o k = S (o j)))
def ph_app (o : Nat → Nat) (m a b : Nat) (j : Nat) : Nat := if j = m then a else if j = m + 1 then b else o j
theorem ph_app0 (o : Nat → Nat) (m a b : Nat) : ph_app o m a b m = a := if_pos rfl
theorem ph_app1 (o : Nat → Nat) (m a b : Nat) : ph_app o m a b (m + 1) = b := by
  unfold ph_app
  rw [if_neg (by omega), if_pos rfl]
theorem ph_appo (o : Nat → Nat) {m a b j : Nat} (h : j < m) : ph_app o m a b j = o j := by
  unfold ph_app
  rw [if_neg (by omega), if_neg (by omega)]
section
variable {n t K m i : Nat} {P F S r o : Nat → Nat}
theorem ph_bfs_0 (ht : ph_nd n t) (h0 : o 0 = t) : ph_bfs n t P F S o 1 0 := by
  refine ⟨⟨by omega, by omega⟩, fun j hj => ?_, h0, fun a b ha hb _ => by omega, fun j h1 h2 => by omega, fun j h => by omega⟩
  have e : j = 0 := by omega
  rw [e, h0]; exact ht
theorem ph_bfs_m (hn : n ≤ 7) (h : ph_bfs n t P F S o m i) : m ≤ 13 := ph_pig13 hn h.2.1 h.2.2.2.1
theorem ph_bfs_lf (h : ph_bfs n t P F S o m i) (hi : i < m) (h8 : o i < 8) : ph_bfs n t P F S o m (i + 1) := by
  obtain ⟨⟨h1, h2⟩, h3, h4, h5, h6, h7⟩ := h
  refine ⟨⟨h1, by omega⟩, h3, h4, h5, fun j a b => ?_, fun j a hin => ?_⟩
  · obtain ⟨k, hk, e⟩ := h6 j a b
    exact ⟨k, by omega, e⟩
  · by_cases e : j = i
    · rw [e] at hin
      have := hin.1
      omega
    · exact h7 j (by omega) hin
theorem ph_bfs_in (w : ph_wf n t P F S r K) (h : ph_bfs n t P F S o m i) (hi : i < m) (hin : ph_in n (o i)) : ph_bfs n t P F S (ph_app o m (F (o i)) (S (o i))) (m + 2) (i + 1) := by
  obtain ⟨⟨h1, h2⟩, h3, h4, h5, h6, h7⟩ := h
  have w' := w
  obtain ⟨_, _, w3, _, _⟩ := w'
  obtain ⟨f1, f2, f3, f4, f5, f6, f7⟩ := w3 _ hin
  have new : ∀ v, v ≠ t → P v = o i → ∀ j, j < m → o j ≠ v := by
    intro v hvt hv j hj e
    by_cases e0 : j = 0
    · rw [e0, h4] at e; exact hvt e.symm
    · obtain ⟨k, hk, e2⟩ := h6 j (by omega) hj
      rw [e, hv] at e2
      have := h5 i k hi (by omega) e2
      omega
  have nF := new _ f4 f6
  have nS := new _ f5 f7
  refine ⟨⟨by omega, by omega⟩, fun j hj => ?_, ?_, fun a b ha hb e => ?_, fun j a b => ?_, fun j a g => ?_⟩
  · by_cases e0 : j < m
    · rw [ph_appo o e0]; exact h3 j e0
    · by_cases e1 : j = m
      · rw [e1, ph_app0]; exact f1
      · have e2 : j = m + 1 := by omega
        rw [e2, ph_app1]; exact f2
  · rw [ph_appo o (by omega)]; exact h4
  · by_cases a0 : a < m
    · rw [ph_appo o a0] at e
      by_cases b0 : b < m
      · rw [ph_appo o b0] at e
        exact h5 a b a0 b0 e
      · by_cases b1 : b = m
        · rw [b1, ph_app0] at e; exact absurd e (nF a a0)
        · have b2 : b = m + 1 := by omega
          rw [b2, ph_app1] at e; exact absurd e (nS a a0)
    · by_cases a1 : a = m
      · rw [a1, ph_app0] at e
        by_cases b0 : b < m
        · rw [ph_appo o b0] at e; exact absurd e.symm (nF b b0)
        · by_cases b1 : b = m
          · omega
          · have b2 : b = m + 1 := by omega
            rw [b2, ph_app1] at e; exact absurd e f3
      · have a2 : a = m + 1 := by omega
        rw [a2, ph_app1] at e
        by_cases b0 : b < m
        · rw [ph_appo o b0] at e; exact absurd e.symm (nS b b0)
        · by_cases b1 : b = m
          · rw [b1, ph_app0] at e; exact absurd e.symm f3
          · omega
  · by_cases e0 : j < m
    · obtain ⟨k, hk, e⟩ := h6 j a e0
      exact ⟨k, by omega, by rw [ph_appo o e0, ph_appo o (by omega)]; exact e⟩
    · refine ⟨i, by omega, ?_⟩
      rw [ph_appo o hi]
      by_cases e1 : j = m
      · rw [e1, ph_app0]; exact f6
      · have e2 : j = m + 1 := by omega
        rw [e2, ph_app1]; exact f7
  · have jm : j < m := by omega
    rw [ph_appo o jm] at g ⊢
    by_cases e : j = i
    · rw [e]
      exact ⟨⟨m, by omega, by omega, ph_app0 _ _ _ _⟩, ⟨m + 1, by omega, by omega, ph_app1 _ _ _ _⟩⟩
    · obtain ⟨⟨k, k1, k2, k3⟩, ⟨l, l1, l2, l3⟩⟩ := h7 j (by omega) g
      exact ⟨⟨k, k1, by omega, by rw [ph_appo o k2]; exact k3⟩, ⟨l, l1, by omega, by rw [ph_appo o l2]; exact l3⟩⟩
theorem ph_bfs_e (w : ph_wf n t P F S r K) (h : ph_bfs n t P F S o m i) (hi : m ≤ i) : ph_ord n t F S o m := by
  have hm := ph_bfs_m w.1.2.1 h
  obtain ⟨⟨h1, h2⟩, h3, h4, h5, h6, h7⟩ := h
  have w' := w
  obtain ⟨_, w2, _, _, _⟩ := w'
  refine ⟨⟨h1, hm⟩, h3, h4, h5, ?_, fun j hj => h7 j (by omega)⟩
  refine ph_dn w (Q := fun x => ∃ j, j < m ∧ o j = x) ⟨0, by omega, h4⟩ (fun x hx hxt hp ih => ?_)
  obtain ⟨j, hj, e⟩ := ih
  obtain ⟨g1, g2⟩ := w2 x hx hxt
  rw [← e] at g1 g2
  obtain ⟨⟨k, _, k2, k3⟩, ⟨l, _, l2, l3⟩⟩ := h7 j (by omega) g1
  rcases g2 with g | g
  · exact ⟨k, k2, by rw [k3, g]⟩
  · exact ⟨l, l2, by rw [l3, g]⟩
theorem ph_ord_par (w : ph_wf n t P F S r K) (h : ph_ord n t F S o m) {j : Nat} (h0 : 0 < j) (hj : j < m) : o j ≠ t ∧ ∃ k, k < j ∧ o k = P (o j) := by
  obtain ⟨⟨h1, h2⟩, h3, h4, h5, h6, h7⟩ := h
  have w' := w
  obtain ⟨_, w2, _, _, _⟩ := w'
  have ht : o j ≠ t := fun e => by
    have := h5 j 0 hj (by omega) (e.trans h4.symm)
    omega
  obtain ⟨g1, g2⟩ := w2 _ (h3 j hj) ht
  obtain ⟨k, hk, e⟩ := h6 _ (ph_in_nd g1)
  refine ⟨ht, k, ?_, e⟩
  rw [← e] at g1 g2
  obtain ⟨⟨a, a1, a2, a3⟩, ⟨b, b1, b2, b3⟩⟩ := h7 k hk g1
  rcases g2 with g | g
  · have := h5 a j a2 hj (by rw [a3, g])
    omega
  · have := h5 b j b2 hj (by rw [b3, g])
    omega
end
end
section
theorem ph_ix (a b : Nat) : 4 * nI a + nI b = nI (4 * a + b) := by
  rw [show (4 : Int32) = nI 4 from rfl, pk_mul, nI_add]
theorem ph_isState {post : Int32 → Prop} {s : Nat} (hs : s < 4) (h : post 1) : wpX_isState post () (nI s) :=
  pk_lt s 0 (fun z => absurd z (by omega)) (fun _ => pk_lt 3 s (fun z => absurd z (by omega)) (fun _ => h))
theorem ph_isStates {post : Int32 → Prop} {s : Nat} (hs : s < 256) (h : post 1) : wpX_isStates post () (nI s) :=
  pk_lt s 0 (fun z => absurd z (by omega)) (fun _ => pk_lt 255 s (fun z => absurd z (by omega)) (fun _ => h))
section
variable {n t : Nat} {li : Int32} {a1 a2 a3 a4 a5 a6 a7 a8 a9 a10 a11 : Nat → Int32} {a12 : Nat → Int64} {a13 : Nat → Int32}
theorem ph_isNode {post : Int32 → Prop} {x : Nat} (hn : n ≤ 7) (hx : ph_nd n x) (h : post 1) : wpX_isNode post (nI n, nI (n - 1), nI t, li, a1, a2, a3, a4, a5, a6, a7, a8, a9, a10, a11, a12, a13) (nI x) := by
  unfold ph_nd at hx
  refine pk_lt x 0 (fun z => absurd z (by omega)) (fun _ => pk_lt x n (fun _ => h) (fun z => ?_))
  exact pk_lt x 8 (fun z' => absurd z' (by omega)) (fun _ => pk_le (8 + (n - 1)) x (fun z' => absurd z' (by omega)) (fun _ => h) (hx := nI_add 8 (n - 1)))
theorem ph_may19 {post : Int32 → Prop} {site s : Nat} (hsi : site < 4) (hs : s < 4) : ∀ d v, d < 4 → v < 2 ^ 31 → (v / 4 ^ d % 4 = s → post 1) → (v / 4 ^ d % 4 ≠ s → post 0) →
    wX_mayBe_19 post (nI site) (nI s) (nI n) (nI (n - 1)) (nI t) li a1 a2 a3 a4 a5 a6 a7 a8 a9 a10 a11 a12 a13 (d + 1) (nI v) (nI (site + d)) := by
  intro d
  induction d with
  | zero =>
    intro v _ hv h1 h0
    rw [Nat.pow_zero, Nat.div_one] at h1 h0
    refine pk_le (site + 0) site (fun _ => ⟨by decide, ?_⟩) (fun z => absurd z (by omega))
    exact pk_eq (v % 4) s h1 h0 (hx := pk_rem (a := v) (d := 4) hv (by decide) (by decide))
  | succ d ih =>
    intro v hd hv h1 h0
    have e : v / 4 ^ (d + 1) = v / 4 / 4 ^ d := by
      rw [Nat.div_div_eq_div_mul, Nat.pow_succ, Nat.mul_comm]
    rw [e] at h1 h0
    refine pk_le (site + (d + 1)) site (fun z => absurd z (by omega)) (fun _ => ⟨by decide, ?_⟩)
    exact nm_r (pk_div (a := v) (d := 4) hv (by decide) (by decide)) (nm_r (pk_m1 (site + d)) (ih (v / 4) (by omega) (by omega) h1 h0))
theorem ph_mayBe {post : Int32 → Prop} {x site s : Nat} {ow : Nat → Nat} (hn : n ≤ 7) (hx : ph_nd n x) (hsi : site < 4) (hs : s < 4) (how : ∀ j, j < n → a4 j = nI (ow j) ∧ ow j < 256)
    (h1 : (8 ≤ x ∨ ow x / 4 ^ (3 - site) % 4 = s) → post 1) (h0 : x < 8 → ow x / 4 ^ (3 - site) % 4 ≠ s → post 0) : wpX_mayBe post (nI n, nI (n - 1), nI t, li, a1, a2, a3, a4, a5, a6, a7, a8, a9, a10, a11, a12, a13) (nI x) (nI site) (nI s) := by
  unfold ph_nd at hx
  refine pk_lt x 8 (fun h8 => ⟨pk_in x 7 (by omega), ?_⟩) (fun h8 => h1 (Or.inl h8))
  obtain ⟨g1, g2⟩ := how x (by omega)
  refine nm_r (e' := nI (ow x)) (by rw [pk_cl x]; exact g1) ⟨3 - site + 1, ?_⟩
  have k := ph_may19 (post := post) (n := n) (t := t) (li := li) (a1 := a1) (a2 := a2) (a3 := a3) (a4 := a4) (a5 := a5) (a6 := a6) (a7 := a7) (a8 := a8) (a9 := a9) (a10 := a10) (a11 := a11) (a12 := a12) (a13 := a13) hsi hs (3 - site) (ow x) (by omega) (by omega) (fun h => h1 (Or.inr h)) (fun h => h0 h8 h)
  rw [show site + (3 - site) = 3 by omega] at k
  exact k
theorem ph_leastUnder {post : Int32 → Prop} {C b : Nat → Nat} {c s : Nat} (hc : c < 14) (hs : s < 4) (hC : ∀ k, k < 16 → a5 k = nI (C k) ∧ C k ≤ 9) (hb : ∀ j, j < 4 → a9 (4 * c + j) = nI (b j) ∧ b j ≤ 1000000)
    (h : post (nI (ph_lst C b s))) : wpX_leastUnder post (nI n, nI (n - 1), nI t, li, a1, a2, a3, a4, a5, a6, a7, a8, a9, a10, a11, a12, a13) (nI c) (nI s) := by
  refine pk_loop (fun q i x3 => wX_leastUnder_6 post (nI c) (nI s) (nI n) (nI (n - 1)) (nI t) li a1 a2 a3 a4 a5 a6 a7 a8 a9 a10 a11 a12 a13 q x3 (nI i)) (fun i x3 => x3 = nI (ph_pm (fun t => C (4 * s + t) + b t) i)) 4 0 100000 (by omega) rfl ?_ ?_
  · intro q x3 e
    refine pk_le 4 4 (fun _ => ?_) (fun z => absurd z (by omega))
    rw [e]; exact h
  · intro q i x3 hi e hw
    obtain ⟨c1, c2⟩ := hC (4 * s + i) (by omega)
    obtain ⟨b1, b2⟩ := hb i hi
    have cap := ph_pm_cap (fun t => C (4 * s + t) + b t) i
    have st := ph_pm_s (fun t => C (4 * s + t) + b t) i
    refine pk_le 4 i (fun z => absurd z (by omega)) (fun _ => ⟨pk_in (4 * s + i) 16 (by omega) (ph_ix s i), pk_in (4 * c + i) 56 (by omega) (ph_ix c i), ?_⟩)
    refine nm_r (e' := nI (C (4 * s + i) + b i)) (by rw [pk_cl (4 * s + i) (ph_ix s i), pk_cl (4 * c + i) (ph_ix c i), c1, b1, nI_add]) ?_
    refine pk_le (ph_pm (fun t => C (4 * s + t) + b t) i) (C (4 * s + i) + b i) (fun z => nm_r (nI_1 i) (hw _ ?_)) (fun z => nm_r (nI_1 i) (hw _ ?_)) (hx := e)
    · rw [st, if_pos z]; exact e
    · rw [st, if_neg (by show ¬ (ph_pm (fun t => C (4 * s + t) + b t) i ≤ C (4 * s + i) + b i); omega)]
theorem ph_addChild {post : St2 → Prop} {C b M : Nat → Nat} {x c s : Nat} (hx : x < 14) (hc : c < 14) (hs : s < 4) (hC : ∀ k, k < 16 → a5 k = nI (C k) ∧ C k ≤ 9) (hb : ∀ j, j < 4 → a9 (4 * c + j) = nI (b j) ∧ b j ≤ 1000000)
    (hM : ∀ j, j < 4 → a10 (4 * c + j) = nI (M j))
    (h : post (nI n, nI (n - 1), nI t, li, a1, a2, a3, a4, a5, a6, a7, a8, upd a9 (4 * x + s) (a9 (4 * x + s) + nI (ph_lst C b s)), upd a10 (4 * x + s) (a10 (4 * x + s) * nI (ph_num C b M s)), a11, a12, a13)) : wpX_addChild post (nI n, nI (n - 1), nI t, li, a1, a2, a3, a4, a5, a6, a7, a8, a9, a10, a11, a12, a13) (nI x) (nI s) (nI c) := by
  unfold wpX_addChild
  refine ph_leastUnder hc hs hC hb ?_
  refine pk_loop (fun q i x5 => wX_addChild_14 post (nI x) (nI s) (nI c) (nI (ph_lst C b s)) (nI n) (nI (n - 1)) (nI t) li a1 a2 a3 a4 a5 a6 a7 a8 a9 a10 a11 a12 a13 q x5 (nI i)) (fun i x5 => x5 = nI (ph_sm (fun t => if C (4 * s + t) + b t = ph_lst C b s then M t else 0) i)) 4 0 0 (by omega) rfl ?_ ?_
  · intro q x5 e
    have ix := pk_cl (4 * x + s) (ph_ix x s)
    refine pk_le 4 4 (fun _ => ⟨pk_in (4 * x + s) 56 (by omega) (ph_ix x s), pk_in (4 * x + s) 56 (by omega) (ph_ix x s), nm_r (by rw [ix]) ⟨pk_in (4 * x + s) 56 (by omega) (ph_ix x s), pk_in (4 * x + s) 56 (by omega) (ph_ix x s), nm_r (by rw [ix, e]; rfl) h⟩⟩) (fun z => absurd z (by omega))
  · intro q i x5 hi e hw
    obtain ⟨c1, c2⟩ := hC (4 * s + i) (by omega)
    obtain ⟨b1, b2⟩ := hb i hi
    have m1 := hM i hi
    have cap := ph_lst_cap C b s
    have st : ph_sm (fun t => if C (4 * s + t) + b t = ph_lst C b s then M t else 0) (i + 1) = ph_sm (fun t => if C (4 * s + t) + b t = ph_lst C b s then M t else 0) i + (if C (4 * s + i) + b i = ph_lst C b s then M i else 0) := rfl
    have is := pk_cl (4 * s + i) (ph_ix s i)
    have ic' := pk_cl (4 * c + i) (ph_ix c i)
    refine pk_le 4 i (fun z => absurd z (by omega)) (fun _ => ⟨pk_in (4 * s + i) 16 (by omega) (ph_ix s i), pk_in (4 * c + i) 56 (by omega) (ph_ix c i), ?_⟩)
    refine pk_eq (C (4 * s + i) + b i) (ph_lst C b s) (fun z => ⟨pk_in (4 * c + i) 56 (by omega) (ph_ix c i), nm_e (nm_r (nI_1 i) (hw _ ?_))⟩) (fun z => nm_e (nm_r (nI_1 i) (hw _ ?_))) (hx := by rw [is, ic', c1, b1, nI_add])
    · show x5 + a10 (4 * nI c + nI i).toNatClampNeg = nI _
      rw [st, if_pos z, ic', m1, e, nI_add]
    · show x5 + 0 = nI _
      rw [st, if_neg z, e]
      exact nI_add _ 0
end
end
section
/-- the state's arrays hold the picture -/
def ph_ok (n t : Nat) (P F S ow C : Nat → Nat) (a1 a2 a3 a4 a5 : Nat → Int32) : Prop :=
  (a1 t = -1 ∧ ∀ x, ph_nd n x → x ≠ t → a1 x = nI (P x)) ∧ (∀ k, ph_in n k → a2 k = nI (F k) ∧ a3 k = nI (S k)) ∧ (∀ j, j < n → a4 j = nI (ow j) ∧ ow j < 256) ∧ (∀ k, k < 16 → a5 k = nI (C k) ∧ C k ≤ 9)
/-- one node's row of the arrays below and many -/
def ph_row (a9 a10 : Nat → Int32) (q x : Nat) (b : Nat → Nat) : Prop := (∀ s, s < 4 → a9 (4 * x + s) = nI (b s)) ∧ ∃ M, ph_mp q b M ∧ ∀ s, s < 4 → a10 (4 * x + s) = nI (M s)
section
variable {n t K : Nat} {P F S r ow C : Nat → Nat} {li : Int32} {a1 a2 a3 a4 a5 a6 a7 a8 a9 a10 a11 : Nat → Int32} {a12 : Nat → Int64} {a13 : Nat → Int32}
theorem ph_listNodes {post : St2 → Prop} (w : ph_wf n t P F S r K) (hF : ∀ k, ph_in n k → a2 k = nI (F k) ∧ a3 k = nI (S k))
    (h : ∀ (o : Nat → Nat) (m : Nat) (b7 : Nat → Int32), ph_ord n t F S o m → (∀ j, j < m → b7 j = nI (o j)) → post (nI n, nI (n - 1), nI t, nI m, a1, a2, a3, a4, a5, a6, b7, a8, a9, a10, a11, a12, a13)) : wpX_listNodes post (nI n, nI (n - 1), nI t, li, a1, a2, a3, a4, a5, a6, a7, a8, a9, a10, a11, a12, a13) := by
  have hn := w.1.2.1
  unfold wpX_listNodes
  refine nm_e ?_
  refine loop_m (σ := Nat × Nat × (Nat → Int32)) (fun q s => wX_listNodes_17 post (nI n) (nI (n - 1)) (nI t) q (nI s.1) (nI s.2.1) a1 a2 a3 a4 a5 a6 s.2.2 a8 a9 a10 a11 a12 a13)
    (fun s => ∃ o, ph_bfs n t P F S o s.2.1 s.1 ∧ ∀ j, j < s.2.1 → s.2.2 j = nI (o j)) (fun s => 14 - s.1) ?_ (0, 1, upd a7 0 (nI t)) ⟨fun _ => t, ph_bfs_0 w.1.2.2 rfl, ?_⟩
  · rintro q ⟨i, m, b7⟩ ⟨o, hb, ho⟩ hw
    dsimp only at hb ho hw
    have hm := ph_bfs_m hn hb
    have him := hb.1.2
    refine pk_le 14 i (fun z => absurd z (by omega)) (fun _ => pk_le m i (fun z => h o m b7 (ph_bfs_e w hb z) ho) (fun z => ⟨pk_in i 14 (by omega), nm_r (e' := nI (o i)) (by rw [pk_cl i]; exact ho i z) ?_⟩))
    have hnd := hb.2.1 i z
    have h14 := ph_nd14 hn hnd
    refine pk_lt (o i) 8 (fun z8 => nm_r (nI_1 i) (hw (i + 1, m, b7) ⟨o, ph_bfs_lf hb z z8, ho⟩ (by show 14 - (i + 1) < 14 - i; omega))) (fun z8 => ?_)
    have hin := ph_nd_in hn hnd (by omega)
    have hb' := ph_bfs_in w hb z hin
    have hm' := ph_bfs_m hn hb'
    obtain ⟨g1, g2⟩ := hF _ hin
    refine ⟨pk_in (o i) 14 h14, pk_in m 14 (by omega), nm_r (e' := upd b7 m (nI (F (o i)))) (by rw [pk_cl m, pk_cl (o i), g1]) ⟨pk_in (o i) 14 h14, pk_in (m + 1) 14 (by omega) (nI_1 m), nm_r (e' := upd (upd b7 m (nI (F (o i)))) (m + 1) (nI (S (o i)))) (by rw [pk_cl (m + 1) (nI_1 m), pk_cl (o i), g2]) (nm_r (e' := nI (m + 2)) (nI_add m 2) (nm_r (nI_1 i) (hw (i + 1, m + 2, upd (upd b7 m (nI (F (o i)))) (m + 1) (nI (S (o i)))) ⟨_, hb', ?_⟩ (by show 14 - (i + 1) < 14 - i; omega))))⟩⟩
    intro j hj
    have hj' : j < m + 2 := hj
    show upd (upd b7 m (nI (F (o i)))) (m + 1) (nI (S (o i))) j = nI (ph_app o m (F (o i)) (S (o i)) j)
    by_cases e0 : j < m
    · rw [pk_un (by omega), pk_un (by omega), ph_appo o e0]; exact ho j e0
    · by_cases e1 : j = m
      · rw [e1, pk_un (by omega), pk_us, ph_app0]
      · have e2 : j = m + 1 := by omega
        rw [e2, pk_us, ph_app1]
  · intro j hj
    have e : j = 0 := by
      have hj' : j < 1 := hj
      omega
    rw [e]; exact (pk_us : upd a7 0 (nI t) 0 = nI t)
theorem ph_lfstep {post : Int32 → St2 → Prop} {J11 J25 : Int32 → Int32 → Int32 → Int32 → Int32 → (Nat → Int32) → (Nat → Int32) → (Nat → Int32) → (Nat → Int32) → (Nat → Int32) → (Nat → Int32) → (Nat → Int32) → (Nat → Int32) → (Nat → Int32) → (Nat → Int32) → (Nat → Int32) → (Nat → Int64) → (Nat → Int32) → Prop} {x2 : Int32} {x s site : Nat} {b M : Nat → Nat} (hn : n ≤ 7) (hx : ph_nd n x) (hs : s < 4) (hsi : site < 4)
    (how : ∀ j, j < n → a4 j = nI (ow j) ∧ ow j < 256) (hC : ∀ k, k < 16 → a5 k = nI (C k) ∧ C k ≤ 9)
    (hch : 8 ≤ x → ∃ f g bf bg Mf Mg, a2 x = nI f ∧ a3 x = nI g ∧ f < 14 ∧ g < 14 ∧ f ≠ x ∧ g ≠ x ∧ (∀ j, j < 4 → a9 (4 * f + j) = nI (bf j) ∧ bf j ≤ 1000000) ∧ (∀ j, j < 4 → a9 (4 * g + j) = nI (bg j) ∧ bg j ≤ 1000000) ∧
      (∀ j, j < 4 → a10 (4 * f + j) = nI (Mf j)) ∧ (∀ j, j < 4 → a10 (4 * g + j) = nI (Mg j)) ∧ b s = ph_lst C bf s + ph_lst C bg s ∧ M s = ph_num C bf Mf s * ph_num C bg Mg s)
    (hlf : x < 8 → b s = (if ow x / 4 ^ (3 - site) % 4 = s then 0 else 100000) ∧ M s = (if ow x / 4 ^ (3 - site) % 4 = s then 1 else 0))
    (H : ∀ c9 c10, (∀ k, k ≠ 4 * x + s → c9 k = a9 k ∧ c10 k = a10 k) → c9 (4 * x + s) = nI (b s) → c10 (4 * x + s) = nI (M s) → J25 (nI (s + 1)) (nI n) (nI (n - 1)) (nI t) li a1 a2 a3 a4 a5 a6 a7 a8 c9 c10 a11 a12 a13) :
    wpX_mayBe (fun r_58 => ((r_58 = 0 → wX_leastFor_58 post J11 J25 (nI site) x2 (nI x) (nI s) 100000 (4 * nI x + nI s) (nI n) (nI (n - 1)) (nI t) li a1 a2 a3 a4 a5 a6 a7 a8 a9 a10 a11 a12 a13) ∧ (¬ r_58 = 0 → wX_leastFor_58 post J11 J25 (nI site) x2 (nI x) (nI s) 0 (4 * nI x + nI s) (nI n) (nI (n - 1)) (nI t) li a1 a2 a3 a4 a5 a6 a7 a8 a9 a10 a11 a12 a13))) (nI n, nI (n - 1), nI t, li, a1, a2, a3, a4, a5, a6, a7, a8, a9, a10, a11, a12, a13) (nI x) (nI site) (nI s) := by
  have h14 := ph_nd14 hn hx
  have ix := pk_cl (4 * x + s) (ph_ix x s)
  have iin : vp_in (4 * nI x + nI s) 56 := pk_in (4 * x + s) 56 (by omega) (ph_ix x s)
  by_cases h8 : x < 8
  · obtain ⟨e1, e2⟩ := hlf h8
    refine ph_mayBe hn hx hsi hs how (fun c => br_f (by decide) ⟨iin, nm_e (ph_mayBe hn hx hsi hs how (fun _ => br_f (by decide) ⟨iin, nm_e (pk_lt x 8 (fun _ => nm_r (nI_1 s) (H _ _ ?_ ?_ ?_)) (fun z => absurd z (by omega)))⟩) (fun _ c' => absurd c ?_))⟩)
      (fun _ c => br_t rfl ⟨iin, nm_e (ph_mayBe hn hx hsi hs how (fun c' => absurd c' ?_) (fun _ _ => br_t rfl ⟨iin, nm_e (pk_lt x 8 (fun _ => nm_r (nI_1 s) (H _ _ ?_ ?_ ?_)) (fun z => absurd z (by omega)))⟩))⟩)
    · intro k hk
      rw [ix]
      exact ⟨pk_un hk, pk_un hk⟩
    · rw [ix, pk_us, e1, if_pos (c.resolve_left (by omega))]; rfl
    · rw [ix, pk_us, e2, if_pos (c.resolve_left (by omega))]; rfl
    · rintro (z | z)
      · omega
      · exact c' z
    · rintro (z | z)
      · omega
      · exact c z
    · intro k hk
      rw [ix]
      exact ⟨pk_un hk, pk_un hk⟩
    · rw [ix, pk_us, e1, if_neg c]; rfl
    · rw [ix, pk_us, e2, if_neg c]; rfl
  · obtain ⟨f, g, bf, bg, Mf, Mg, q1, q2, q3, q4, q5, q6, q7, q8, q9, q10, q11, q12⟩ := hch (by omega)
    have icx := pk_cl (x := nI x) x
    refine ph_mayBe hn hx hsi hs how (fun c => br_f (by decide) ⟨iin, nm_e (ph_mayBe hn hx hsi hs how (fun _ => br_f (by decide) ⟨iin, nm_e (pk_lt x 8 (fun z => absurd z (by omega)) (fun _ => ⟨pk_in x 14 h14, ?_⟩))⟩) (fun z => absurd z h8))⟩) (fun z => absurd z h8)
    rw [ix, icx, q1]
    refine ph_addChild (C := C) (b := bf) (M := Mf) h14 q3 hs hC ?_ ?_ ⟨pk_in x 14 h14, ?_⟩
    · intro j hj
      rw [pk_un (by omega)]; exact q7 j hj
    · intro j hj
      rw [pk_un (by omega)]; exact q9 j hj
    · rw [q2]
      refine ph_addChild (C := C) (b := bg) (M := Mg) h14 q4 hs hC ?_ ?_ (nm_r (nI_1 s) (H _ _ ?_ ?_ ?_))
      · intro j hj
        rw [pk_un (by omega), pk_un (by omega)]; exact q8 j hj
      · intro j hj
        rw [pk_un (by omega), pk_un (by omega)]; exact q10 j hj
      · intro k hk
        rw [pk_un hk, pk_un hk, pk_un hk, pk_un hk, pk_un hk, pk_un hk]
        exact ⟨rfl, rfl⟩
      · rw [pk_us, pk_us, pk_us, q11, ← nI_add]
        show nI 0 + nI (ph_lst C bf s) + nI (ph_lst C bg s) = _
        rw [nI_add, nI_add, Nat.zero_add, nI_add]
      · rw [pk_us, pk_us, pk_us, q12, ← pk_mul]
        show nI 1 * nI (ph_num C bf Mf s) * nI (ph_num C bg Mg s) = _
        rw [pk_mul, pk_mul, Nat.one_mul, pk_mul]
theorem ph_lf25 {post : Int32 → St2 → Prop} {J11 : Int32 → Int32 → Int32 → Int32 → Int32 → (Nat → Int32) → (Nat → Int32) → (Nat → Int32) → (Nat → Int32) → (Nat → Int32) → (Nat → Int32) → (Nat → Int32) → (Nat → Int32) → (Nat → Int32) → (Nat → Int32) → (Nat → Int32) → (Nat → Int64) → (Nat → Int32) → Prop} {x2 : Int32} {x site : Nat} {b M : Nat → Nat} (hn : n ≤ 7) (hx : ph_nd n x) (hsi : site < 4)
    (how : ∀ j, j < n → a4 j = nI (ow j) ∧ ow j < 256) (hC : ∀ k, k < 16 → a5 k = nI (C k) ∧ C k ≤ 9)
    (hch : 8 ≤ x → ∃ f g bf bg Mf Mg, a2 x = nI f ∧ a3 x = nI g ∧ f < 14 ∧ g < 14 ∧ f ≠ x ∧ g ≠ x ∧ (∀ j, j < 4 → a9 (4 * f + j) = nI (bf j) ∧ bf j ≤ 1000000) ∧ (∀ j, j < 4 → a9 (4 * g + j) = nI (bg j) ∧ bg j ≤ 1000000) ∧
      (∀ j, j < 4 → a10 (4 * f + j) = nI (Mf j)) ∧ (∀ j, j < 4 → a10 (4 * g + j) = nI (Mg j)) ∧ (∀ s, s < 4 → b s = ph_lst C bf s + ph_lst C bg s ∧ M s = ph_num C bf Mf s * ph_num C bg Mg s))
    (hlf : x < 8 → ∀ s, s < 4 → b s = (if ow x / 4 ^ (3 - site) % 4 = s then 0 else 100000) ∧ M s = (if ow x / 4 ^ (3 - site) % 4 = s then 1 else 0))
    (H : ∀ c9 c10, (∀ k, (k < 4 * x ∨ 4 * x + 4 ≤ k) → c9 k = a9 k ∧ c10 k = a10 k) → (∀ s, s < 4 → c9 (4 * x + s) = nI (b s) ∧ c10 (4 * x + s) = nI (M s)) → J11 (x2 + (-1)) (nI n) (nI (n - 1)) (nI t) li a1 a2 a3 a4 a5 a6 a7 a8 c9 c10 a11 a12 a13) :
    ∃ fu, wX_leastFor_25 post J11 (nI site) x2 (nI x) fu 0 (nI n) (nI (n - 1)) (nI t) li a1 a2 a3 a4 a5 a6 a7 a8 a9 a10 a11 a12 a13 := by
  refine pk_loop (σ := (Nat → Int32) × (Nat → Int32)) (fun q i s => wX_leastFor_25 post J11 (nI site) x2 (nI x) q (nI i) (nI n) (nI (n - 1)) (nI t) li a1 a2 a3 a4 a5 a6 a7 a8 s.1 s.2 a11 a12 a13)
    (fun i s => (∀ k, (k < 4 * x ∨ 4 * x + 4 ≤ k) → s.1 k = a9 k ∧ s.2 k = a10 k) ∧ ∀ j, j < i → s.1 (4 * x + j) = nI (b j) ∧ s.2 (4 * x + j) = nI (M j)) 4 0 (a9, a10) (by omega) ⟨fun k _ => ⟨rfl, rfl⟩, fun j hj => absurd hj (by omega)⟩ ?_ ?_
  · rintro q ⟨c9, c10⟩ ⟨h1, h2⟩
    exact pk_le 4 4 (fun _ => nm_e (H c9 c10 h1 h2)) (fun z => absurd z (by omega))
  · rintro q i ⟨c9, c10⟩ hi ⟨h1, h2⟩ hw
    dsimp only at h1 h2 hw
    refine pk_le 4 i (fun z => absurd z (by omega)) (fun _ => ?_)
    refine ph_lfstep (b := b) (M := M) hn hx hi hsi how hC ?_ (fun z => hlf z i hi) (fun d9 d10 g1 g2 g3 => hw (d9, d10) ⟨fun k hk => ?_, fun j hj => ?_⟩)
    · intro z
      obtain ⟨f, g, bf, bg, Mf, Mg, q1, q2, q3, q4, q5, q6, q7, q8, q9, q10, q11⟩ := hch z
      refine ⟨f, g, bf, bg, Mf, Mg, q1, q2, q3, q4, q5, q6, fun j hj => ?_, fun j hj => ?_, fun j hj => ?_, fun j hj => ?_, (q11 i hi).1, (q11 i hi).2⟩
      · exact ⟨((h1 (4 * f + j) (by omega)).1).trans (q7 j hj).1, (q7 j hj).2⟩
      · exact ⟨((h1 (4 * g + j) (by omega)).1).trans (q8 j hj).1, (q8 j hj).2⟩
      · exact ((h1 (4 * f + j) (by omega)).2).trans (q9 j hj)
      · exact ((h1 (4 * g + j) (by omega)).2).trans (q10 j hj)
    · show d9 k = a9 k ∧ d10 k = a10 k
      rw [(g1 k (by omega)).1, (g1 k (by omega)).2]
      exact h1 k hk
    · show d9 (4 * x + j) = nI (b j) ∧ d10 (4 * x + j) = nI (M j)
      by_cases e : j = i
      · rw [e]; exact ⟨g2, g3⟩
      · rw [(g1 _ (by omega)).1, (g1 _ (by omega)).2]
        exact h2 j (by omega)
end
end
section
section
variable {n t K : Nat} {P F S r ow C : Nat → Nat} {li : Int32} {a1 a2 a3 a4 a5 a6 a7 a8 a9 a10 a11 : Nat → Int32} {a12 : Nat → Int64} {a13 : Nat → Int32}
theorem ph_lf135 {post : Int32 → St2 → Prop} {b : Nat → Nat} (ht : t < 14) (hb : ∀ s, s < 4 → a9 (4 * t + s) = nI (b s) ∧ b s ≤ 1000000) (h : post (nI (ph_pm b 4)) (nI n, nI (n - 1), nI t, li, a1, a2, a3, a4, a5, a6, a7, a8, a9, a10, a11, a12, a13)) :
    ∃ fu, wX_leastFor_135 post (nI n) (nI (n - 1)) (nI t) li a1 a2 a3 a4 a5 a6 a7 a8 a9 a10 a11 a12 a13 fu 100000 0 := by
  refine pk_loop (fun q i x2 => wX_leastFor_135 post (nI n) (nI (n - 1)) (nI t) li a1 a2 a3 a4 a5 a6 a7 a8 a9 a10 a11 a12 a13 q x2 (nI i)) (fun i x2 => x2 = nI (ph_pm b i)) 4 0 100000 (by omega) rfl ?_ ?_
  · intro q x2 e
    refine pk_le 4 4 (fun _ => ?_) (fun z => absurd z (by omega))
    rw [e]; exact h
  · intro q i x2 hi e hw
    obtain ⟨b1, b2⟩ := hb i hi
    have cap := ph_pm_cap b i
    have st := ph_pm_s b i
    have ix := pk_cl (4 * t + i) (ph_ix t i)
    have iin : vp_in (4 * nI t + nI i) 56 := pk_in (4 * t + i) 56 (by omega) (ph_ix t i)
    refine pk_le 4 i (fun z => absurd z (by omega)) (fun _ => ⟨iin, ?_⟩)
    refine pk_le (ph_pm b i) (b i) (fun z => nm_r (nI_1 i) (hw _ ?_)) (fun z => ⟨iin, nm_r (e' := nI (b i)) (by rw [ix, b1]) (nm_r (nI_1 i) (hw _ ?_))⟩) (hx := e) (hy := by rw [ix, b1])
    · rw [st, if_pos z]; exact e
    · rw [st, if_neg (by omega)]
theorem ph_lf11 {post : Int32 → St2 → Prop} {site m : Nat} {o : Nat → Nat} (w : ph_wf n t P F S r K) (k : ph_ok n t P F S ow C a1 a2 a3 a4 a5) (hsi : site < 4) (ho : ph_ord n t F S o m) (h7 : ∀ j, j < m → a7 j = nI (o j))
    (h : ∀ b9 b10, (∀ x, ph_nd n x → ph_row b9 b10 (ph_cnt n P t x) x (ph_B ow C F S site x)) → post (nI (ph_best ow C F S t site)) (nI n, nI (n - 1), nI t, nI m, a1, a2, a3, a4, a5, a6, a7, a8, b9, b10, a11, a12, a13)) :
    ∃ fu, wX_leastFor_11 post (nI site) fu (nI m + (-1)) (nI n) (nI (n - 1)) (nI t) (nI m) a1 a2 a3 a4 a5 a6 a7 a8 a9 a10 a11 a12 a13 := by
  have hn := w.1.2.1
  obtain ⟨k1, kF, kO, kC⟩ := k
  have hC9 : ∀ j, j < 16 → C j ≤ 9 := fun j hj => (kC j hj).2
  have ho' := ho
  obtain ⟨⟨o1, o2⟩, o3, o4, o5, o6, o7⟩ := ho'
  have w' := w
  obtain ⟨_, w2, w3, _, _⟩ := w'
  refine ⟨m + 1, pk_loopD (σ := (Nat → Int32) × (Nat → Int32)) (fun q j s => wX_leastFor_11 post (nI site) q (nI j + (-1)) (nI n) (nI (n - 1)) (nI t) (nI m) a1 a2 a3 a4 a5 a6 a7 a8 s.1 s.2 a11 a12 a13)
    (fun j s => j ≤ m ∧ ∀ l, j ≤ l → l < m → ph_row s.1 s.2 (ph_cnt n P t (o l)) (o l) (ph_B ow C F S site (o l))) ?_ ?_ m (a9, a10) ⟨Nat.le_refl _, fun l h1 h2 => absurd h1 (by omega)⟩⟩
  · rintro q ⟨c9, c10⟩ ⟨_, hr⟩
    have rows : ∀ x, ph_nd n x → ph_row c9 c10 (ph_cnt n P t x) x (ph_B ow C F S site x) := by
      intro x hx
      obtain ⟨j, hj, e⟩ := o6 x hx
      rw [← e]; exact hr j (by omega) hj
    refine br_t (by decide) (ph_lf135 (ph_nd14 hn w.1.2.2) (b := ph_B ow C F S site t) (fun s hs => ⟨(rows t w.1.2.2).1 s hs, ?_⟩) (h c9 c10 rows))
    have := ph_B_cap w hC9 (ow := ow) (site := site) w.1.2.2 hs
    omega
  · rintro q j ⟨c9, c10⟩ ⟨hjm, hr⟩ hw
    dsimp only at hr hw
    have hj : j < m := by omega
    have e1 := pk_m1 j
    have hx := o3 j hj
    have hneg : ¬ nI (j + 1) + (-1) < 0 := by rw [e1]; exact nI_pos (by omega)
    refine br_f hneg ⟨pk_in j 14 (by omega) e1, nm_r (e' := nI (o j)) (by rw [pk_cl j e1]; exact h7 j hj) ?_⟩
    have keep : ∀ (d9 d10 : Nat → Int32) (M : Nat → Nat), ph_mp (ph_cnt n P t (o j)) (ph_B ow C F S site (o j)) M → (∀ k, (k < 4 * o j ∨ 4 * o j + 4 ≤ k) → d9 k = c9 k ∧ d10 k = c10 k) →
        (∀ s, s < 4 → d9 (4 * o j + s) = nI (ph_B ow C F S site (o j) s) ∧ d10 (4 * o j + s) = nI (M s)) → ∀ l, j ≤ l → l < m → ph_row d9 d10 (ph_cnt n P t (o l)) (o l) (ph_B ow C F S site (o l)) := by
      intro d9 d10 M hM g1 g2 l hl hlm
      by_cases e : l = j
      · rw [e]
        exact ⟨fun s hs => (g2 s hs).1, M, hM, fun s hs => (g2 s hs).2⟩
      · have ne : o l ≠ o j := fun h => e (o5 l j hlm hj h)
        obtain ⟨r1, M', r2, r3⟩ := hr l (by omega) hlm
        refine ⟨fun s hs => ?_, M', r2, fun s hs => ?_⟩
        · exact ((g1 (4 * o l + s) (by omega)).1).trans (r1 s hs)
        · exact ((g1 (4 * o l + s) (by omega)).2).trans (r3 s hs)
    by_cases h8 : o j < 8
    · refine ph_lf25 (b := ph_B ow C F S site (o j)) (M := fun s => if ow (o j) / 4 ^ (3 - site) % 4 = s then 1 else 0) hn hx hsi kO kC (fun z => absurd z (by omega)) (fun _ s hs => ⟨ph_B_lf h8 s, rfl⟩) (fun d9 d10 g1 g2 => ?_)
      rw [e1]
      refine hw (d9, d10) ⟨by omega, keep d9 d10 _ ?_ g1 g2⟩
      exact ph_mp_lf (v := ow (o j) / 4 ^ (3 - site) % 4) (fun s _ => ph_B_lf h8 s) (fun s _ => rfl)
    · have hin := ph_nd_in hn hx h8
      obtain ⟨f1, f2, f3, f4, f5, f6, f7⟩ := w3 _ hin
      obtain ⟨⟨lf, u1, u2, u3⟩, ⟨lg, v1, v2, v3⟩⟩ := o7 j hj hin
      obtain ⟨rf1, Mf, rf2, rf3⟩ := hr lf (by omega) u2
      obtain ⟨rg1, Mg, rg2, rg3⟩ := hr lg (by omega) v2
      rw [u3] at rf1 rf2 rf3
      rw [v3] at rg1 rg2 rg3
      have nf : F (o j) ≠ o j := fun e => by
        have := o5 lf j u2 hj (u3.trans e)
        omega
      have ng : S (o j) ≠ o j := fun e => by
        have := o5 lg j v2 hj (v3.trans e)
        omega
      refine ph_lf25 (b := ph_B ow C F S site (o j)) (M := fun s => ph_num C (ph_B ow C F S site (F (o j))) Mf s * ph_num C (ph_B ow C F S site (S (o j))) Mg s) hn hx hsi kO kC
        (fun _ => ⟨F (o j), S (o j), ph_B ow C F S site (F (o j)), ph_B ow C F S site (S (o j)), Mf, Mg, (kF _ hin).1, (kF _ hin).2, ph_nd14 hn f1, ph_nd14 hn f2, nf, ng, fun i hi => ⟨rf1 i hi, ?_⟩, fun i hi => ⟨rg1 i hi, ?_⟩, rf3, rg3, fun s hs => ⟨ph_B_in w hin s, rfl⟩⟩) (fun z => absurd z h8) (fun d9 d10 g1 g2 => ?_)
      · have := ph_B_cap w hC9 (ow := ow) (site := site) f1 hi
        omega
      · have := ph_B_cap w hC9 (ow := ow) (site := site) f2 hi
        omega
      · rw [e1]
        refine hw (d9, d10) ⟨by omega, keep d9 d10 _ ?_ g1 g2⟩
        rw [ph_cnt_eq w hin]
        exact ph_mp_in hC9 (ph_B_lo w hC9 f1) (ph_B_lo w hC9 f2) rf2 rg2 (fun s _ => rfl)
theorem ph_leastFor {post : Int32 → St2 → Prop} {site : Nat} (w : ph_wf n t P F S r K) (k : ph_ok n t P F S ow C a1 a2 a3 a4 a5) (hsi : site < 4)
    (h : ∀ (o : Nat → Nat) (m : Nat) (b7 b9 b10 : Nat → Int32), ph_ord n t F S o m → (∀ j, j < m → b7 j = nI (o j)) → (∀ x, ph_nd n x → ph_row b9 b10 (ph_cnt n P t x) x (ph_B ow C F S site x)) →
      post (nI (ph_best ow C F S t site)) (nI n, nI (n - 1), nI t, nI m, a1, a2, a3, a4, a5, a6, b7, a8, b9, b10, a11, a12, a13)) : wpX_leastFor post (nI n, nI (n - 1), nI t, li, a1, a2, a3, a4, a5, a6, a7, a8, a9, a10, a11, a12, a13) (nI site) := by
  unfold wpX_leastFor
  refine ph_listNodes w k.2.1 (fun o m b7 ho hb => ?_)
  obtain ⟨m', rfl⟩ : ∃ m', m = m' + 1 := ⟨m - 1, by have := ho.1.1; omega⟩
  refine nm_r (e' := nI (m' + 1) + (-1)) (by rw [nI_pred, pk_m1]) ?_
  exact ph_lf11 w k hsi ho hb (fun b9 b10 hr => h o _ b7 b9 b10 ho hb hr)
theorem ph_least {post : Int32 → St2 → Prop} {site : Nat} (w : ph_wf n t P F S r K) (k : ph_ok n t P F S ow C a1 a2 a3 a4 a5) (hsi : site < 4)
    (h : ∀ (l : Int32) (b7 b9 b10 : Nat → Int32), post (nI (ph_best ow C F S t site)) (nI n, nI (n - 1), nI t, l, a1, a2, a3, a4, a5, a6, b7, a8, b9, b10, a11, a12, a13)) : wpX_least post (nI n, nI (n - 1), nI t, li, a1, a2, a3, a4, a5, a6, a7, a8, a9, a10, a11, a12, a13) (nI site) := by
  unfold wpX_least
  refine ph_isState hsi (br_f (by decide) ?_)
  exact ph_leastFor w k hsi (fun o m b7 b9 b10 _ _ _ => h _ b7 b9 b10)
def ph_tot (ow C F S : Nat → Nat) (t : Nat) : Int32 := nI (ph_best ow C F S t 0) + nI (ph_best ow C F S t 1) + nI (ph_best ow C F S t 2) + nI (ph_best ow C F S t 3)
def ph_tots (ow C F S : Nat → Nat) (t : Nat) : Nat → Int32
  | 0 => 0
  | i + 1 => ph_tots ow C F S t i + nI (ph_best ow C F S t i)
theorem ph_total {post : Int32 → St2 → Prop} (w : ph_wf n t P F S r K) (k : ph_ok n t P F S ow C a1 a2 a3 a4 a5)
    (h : ∀ (l : Int32) (b7 b9 b10 : Nat → Int32), post (ph_tot ow C F S t) (nI n, nI (n - 1), nI t, l, a1, a2, a3, a4, a5, a6, b7, a8, b9, b10, a11, a12, a13)) : wpX_total post (nI n, nI (n - 1), nI t, li, a1, a2, a3, a4, a5, a6, a7, a8, a9, a10, a11, a12, a13) := by
  refine pk_loop (σ := Int32 × Int32 × (Nat → Int32) × (Nat → Int32) × (Nat → Int32)) (fun q i s => wX_total_4 post q s.1 (nI i) (nI n) (nI (n - 1)) (nI t) s.2.1 a1 a2 a3 a4 a5 a6 s.2.2.1 a8 s.2.2.2.1 s.2.2.2.2 a11 a12 a13)
    (fun i s => s.1 = ph_tots ow C F S t i) 4 0 (0, li, a7, a9, a10) (by omega) rfl ?_ ?_
  · rintro q ⟨x1, l, b7, b9, b10⟩ e
    dsimp only at e
    refine pk_le 4 4 (fun _ => ?_) (fun z => absurd z (by omega))
    have e' : x1 = ph_tot ow C F S t := by
      rw [e]
      show 0 + nI (ph_best ow C F S t 0) + nI (ph_best ow C F S t 1) + nI (ph_best ow C F S t 2) + nI (ph_best ow C F S t 3) = _
      rw [Int32.zero_add]; rfl
    show post x1 _
    rw [e']
    exact h l b7 b9 b10
  · rintro q i ⟨x1, l, b7, b9, b10⟩ hi e hw
    dsimp only at e hw
    refine pk_le 4 i (fun z => absurd z (by omega)) (fun _ => ?_)
    refine ph_leastFor w k hi (fun o m c7 c9 c10 _ _ _ => nm_e (nm_r (nI_1 i) (hw (_, _, c7, c9, c10) ?_)))
    show x1 + nI (ph_best ow C F S t i) = _
    rw [e]; rfl
theorem ph_ways {post : Int32 → St2 → Prop} {site : Nat} (w : ph_wf n t P F S r K) (k : ph_ok n t P F S ow C a1 a2 a3 a4 a5) (hsi : site < 4)
    (h : ∀ (c : Nat) (l : Int32) (b7 b9 b10 : Nat → Int32), 1 ≤ c → c ≤ 4096 → post (nI c) (nI n, nI (n - 1), nI t, l, a1, a2, a3, a4, a5, a6, b7, a8, b9, b10, a11, a12, a13)) : wpX_ways post (nI n, nI (n - 1), nI t, li, a1, a2, a3, a4, a5, a6, a7, a8, a9, a10, a11, a12, a13) (nI site) := by
  have hC9 : ∀ j, j < 16 → C j ≤ 9 := fun j hj => (k.2.2.2 j hj).2
  have h14 := ph_nd14 w.1.2.1 w.1.2.2
  unfold wpX_ways
  refine ph_isState hsi (br_f (by decide) ?_)
  refine ph_leastFor w k hsi (fun o m b7 b9 b10 _ _ rows => ?_)
  obtain ⟨r1, M, r2, r3⟩ := rows t w.1.2.2
  have bl := ph_best_lt w hC9 (ow := ow) (site := site)
  refine pk_loop (fun q i x3 => wX_ways_20 post (nI (ph_best ow C F S t site)) (nI n) (nI (n - 1)) (nI t) (nI m) a1 a2 a3 a4 a5 a6 b7 a8 b9 b10 a11 a12 a13 q x3 (nI i)) (fun i x3 => x3 = nI (ph_sm (fun s => if ph_B ow C F S site t s = ph_best ow C F S t site then M s else 0) i)) 4 0 0 (by omega) rfl ?_ ?_
  · intro q x3 e
    refine pk_le 4 4 (fun _ => ?_) (fun z => absurd z (by omega))
    rw [e]
    refine h _ _ b7 b9 b10 ?_ ?_
    · rcases ph_pm_at (ph_B ow C F S site t) 4 with e' | ⟨s, hs, e'⟩
      · have e2 : ph_best ow C F S t site = 100000 := e'
        omega
      · have e2 : ph_best ow C F S t site = ph_B ow C F S site t s := e'
        have g := ph_sm_ge (fun s => if ph_B ow C F S site t s = ph_best ow C F S t site then M s else 0) hs
        have g1 : (if ph_B ow C F S site t s = ph_best ow C F S t site then M s else 0) = M s := if_pos e2.symm
        have g2 := r2.1 s hs (by omega)
        have g3 : M s ≤ ph_sm (fun s => if ph_B ow C F S site t s = ph_best ow C F S t site then M s else 0) 4 := by
          rw [← g1]; exact g
        omega
    · have g : ∀ u, (if ph_B ow C F S site t u = ph_best ow C F S t site then M u else 0) ≤ M u := by
        intro u
        by_cases c : ph_B ow C F S site t u = ph_best ow C F S t site
        · rw [if_pos c]; exact Nat.le_refl _
        · rw [if_neg c]; omega
      have g0 := g 0
      have g1 := g 1
      have g2 := g 2
      have g3 := g 3
      have g4 := r2.2
      have g5 : 4 ^ ph_cnt n P t t ≤ 4 ^ 6 := Nat.pow_le_pow_right (by omega) (ph_cnt6 n P t t)
      rw [ph_sm4] at g4 ⊢
      omega
  · intro q i x3 hi e hw
    have ix := pk_cl (4 * t + i) (ph_ix t i)
    have iin : vp_in (4 * nI t + nI i) 56 := pk_in (4 * t + i) 56 (by omega) (ph_ix t i)
    have cap := ph_B_cap w hC9 (ow := ow) (site := site) w.1.2.2 hi
    have st : ph_sm (fun s => if ph_B ow C F S site t s = ph_best ow C F S t site then M s else 0) (i + 1) = ph_sm (fun s => if ph_B ow C F S site t s = ph_best ow C F S t site then M s else 0) i + (if ph_B ow C F S site t i = ph_best ow C F S t site then M i else 0) := rfl
    refine pk_le 4 i (fun z => absurd z (by omega)) (fun _ => ⟨iin, ?_⟩)
    refine pk_eq (ph_B ow C F S site t i) (ph_best ow C F S t site) (fun z => ⟨iin, nm_e (nm_r (nI_1 i) (hw _ ?_))⟩) (fun z => nm_e (nm_r (nI_1 i) (hw _ ?_))) (hx := by rw [ix]; exact r1 i hi)
    · show x3 + b10 (4 * nI t + nI i).toNatClampNeg = nI _
      rw [st, if_pos z, ix, r3 i hi, e, nI_add]
    · show x3 + 0 = nI _
      rw [st, if_neg z, e]
      exact nI_add _ 0
end
end
section
section
variable {n t K : Nat} {P F S r ow C : Nat → Nat} {li : Int32} {a1 a2 a3 a4 a5 a6 a7 a8 a9 a10 a11 : Nat → Int32} {a12 : Nat → Int64} {a13 : Nat → Int32}
theorem ph_wd94 {post : St2 → Prop} {J29 J81 : Int32 → (Nat → Int32) → (Nat → Int32) → (Nat → Int32) → (Nat → Int32) → (Nat → Int32) → (Nat → Int32) → (Nat → Int32) → (Nat → Int32) → (Nat → Int32) → (Nat → Int32) → (Nat → Int32) → (Nat → Int64) → (Nat → Int32) → Prop} {x1 : Int32} {x p o s : Nat} {A bo : Nat → Nat} (hx : x < 14) (hp : p < 14) (ho : o < 14) (hs : s < 4) (hC : ∀ k, k < 16 → a5 k = nI (C k) ∧ C k ≤ 9)
    (hA : ∀ j, j < 4 → a11 (4 * p + j) = nI (A j) ∧ A j ≤ 100000) (hb : ∀ j, j < 4 → a9 (4 * o + j) = nI (bo j) ∧ bo j ≤ 1000000)
    (H : J81 (nI (s + 1)) a1 a2 a3 a4 a5 a6 a7 a8 a9 a10 (upd a11 (4 * x + s) (nI (ph_abv C A bo s))) a12 a13) : ∃ fu, wX_workDown_94 post J29 J81 x1 (nI x) (nI p) (nI o) (nI s) (nI n) (nI (n - 1)) (nI t) li a1 a2 a3 a4 a5 a6 a7 a8 a9 a10 a11 a12 a13 fu 100000 0 := by
  refine pk_loop (fun q i x6 => wX_workDown_94 post J29 J81 x1 (nI x) (nI p) (nI o) (nI s) (nI n) (nI (n - 1)) (nI t) li a1 a2 a3 a4 a5 a6 a7 a8 a9 a10 a11 a12 a13 q x6 (nI i)) (fun i x6 => x6 = nI (ph_pm (fun u => A u + ph_lst C bo u + C (4 * u + s)) i)) 4 0 100000 (by omega) rfl ?_ ?_
  · intro q x6 e
    refine pk_le 4 4 (fun _ => ⟨pk_in (4 * x + s) 56 (by omega) (ph_ix x s), nm_r (by rw [pk_cl (4 * x + s) (ph_ix x s), e]; rfl) (nm_r (nI_1 s) H)⟩) (fun z => absurd z (by omega))
  · intro q i x6 hi e hw
    obtain ⟨c1, c2⟩ := hC (4 * i + s) (by omega)
    obtain ⟨p1, p2⟩ := hA i hi
    have cap := ph_pm_cap (fun u => A u + ph_lst C bo u + C (4 * u + s)) i
    have cap2 := ph_lst_cap C bo i
    have st := ph_pm_s (fun u => A u + ph_lst C bo u + C (4 * u + s)) i
    refine pk_le 4 i (fun z => absurd z (by omega)) (fun _ => ?_)
    refine ph_leastUnder ho hi hC hb ⟨pk_in (4 * p + i) 56 (by omega) (ph_ix p i), pk_in (4 * i + s) 16 (by omega) (ph_ix i s), ?_⟩
    refine nm_r (e' := nI (A i + ph_lst C bo i + C (4 * i + s))) (by rw [pk_cl (4 * p + i) (ph_ix p i), pk_cl (4 * i + s) (ph_ix i s), c1, p1, nI_add, nI_add]) ?_
    refine pk_le (ph_pm (fun u => A u + ph_lst C bo u + C (4 * u + s)) i) (A i + ph_lst C bo i + C (4 * i + s)) (fun z => nm_r (nI_1 i) (hw _ ?_)) (fun z => nm_r (nI_1 i) (hw _ ?_)) (hx := e)
    · rw [st, if_pos z]; exact e
    · rw [st, if_neg (by show ¬ (ph_pm (fun u => A u + ph_lst C bo u + C (4 * u + s)) i ≤ A i + ph_lst C bo i + C (4 * i + s)); omega)]
theorem ph_wd81 {post : St2 → Prop} {J29 : Int32 → (Nat → Int32) → (Nat → Int32) → (Nat → Int32) → (Nat → Int32) → (Nat → Int32) → (Nat → Int32) → (Nat → Int32) → (Nat → Int32) → (Nat → Int32) → (Nat → Int32) → (Nat → Int32) → (Nat → Int64) → (Nat → Int32) → Prop} {i x p o : Nat} {A bo : Nat → Nat} (hx : x < 14) (hp : p < 14) (ho : o < 14) (hpx : p ≠ x) (hC : ∀ k, k < 16 → a5 k = nI (C k) ∧ C k ≤ 9)
    (hA : ∀ j, j < 4 → a11 (4 * p + j) = nI (A j) ∧ A j ≤ 100000) (hb : ∀ j, j < 4 → a9 (4 * o + j) = nI (bo j) ∧ bo j ≤ 1000000)
    (H : ∀ c11, (∀ k, (k < 4 * x ∨ 4 * x + 4 ≤ k) → c11 k = a11 k) → (∀ s, s < 4 → c11 (4 * x + s) = nI (ph_abv C A bo s)) → J29 (nI (i + 1)) a1 a2 a3 a4 a5 a6 a7 a8 a9 a10 c11 a12 a13) :
    ∃ fu, wX_workDown_81 post J29 (nI i) (nI x) (nI p) (nI o) (nI n) (nI (n - 1)) (nI t) li fu 0 a1 a2 a3 a4 a5 a6 a7 a8 a9 a10 a11 a12 a13 := by
  refine pk_loop (σ := Nat → Int32) (fun q s c11 => wX_workDown_81 post J29 (nI i) (nI x) (nI p) (nI o) (nI n) (nI (n - 1)) (nI t) li q (nI s) a1 a2 a3 a4 a5 a6 a7 a8 a9 a10 c11 a12 a13)
    (fun s c11 => (∀ k, (k < 4 * x ∨ 4 * x + 4 ≤ k) → c11 k = a11 k) ∧ ∀ j, j < s → c11 (4 * x + j) = nI (ph_abv C A bo j)) 4 0 a11 (by omega) ⟨fun k _ => rfl, fun j hj => absurd hj (by omega)⟩ ?_ ?_
  · rintro q c11 ⟨h1, h2⟩
    exact pk_le 4 4 (fun _ => nm_r (nI_1 i) (H c11 h1 h2)) (fun z => absurd z (by omega))
  · rintro q s c11 hs ⟨h1, h2⟩ hw
    refine pk_le 4 s (fun z => absurd z (by omega)) (fun _ => ?_)
    refine ph_wd94 (A := A) (bo := bo) hx hp ho hs hC (fun j hj => ⟨(h1 (4 * p + j) (by omega)).trans (hA j hj).1, (hA j hj).2⟩) hb (hw _ ⟨fun k hk => ?_, fun j hj => ?_⟩)
    · rw [pk_un (by omega)]; exact h1 k hk
    · by_cases e : j = s
      · rw [e, pk_us]
      · rw [pk_un (by omega)]; exact h2 j (by omega)
theorem ph_wd29 {post : St2 → Prop} {site m : Nat} {o : Nat → Nat} (w : ph_wf n t P F S r K) (k : ph_ok n t P F S ow C a1 a2 a3 a4 a5) (ho : ph_ord n t F S o m) (h7 : ∀ j, j < m → a7 j = nI (o j))
    (hB : ∀ x, ph_nd n x → ∀ s, s < 4 → a9 (4 * x + s) = nI (ph_B ow C F S site x s)) (h0 : ∀ s, s < 4 → a11 (4 * t + s) = nI 0)
    (h : ∀ c11, (∀ x, ph_nd n x → ∃ A, ph_ap (ph_best ow C F S t site) (ph_B ow C F S site x) A ∧ ∀ s, s < 4 → c11 (4 * x + s) = nI (A s)) → post (nI n, nI (n - 1), nI t, nI m, a1, a2, a3, a4, a5, a6, a7, a8, a9, a10, c11, a12, a13)) :
    ∃ fu, wX_workDown_29 post (nI n) (nI (n - 1)) (nI t) (nI m) fu 1 a1 a2 a3 a4 a5 a6 a7 a8 a9 a10 a11 a12 a13 := by
  have hn := w.1.2.1
  obtain ⟨⟨_, k1⟩, kF, kO, kC⟩ := k
  have hC9 : ∀ j, j < 16 → C j ≤ 9 := fun j hj => (kC j hj).2
  have bl := ph_best_lt w hC9 (ow := ow) (site := site)
  have ho' := ho
  obtain ⟨⟨o1, o2⟩, o3, o4, o5, o6, o7⟩ := ho'
  have w' := w
  obtain ⟨_, w2, w3, _, _⟩ := w'
  have hB' : ∀ x, ph_nd n x → ∀ j, j < 4 → a9 (4 * x + j) = nI (ph_B ow C F S site x j) ∧ ph_B ow C F S site x j ≤ 1000000 := fun x hx j hj => ⟨hB x hx j hj, by
    have := ph_B_cap w hC9 (ow := ow) (site := site) hx hj
    omega⟩
  refine pk_loop (σ := Nat → Int32) (fun q i c11 => wX_workDown_29 post (nI n) (nI (n - 1)) (nI t) (nI m) q (nI i) a1 a2 a3 a4 a5 a6 a7 a8 a9 a10 c11 a12 a13)
    (fun i c11 => 1 ≤ i ∧ ∀ l, l < i → ∃ A, ph_ap (ph_best ow C F S t site) (ph_B ow C F S site (o l)) A ∧ ∀ s, s < 4 → c11 (4 * o l + s) = nI (A s)) m 1 a11 (by omega) ⟨by omega, ?_⟩ ?_ ?_
  · intro l hl
    have e : l = 0 := by omega
    rw [e, o4]
    exact ⟨fun _ => 0, ph_ap_top bl (fun _ _ => rfl), h0⟩
  · rintro q c11 ⟨_, hI⟩
    refine pk_le m m (fun _ => h c11 (fun x hx => ?_)) (fun z => absurd z (by omega))
    obtain ⟨j, hj, e⟩ := o6 x hx
    rw [← e]; exact hI j hj
  · rintro q i c11 hi ⟨hpos, hI⟩ hw
    have hx := o3 i hi
    obtain ⟨hxt, l, hl, el⟩ := ph_ord_par w ho hpos hi
    obtain ⟨g1, g2⟩ := w2 _ hx hxt
    obtain ⟨f1, f2, f3, f4, f5, f6, f7⟩ := w3 _ g1
    obtain ⟨A, ha1, ha2⟩ := hI l hl
    rw [el] at ha1 ha2
    have x14 := ph_nd14 hn hx
    have p14 := ph_in14 hn g1
    have kx := k1 _ hx hxt
    obtain ⟨kf1, kf2⟩ := kF _ g1
    have icx := pk_cl (x := nI (o i)) (o i)
    have icp := pk_cl (x := nI (P (o i))) (P (o i))
    have npx : P (o i) ≠ o i := fun e => by
      have := o5 l i (by omega) hi (el.trans e)
      omega
    have fin : ∀ (c : Nat), ph_nd n c → (∀ u, u < 4 → ph_B ow C F S site (P (o i)) u = ph_lst C (ph_B ow C F S site (o i)) u + ph_lst C (ph_B ow C F S site c) u) →
        ∃ fu, wX_workDown_81 post (wX_workDown_29 post (nI n) (nI (n - 1)) (nI t) (nI m) q) (nI i) (nI (o i)) (nI (P (o i))) (nI c) (nI n) (nI (n - 1)) (nI t) (nI m) fu 0 a1 a2 a3 a4 a5 a6 a7 a8 a9 a10 c11 a12 a13 := by
      intro c hc hsum
      refine ph_wd81 (A := A) (bo := ph_B ow C F S site c) x14 p14 (ph_nd14 hn hc) npx kC (fun j hj => ⟨ha2 j hj, (ha1.1 j hj).1⟩) (hB' c hc) (fun d11 d1 d2 => hw d11 ⟨by omega, fun l' hl' => ?_⟩)
      by_cases e : l' = i
      · rw [e]
        exact ⟨_, ph_ap_step bl ha1 hsum (fun s _ => rfl), d2⟩
      · obtain ⟨A', e1, e2⟩ := hI l' (by omega)
        have ne : o l' ≠ o i := fun h => e (o5 l' i (by omega) hi h)
        exact ⟨A', e1, fun s hs => (d1 (4 * o l' + s) (by omega)).trans (e2 s hs)⟩
    refine pk_le m i (fun z => absurd z (by omega)) (fun _ => ⟨pk_in i 14 (by omega), nm_r (e' := nI (o i)) (by rw [pk_cl i]; exact h7 i hi) ⟨pk_in (o i) 14 x14, nm_r (e' := nI (P (o i))) (by rw [icx]; exact kx) ⟨pk_in (P (o i)) 14 p14, ?_⟩⟩⟩)
    refine pk_eq (F (P (o i))) (o i) (fun z => ⟨pk_in (P (o i)) 14 p14, nm_r (e' := nI (S (P (o i)))) (by rw [icp]; exact kf2) (fin _ f2 (fun u _ => ?_))⟩) (fun z => ⟨pk_in (P (o i)) 14 p14, nm_r (e' := nI (F (P (o i)))) (by rw [icp]; exact kf1) (fin _ f1 (fun u _ => ?_))⟩) (hx := by rw [icp]; exact kf1) (ha := by have := ph_nd14 hn f1; omega)
    · rw [ph_B_in w g1, z]
    · rw [ph_B_in w g1, g2.resolve_left z, Nat.add_comm]
theorem ph_workDown {post : St2 → Prop} {site m : Nat} {o : Nat → Nat} (w : ph_wf n t P F S r K) (k : ph_ok n t P F S ow C a1 a2 a3 a4 a5) (ho : ph_ord n t F S o m) (h7 : ∀ j, j < m → a7 j = nI (o j))
    (hB : ∀ x, ph_nd n x → ∀ s, s < 4 → a9 (4 * x + s) = nI (ph_B ow C F S site x s))
    (h : ∀ c11, (∀ x, ph_nd n x → ∃ A, ph_ap (ph_best ow C F S t site) (ph_B ow C F S site x) A ∧ ∀ s, s < 4 → c11 (4 * x + s) = nI (A s)) → post (nI n, nI (n - 1), nI t, nI m, a1, a2, a3, a4, a5, a6, a7, a8, a9, a10, c11, a12, a13)) :
    wpX_workDown post (nI n, nI (n - 1), nI t, nI m, a1, a2, a3, a4, a5, a6, a7, a8, a9, a10, a11, a12, a13) := by
  have t14 := ph_nd14 w.1.2.1 w.1.2.2
  refine pk_loop (σ := Nat → Int32) (fun q i c11 => wX_workDown_2 post (nI n) (nI (n - 1)) (nI t) (nI m) q (nI i) a1 a2 a3 a4 a5 a6 a7 a8 a9 a10 c11 a12 a13)
    (fun i c11 => ∀ s, s < i → c11 (4 * t + s) = nI 0) 4 0 a11 (by omega) (fun s hs => absurd hs (by omega)) ?_ ?_
  · intro q c11 hI
    exact pk_le 4 4 (fun _ => ph_wd29 w k ho h7 hB hI h) (fun z => absurd z (by omega))
  · intro q i c11 hi hI hw
    refine pk_le 4 i (fun z => absurd z (by omega)) (fun _ => ⟨pk_in (4 * t + i) 56 (by omega) (ph_ix t i), nm_e (nm_r (nI_1 i) (hw _ (fun s hs => ?_)))⟩)
    rw [pk_cl (4 * t + i) (ph_ix t i)]
    by_cases e : s = i
    · rw [e, pk_us]; rfl
    · rw [pk_un (by omega)]; exact hI s (by omega)
end
def ph_bs (c : Nat → Bool) : Nat → Int32
  | 0 => 0
  | k + 1 => cond (c k) (ph_bs c k ||| ((1 : Int32) <<< (nI k &&& 31))) (ph_bs c k)
theorem ph_bs_rng {c : Nat → Bool} (h : ∃ s, s < 4 ∧ c s = true) : ¬ ph_bs c 4 < 1 ∧ ¬ 15 < ph_bs c 4 := by
  have key : ∀ c0 c1 c2 c3 : Bool, (c0 || c1 || c2 || c3) = true → ¬ ph_bs (fun k => if k = 0 then c0 else if k = 1 then c1 else if k = 2 then c2 else c3) 4 < 1 ∧ ¬ 15 < ph_bs (fun k => if k = 0 then c0 else if k = 1 then c1 else if k = 2 then c2 else c3) 4 := by decide
  refine key (c 0) (c 1) (c 2) (c 3) ?_
  obtain ⟨s, hs, e⟩ := h
  have hh : s = 0 ∨ s = 1 ∨ s = 2 ∨ s = 3 := by omega
  rcases hh with g | g | g | g <;> rw [g] at e <;> rw [e] <;> simp
theorem ph_bs_one {c : Nat → Bool} {v : Nat} (hv : v < 4) (h : ∀ s, s < 4 → (c s = true ↔ v = s)) : ph_bs c 4 = (1 : Int32) <<< (nI v &&& 31) := by
  have key : ∀ c0 c1 c2 c3 : Bool, ∀ v : Fin 4, c0 = decide (v.val = 0) → c1 = decide (v.val = 1) → c2 = decide (v.val = 2) → c3 = decide (v.val = 3) →
      ph_bs (fun k => if k = 0 then c0 else if k = 1 then c1 else if k = 2 then c2 else c3) 4 = (1 : Int32) <<< (nI v.val &&& 31) := by decide
  have e : ∀ s, s < 4 → c s = decide (v = s) := by
    intro s hs
    by_cases g : v = s
    · rw [(h s hs).mpr g, decide_eq_true g]
    · rw [decide_eq_false g]
      exact Bool.eq_false_iff.mpr (fun z => g ((h s hs).mp z))
  exact key (c 0) (c 1) (c 2) (c 3) ⟨v, hv⟩ (e 0 (by omega)) (e 1 (by omega)) (e 2 (by omega)) (e 3 (by omega))
theorem ph_one_pow : ∀ v : Fin 4, (((1 : Int32) <<< (nI v.val &&& 31)) &&& (((1 : Int32) <<< (nI v.val &&& 31)) - 1)) = 0 := by decide
section
variable {n t K : Nat} {P F S r ow C : Nat → Nat} {li : Int32} {a1 a2 a3 a4 a5 a6 a7 a8 a9 a10 a11 : Nat → Int32} {a12 : Nat → Int64} {a13 : Nat → Int32}
theorem ph_states {post : Int32 → St2 → Prop} {x site : Nat} (w : ph_wf n t P F S r K) (k : ph_ok n t P F S ow C a1 a2 a3 a4 a5) (hx : ph_nd n x) (hsi : site < 4)
    (h : ∀ (v : Int32) (l : Int32) (b7 b9 b10 b11 : Nat → Int32), ¬ v < 1 → ¬ 15 < v → (x < 8 → v = (1 : Int32) <<< (nI (ow x / 4 ^ (3 - site) % 4) &&& 31)) → post v (nI n, nI (n - 1), nI t, l, a1, a2, a3, a4, a5, a6, b7, a8, b9, b10, b11, a12, a13)) :
    wpX_states post (nI n, nI (n - 1), nI t, li, a1, a2, a3, a4, a5, a6, a7, a8, a9, a10, a11, a12, a13) (nI x) (nI site) := by
  have hn := w.1.2.1
  have hC9 : ∀ j, j < 16 → C j ≤ 9 := fun j hj => (k.2.2.2 j hj).2
  have bl := ph_best_lt w hC9 (ow := ow) (site := site)
  have x14 := ph_nd14 hn hx
  unfold wpX_states
  refine ph_isNode hn hx (br_f (by decide) ?_)
  refine ph_isState hsi (br_f (by decide) ?_)
  refine ph_leastFor w k hsi (fun o m b7 b9 b10 ho hb rows => ?_)
  refine ph_workDown (site := site) w k ho hb (fun y hy => (rows y hy).1) (fun c11 hc => ?_)
  obtain ⟨A, ha1, ha2⟩ := hc x hx
  have hr := (rows x hx).1
  refine pk_loop (fun q i x4 => wX_states_36 post (nI x) (nI (ph_best ow C F S t site)) (nI n) (nI (n - 1)) (nI t) (nI m) a1 a2 a3 a4 a5 a6 b7 a8 b9 b10 c11 a12 a13 q x4 (nI i)) (fun i x4 => x4 = ph_bs (fun s => decide (ph_B ow C F S site x s + A s = ph_best ow C F S t site)) i) 4 0 0 (by omega) rfl ?_ ?_
  · intro q x4 e
    refine pk_le 4 4 (fun _ => ?_) (fun z => absurd z (by omega))
    rw [e]
    obtain ⟨s, hs, es⟩ := ha1.2
    obtain ⟨g1, g2⟩ := ph_bs_rng (c := fun s => decide (ph_B ow C F S site x s + A s = ph_best ow C F S t site)) ⟨s, hs, decide_eq_true es⟩
    refine h _ _ b7 b9 b10 c11 g1 g2 (fun h8 => ?_)
    have one : ∀ s, s < 4 → ph_B ow C F S site x s + A s = ph_best ow C F S t site → ow x / 4 ^ (3 - site) % 4 = s := by
      intro s _ e'
      rw [ph_B_lf h8] at e'
      by_cases g : ow x / 4 ^ (3 - site) % 4 = s
      · exact g
      · rw [if_neg g] at e'
        omega
    refine ph_bs_one (by omega) (fun u hu => ⟨fun z => one u hu (of_decide_eq_true z), fun z => decide_eq_true ?_⟩)
    have e2 := one s hs es
    rw [← z, e2]; exact es
  · intro q i x4 hi e hw
    have ix := pk_cl (4 * x + i) (ph_ix x i)
    have iin : vp_in (4 * nI x + nI i) 56 := pk_in (4 * x + i) 56 (by omega) (ph_ix x i)
    have cap := ph_B_cap w hC9 (ow := ow) (site := site) hx hi
    have capA := (ha1.1 i hi).1
    refine pk_le 4 i (fun z => absurd z (by omega)) (fun _ => ⟨iin, iin, ?_⟩)
    refine pk_eq (ph_B ow C F S site x i + A i) (ph_best ow C F S t site) (fun z => nm_e (nm_r (nI_1 i) (hw _ ?_))) (fun z => nm_r (nI_1 i) (hw _ ?_)) (hx := by rw [ix, hr i hi, ha2 i hi, nI_add])
    · show x4 ||| ((1 : Int32) <<< (nI i &&& 31)) = cond (decide (ph_B ow C F S site x i + A i = ph_best ow C F S t site)) _ _
      rw [decide_eq_true z, e]; rfl
    · show x4 = cond (decide (ph_B ow C F S site x i + A i = ph_best ow C F S t site)) _ _
      rw [decide_eq_false z, e]; rfl
end
end
section
section
variable {n t K : Nat} {P F S r ow C : Nat → Nat} {li : Int32} {a1 a2 a3 a4 a5 a6 a7 a8 a9 a10 a11 : Nat → Int32} {a12 : Nat → Int64} {a13 : Nat → Int32}
theorem ph_neg1 {p : Nat} (h : p < 14) : ¬ nI p = (-1) := by
  intro e
  have h2 : nI p < 0 := by rw [e]; decide
  exact nI_pos (by omega) h2
theorem ph_isUnder {post : Int32 → Prop} {x y : Nat} (w : ph_wf n t P F S r K) (k : ph_ok n t P F S ow C a1 a2 a3 a4 a5) (hx : ph_nd n x) (hy : ph_nd n y)
    (h1 : ph_un P t x y → post 1) (h0 : ¬ ph_un P t x y → post 0) : wpX_isUnder post (nI n, nI (n - 1), nI t, li, a1, a2, a3, a4, a5, a6, a7, a8, a9, a10, a11, a12, a13) (nI x) (nI y) := by
  have hn := w.1.2.1
  have w' := w
  obtain ⟨_, w2, _, w4, w5⟩ := w'
  obtain ⟨⟨k0, k1⟩, _⟩ := k
  have y14 := ph_nd14 hn hy
  refine loop_m (σ := Nat) (fun q s => wX_isUnder_2 post (nI y) (nI n) (nI (n - 1)) (nI t) li a1 a2 a3 a4 a5 a6 a7 a8 a9 a10 a11 a12 a13 q (nI s)) (fun s => ph_nd n s ∧ (ph_un P t x y ↔ ph_un P t s y)) (fun s => K - r s) ?_ x ⟨hx, Iff.rfl⟩
  rintro q s ⟨hs, hu⟩ hw
  have s14 := ph_nd14 hn hs
  have ics := pk_cl (x := nI s) s
  refine pk_eq s y (fun e => br_t (by rw [e]) (h1 (hu.mpr (by rw [e]; exact ph_un0 _ _ _)))) (fun e => ⟨pk_in s 14 s14, ?_⟩)
  by_cases st : s = t
  · refine br_t (by rw [ics, st]; exact k0) (br_f (fun z => e ((nI_eq (by omega) (by omega)).mp z)) (h0 (fun z => e ?_)))
    have z2 := hu.mp z
    rw [st] at z2
    rw [ph_untop z2, st]
  · have ks := k1 s hs st
    obtain ⟨g1, _⟩ := w2 s hs st
    have g4 := w4 s hs st
    have g5 := w5 s hs
    refine br_f (by rw [ics, ks]; exact ph_neg1 (ph_in14 hn g1)) ⟨pk_in s 14 s14, nm_r (e' := nI (P s)) (by rw [ics, ks]) (hw (P s) ⟨ph_in_nd g1, hu.trans ⟨fun z => ?_, fun z => ph_unS st z⟩⟩ (by omega))⟩
    rcases ph_unC z with z1 | ⟨_, z1⟩
    · exact absurd z1 e
    · exact z1
theorem ph_meet {post : Int32 → Prop} {x y : Nat} (w : ph_wf n t P F S r K) (k : ph_ok n t P F S ow C a1 a2 a3 a4 a5) (hx : ph_nd n x) (hy : ph_nd n y)
    (h : ∀ m, ph_nd n m → ph_un P t x m → ph_un P t y m → post (nI m)) : wpX_meet post (nI n, nI (n - 1), nI t, li, a1, a2, a3, a4, a5, a6, a7, a8, a9, a10, a11, a12, a13) (nI x) (nI y) := by
  have hn := w.1.2.1
  have w' := w
  obtain ⟨_, w2, _, w4, w5⟩ := w'
  have k' := k
  obtain ⟨⟨k0, k1⟩, _⟩ := k'
  unfold wpX_meet
  refine ph_isNode hn hx (br_f (by decide) ?_)
  refine ph_isNode hn hy (br_f (by decide) ?_)
  refine loop_m (σ := Nat) (fun q s => wX_meet_20 post (nI y) (nI n) (nI (n - 1)) (nI t) li a1 a2 a3 a4 a5 a6 a7 a8 a9 a10 a11 a12 a13 q (nI s)) (fun s => ph_nd n s ∧ ph_un P t x s) (fun s => K - r s) ?_ x ⟨hx, ph_un0 _ _ _⟩
  rintro q s ⟨hs, hu⟩ hw
  have s14 := ph_nd14 hn hs
  have ics := pk_cl (x := nI s) s
  refine ph_isUnder w k hy hs (fun z => br_f (by decide) (h s hs hu z)) (fun z => br_t rfl ⟨pk_in s 14 s14, ?_⟩)
  by_cases st : s = t
  · refine br_t (by rw [ics, st]; exact k0) (h s hs hu (by rw [st]; exact ph_unT w y hy))
  · have ks := k1 s hs st
    obtain ⟨g1, _⟩ := w2 s hs st
    have g4 := w4 s hs st
    have g5 := w5 s hs
    exact br_f (by rw [ics, ks]; exact ph_neg1 (ph_in14 hn g1)) ⟨pk_in s 14 s14, nm_r (e' := nI (P s)) (by rw [ics, ks]) (hw (P s) ⟨ph_in_nd g1, ph_un_tr hu (ph_unS st (ph_un0 _ _ _))⟩ (by omega))⟩
theorem ph_findSets {post : St2 → Prop} (w : ph_wf n t P F S r K) (hF : ∀ k, ph_in n k → a2 k = nI (F k) ∧ a3 k = nI (S k))
    (h : ∀ (l : Int32) (b7 b8 : Nat → Int32), (∀ x, ph_nd n x → b8 x = ph_Z F S x) → post (nI n, nI (n - 1), nI t, l, a1, a2, a3, a4, a5, a6, b7, b8, a9, a10, a11, a12, a13)) : wpX_findSets post (nI n, nI (n - 1), nI t, li, a1, a2, a3, a4, a5, a6, a7, a8, a9, a10, a11, a12, a13) := by
  have hn := w.1.2.1
  have w' := w
  obtain ⟨_, w2, w3, _, _⟩ := w'
  unfold wpX_findSets
  refine ph_listNodes w hF (fun o m b7 ho hb => ?_)
  obtain ⟨⟨o1, o2⟩, o3, o4, o5, o6, o7⟩ := ho
  refine nm_r (e' := nI m + (-1)) ?_ ⟨m + 1, pk_loopD (σ := Nat → Int32) (fun q j c8 => wX_findSets_11 post (nI n) (nI (n - 1)) (nI t) (nI m) q (nI j + (-1)) a1 a2 a3 a4 a5 a6 b7 c8 a9 a10 a11 a12 a13)
    (fun j c8 => j ≤ m ∧ ∀ l, j ≤ l → l < m → c8 (o l) = ph_Z F S (o l)) ?_ ?_ m a8 ⟨Nat.le_refl _, fun l h1 h2 => absurd h1 (by omega)⟩⟩
  · obtain ⟨m', rfl⟩ : ∃ m', m = m' + 1 := ⟨m - 1, by omega⟩
    rw [nI_pred, pk_m1]
  · rintro q c8 ⟨_, hr⟩
    refine br_t (by decide) (h _ b7 c8 (fun x hx => ?_))
    obtain ⟨j, hj, e⟩ := o6 x hx
    rw [← e]; exact hr j (by omega) hj
  · rintro q j c8 ⟨hjm, hr⟩ hw
    have hj : j < m := by omega
    have e1 := pk_m1 j
    have hx := o3 j hj
    have x14 := ph_nd14 hn hx
    have hneg : ¬ nI (j + 1) + (-1) < 0 := by rw [e1]; exact nI_pos (by omega)
    have icx := pk_cl (x := nI (o j)) (o j)
    have fin : ∀ v, v = ph_Z F S (o j) → wX_findSets_11 post (nI n) (nI (n - 1)) (nI t) (nI m) q (nI j + (-1)) a1 a2 a3 a4 a5 a6 b7 (upd c8 (o j) v) a9 a10 a11 a12 a13 := by
      intro v hv
      refine hw _ ⟨by omega, fun l hl hlm => ?_⟩
      by_cases e : l = j
      · rw [e, pk_us, hv]
      · rw [pk_un (fun z => e (o5 l j hlm hj z))]
        exact hr l (by omega) hlm
    refine br_f hneg ⟨pk_in j 14 (by omega) e1, nm_r (e' := nI (o j)) (by rw [pk_cl j e1]; exact hb j hj) ?_⟩
    refine pk_le 8 (o j) (fun z => ?_) (fun z => ⟨pk_in (o j) 14 x14, ?_⟩)
    · have hin := ph_nd_in hn hx (by omega)
      obtain ⟨f1, f2, _⟩ := w3 _ hin
      obtain ⟨kf1, kf2⟩ := hF _ hin
      obtain ⟨⟨lf, u1, u2, u3⟩, ⟨lg, v1, v2, v3⟩⟩ := o7 j hj hin
      have rf := hr lf (by omega) u2
      have rg := hr lg (by omega) v2
      rw [u3] at rf
      rw [v3] at rg
      have f14 := ph_nd14 hn f1
      have g14 := ph_nd14 hn f2
      refine ⟨pk_in (o j) 14 x14, pk_in (F (o j)) 14 f14 (by rw [icx]; exact kf1), pk_in (o j) 14 x14, pk_in (S (o j)) 14 g14 (by rw [icx]; exact kf2), pk_in (o j) 14 x14, ?_⟩
      refine nm_e (nm_r (e' := nI j + (-1)) (by rw [e1]) ?_)
      rw [icx, kf1, kf2, pk_cl (x := nI (F (o j))) (F (o j)), pk_cl (x := nI (S (o j))) (S (o j)), rf, rg]
      exact fin _ (ph_Z_in w hin).symm
    · refine nm_e (nm_r (e' := nI j + (-1)) (by rw [e1]) ?_)
      rw [icx]
      exact fin _ (ph_Z_lf z).symm
theorem ph_leavesBelow {post : Int32 → St2 → Prop} {x : Nat} (w : ph_wf n t P F S r K) (k : ph_ok n t P F S ow C a1 a2 a3 a4 a5) (hx : ph_nd n x)
    (h : ∀ (l : Int32) (b7 b8 : Nat → Int32), post (ph_Z F S x) (nI n, nI (n - 1), nI t, l, a1, a2, a3, a4, a5, a6, b7, b8, a9, a10, a11, a12, a13)) : wpX_leavesBelow post (nI n, nI (n - 1), nI t, li, a1, a2, a3, a4, a5, a6, a7, a8, a9, a10, a11, a12, a13) (nI x) := by
  have hn := w.1.2.1
  have x14 := ph_nd14 hn hx
  unfold wpX_leavesBelow
  refine ph_isNode hn hx (br_f (by decide) ?_)
  refine ph_findSets w k.2.1 (fun l b7 b8 hz => ⟨pk_in x 14 x14, ?_⟩)
  rw [pk_cl (x := nI x) x, hz x hx]
  exact h l b7 b8
theorem ph_parent {post : Int32 → Prop} {x : Nat} (w : ph_wf n t P F S r K) (k : ph_ok n t P F S ow C a1 a2 a3 a4 a5) (hx : ph_nd n x)
    (h1 : x = t → post (-2)) (h0 : x ≠ t → post (nI (P x))) : wpX_parent post (nI n, nI (n - 1), nI t, li, a1, a2, a3, a4, a5, a6, a7, a8, a9, a10, a11, a12, a13) (nI x) := by
  have hn := w.1.2.1
  have x14 := ph_nd14 hn hx
  have t14 := ph_nd14 hn w.1.2.2
  unfold wpX_parent
  refine ph_isNode hn hx (br_f (by decide) ?_)
  refine pk_eq x t h1 (fun z => ⟨pk_in x 14 x14, ?_⟩)
  rw [pk_cl (x := nI x) x, k.1.2 x hx z]
  exact h0 z
theorem ph_swapRefusal {post : Int32 → Prop} {x y : Nat} (w : ph_wf n t P F S r K) (k : ph_ok n t P F S ow C a1 a2 a3 a4 a5) (hx : ph_nd n x) (hy : ph_nd n y)
    (h1 : ph_un P t x y ∨ ph_un P t y x → post (-2)) (h0 : ¬ ph_un P t x y → ¬ ph_un P t y x → post 0) : wpX_swapRefusal post (nI n, nI (n - 1), nI t, li, a1, a2, a3, a4, a5, a6, a7, a8, a9, a10, a11, a12, a13) (nI x) (nI y) := by
  have hn := w.1.2.1
  unfold wpX_swapRefusal
  refine ph_isNode hn hx (br_f (by decide) ?_)
  refine ph_isNode hn hy (br_f (by decide) ?_)
  refine ph_isUnder w k hx hy (fun z => br_f (by decide) (h1 (Or.inl z))) (fun z => br_t rfl ?_)
  exact ph_isUnder w k hy hx (fun z' => br_f (by decide) (h1 (Or.inr z'))) (fun z' => br_t rfl (h0 z z'))
end
end
section
section
variable {x y p q : Nat} {a : Nat → Int32} {G : Nat → Nat} {D : Nat → Prop}
theorem ph_us1 (hG : ∀ k, D k → a k = nI (G k)) (ux : ∀ k, D k → G k = x → k = p) (uy : ∀ k, D k → G k = y → k = q) (hp : G p = x) (hq : G q = y) (hxy : x ≠ y) : ∀ k, D k → upd (upd a p (nI y)) q (nI x) k = nI (ph_sw x y (G k)) := by
  intro k hk
  by_cases e : k = q
  · rw [e, pk_us, hq, ph_sw_r]
  · rw [pk_un e]
    by_cases e2 : k = p
    · rw [e2, pk_us, hp, ph_sw_l]
    · rw [pk_un e2, hG k hk, ph_sw_n (fun z => e2 (ux k hk z)) (fun z => e (uy k hk z))]
theorem ph_us2 (hG : ∀ k, D k → a k = nI (G k)) (ux : ∀ k, D k → G k = x → k = p) (uy : ∀ k, D k → G k ≠ y) (hp : G p = x) : ∀ k, D k → upd a p (nI y) k = nI (ph_sw x y (G k)) := by
  intro k hk
  by_cases e2 : k = p
  · rw [e2, pk_us, hp, ph_sw_l]
  · rw [pk_un e2, hG k hk, ph_sw_n (fun z => e2 (ux k hk z)) (uy k hk)]
theorem ph_us3 (hG : ∀ k, D k → a k = nI (G k)) (ux : ∀ k, D k → G k ≠ x) (uy : ∀ k, D k → G k = y → k = q) (hq : G q = y) : ∀ k, D k → upd a q (nI x) k = nI (ph_sw x y (G k)) := by
  intro k hk
  by_cases e2 : k = q
  · rw [e2, pk_us, hq, ph_sw_r]
  · rw [pk_un e2, hG k hk, ph_sw_n (ux k hk) (fun z => e2 (uy k hk z))]
theorem ph_us4 (hG : ∀ k, D k → a k = nI (G k)) (ux : ∀ k, D k → G k ≠ x) (uy : ∀ k, D k → G k ≠ y) : ∀ k, D k → a k = nI (ph_sw x y (G k)) := by
  intro k hk
  rw [hG k hk, ph_sw_n (ux k hk) (uy k hk)]
end
section
variable {n t K : Nat} {P F S r ow C : Nat → Nat} {li : Int32} {a1 a2 a3 a4 a5 a6 a7 a8 a9 a10 a11 : Nat → Int32} {a12 : Nat → Int64} {a13 : Nat → Int32}
theorem ph_exchange {post : St2 → Prop} {x y : Nat} (w : ph_wf n t P F S r K) (k : ph_ok n t P F S ow C a1 a2 a3 a4 a5) (hx : ph_nd n x) (hy : ph_nd n y) (h1 : ¬ ph_un P t x y) (h2 : ¬ ph_un P t y x)
    (h : ∀ b1 b2 b3, ph_ok n t (fun k => P (ph_sw x y k)) (fun k => ph_sw x y (F k)) (fun k => ph_sw x y (S k)) ow C b1 b2 b3 a4 a5 → post (nI n, nI (n - 1), nI t, li, b1, b2, b3, a4, a5, a6, a7, a8, a9, a10, a11, a12, a13)) : wpX_exchange post (nI n, nI (n - 1), nI t, li, a1, a2, a3, a4, a5, a6, a7, a8, a9, a10, a11, a12, a13) (nI x) (nI y) := by
  have hn := w.1.2.1
  have w' := w
  obtain ⟨_, w2, w3, _, _⟩ := w'
  obtain ⟨⟨k0, k1⟩, kF, kO, kC⟩ := k
  have hxt : x ≠ t := fun e => h2 (by rw [e]; exact ph_unT w y hy)
  have hyt : y ≠ t := fun e => h1 (by rw [e]; exact ph_unT w x hx)
  have hxy : x ≠ y := fun e => h1 (by rw [e]; exact ph_un0 _ _ _)
  obtain ⟨ip, px⟩ := w2 x hx hxt
  obtain ⟨iq, qy⟩ := w2 y hy hyt
  have x14 := ph_nd14 hn hx
  have y14 := ph_nd14 hn hy
  have p14 := ph_in14 hn ip
  have q14 := ph_in14 hn iq
  have icx := pk_cl (x := nI x) x
  have icy := pk_cl (x := nI y) y
  have icp := pk_cl (x := nI (P x)) (P x)
  have icq := pk_cl (x := nI (P y)) (P y)
  have hF : ∀ j, ph_in n j → a2 j = nI (F j) := fun j hj => (kF j hj).1
  have hS : ∀ j, ph_in n j → a3 j = nI (S j) := fun j hj => (kF j hj).2
  have uF : ∀ v j, ph_in n j → F j = v → j = P v := fun v j hj e => by rw [← e]; exact (w3 j hj).2.2.2.2.2.1.symm
  have uS : ∀ v j, ph_in n j → S j = v → j = P v := fun v j hj e => by rw [← e]; exact (w3 j hj).2.2.2.2.2.2.symm
  have F1 : ∀ v, F (P v) = v → ∀ j, ph_in n j → S j ≠ v := fun v e j hj e2 => (w3 j hj).2.2.1 (by rw [e2, uS v j hj e2, e])
  have S1 : ∀ v, F (P v) ≠ v → ∀ j, ph_in n j → F j ≠ v := fun v e j hj e2 => e (by rw [← uF v j hj e2, e2])
  have fin : ∀ b2 b3, (∀ j, ph_in n j → b2 j = nI (ph_sw x y (F j))) → (∀ j, ph_in n j → b3 j = nI (ph_sw x y (S j))) → post (nI n, nI (n - 1), nI t, li, upd (upd a1 x (nI (P y))) y (nI (P x)), b2, b3, a4, a5, a6, a7, a8, a9, a10, a11, a12, a13) := by
    intro b2 b3 g2 g3
    refine h _ b2 b3 ⟨⟨?_, fun z hz hzt => ?_⟩, fun j hj => ⟨g2 j hj, g3 j hj⟩, kO, kC⟩
    · rw [pk_un (fun e => hyt e.symm), pk_un (fun e => hxt e.symm)]; exact k0
    · show upd (upd a1 x (nI (P y))) y (nI (P x)) z = nI (P (ph_sw x y z))
      by_cases e : z = y
      · rw [e, pk_us, ph_sw_r]
      · rw [pk_un e]
        by_cases e2 : z = x
        · rw [e2, pk_us, ph_sw_l]
        · rw [pk_un e2, ph_sw_n e2 e]; exact k1 z hz hzt
  have tail : ∀ b2 b3, (∀ j, ph_in n j → b2 j = nI (ph_sw x y (F j))) → (∀ j, ph_in n j → b3 j = nI (ph_sw x y (S j))) →
      (vp_in (nI x) 14 ∧ (∀ c1, c1 = upd a1 (nI x).toNatClampNeg (nI (P y)) → (vp_in (nI y) 14 ∧ (∀ d1, d1 = upd c1 (nI y).toNatClampNeg (nI (P x)) → post (nI n, nI (n - 1), nI t, li, d1, b2, b3, a4, a5, a6, a7, a8, a9, a10, a11, a12, a13))))) := by
    intro b2 b3 g2 g3
    refine ⟨pk_in x 14 x14, nm_e ⟨pk_in y 14 y14, nm_e ?_⟩⟩
    rw [icx, icy]
    exact fin b2 b3 g2 g3
  refine ⟨pk_in x 14 x14, nm_r (e' := nI (P x)) (by rw [icx]; exact k1 x hx hxt) ⟨pk_in y 14 y14, nm_r (e' := nI (P y)) (by rw [icy]; exact k1 y hy hyt) ⟨pk_in (P x) 14 p14, ?_⟩⟩⟩
  refine pk_eq (F (P x)) x (fun zx => ⟨pk_in (P y) 14 q14, pk_eq (F (P y)) y (fun zy => ?_) (fun zy => ?_) (hx := by rw [icq]; exact hF _ iq) (ha := ?_)⟩) (fun zx => ⟨pk_in (P y) 14 q14, pk_eq (F (P y)) y (fun zy => ?_) (fun zy => ?_) (hx := by rw [icq]; exact hF _ iq) (ha := ?_)⟩) (hx := by rw [icp]; exact hF _ ip) (ha := ?_)
  · refine br_f (by decide) ⟨pk_in (P x) 14 p14, nm_e (br_f (by decide) ⟨pk_in (P y) 14 q14, nm_e (tail _ _ ?_ ?_)⟩)⟩
    · rw [icp, icq]; exact ph_us1 hF (uF x) (uF y) zx zy hxy
    · exact ph_us4 hS (F1 x zx) (F1 y zy)
  · refine br_f (by decide) ⟨pk_in (P x) 14 p14, nm_e (br_t rfl ⟨pk_in (P y) 14 q14, nm_e (tail _ _ ?_ ?_)⟩)⟩
    · rw [icp]; exact ph_us2 hF (uF x) (S1 y zy) zx
    · rw [icq]; exact ph_us3 hS (F1 x zx) (uS y) (qy.resolve_left zy)
  · have := ph_nd14 hn (w3 _ iq).1
    omega
  · refine br_t rfl ⟨pk_in (P x) 14 p14, nm_e (br_f (by decide) ⟨pk_in (P y) 14 q14, nm_e (tail _ _ ?_ ?_)⟩)⟩
    · rw [icq]; exact ph_us3 hF (S1 x zx) (uF y) zy
    · rw [icp]; exact ph_us2 hS (uS x) (F1 y zy) (px.resolve_left zx)
  · refine br_t rfl ⟨pk_in (P x) 14 p14, nm_e (br_t rfl ⟨pk_in (P y) 14 q14, nm_e (tail _ _ ?_ ?_)⟩)⟩
    · exact ph_us4 hF (S1 x zx) (S1 y zy)
    · rw [icp, icq]; exact ph_us1 hS (uS x) (uS y) (px.resolve_left zx) (qy.resolve_left zy) hxy
  · have := ph_nd14 hn (w3 _ iq).1
    omega
  · have := ph_nd14 hn (w3 _ ip).1
    omega
theorem ph_swap {post : Int32 → St2 → Prop} {x y : Nat} (w : ph_wf n t P F S r K) (k : ph_ok n t P F S ow C a1 a2 a3 a4 a5) (hx : ph_nd n x) (hy : ph_nd n y)
    (h1 : ph_un P t x y ∨ ph_un P t y x → post (-2) (nI n, nI (n - 1), nI t, li, a1, a2, a3, a4, a5, a6, a7, a8, a9, a10, a11, a12, a13))
    (h0 : ¬ ph_un P t x y → ¬ ph_un P t y x → ∀ b1 b2 b3, ph_ok n t (fun k => P (ph_sw x y k)) (fun k => ph_sw x y (F k)) (fun k => ph_sw x y (S k)) ow C b1 b2 b3 a4 a5 → post 0 (nI n, nI (n - 1), nI t, li, b1, b2, b3, a4, a5, a6, a7, a8, a9, a10, a11, a12, a13)) :
    wpX_swap post (nI n, nI (n - 1), nI t, li, a1, a2, a3, a4, a5, a6, a7, a8, a9, a10, a11, a12, a13) (nI x) (nI y) := by
  unfold wpX_swap
  refine ph_swapRefusal w k hx hy (fun z => br_f (by decide) (h1 z)) (fun z1 z2 => br_t (by decide) ?_)
  exact ph_exchange w k hx hy z1 z2 (fun b1 b2 b3 hk => h0 z1 z2 b1 b2 b3 hk)
end
end
section
section
variable {n t K : Nat} {P F S r ow C : Nat → Nat} {li : Int32} {a1 a2 a3 a4 a5 a6 a7 a8 a9 a10 a11 : Nat → Int32} {a12 : Nat → Int64} {a13 : Nat → Int32}
theorem ph_replace {post : St2 → Prop} {lc ic : Int32} {o f : Nat} {D : Nat → Prop} (ho : o < 14) (hf : f < 14)
    (hD : ∀ k, D k → k < 14 ∧ a2 k = nI (F k) ∧ a3 k = nI (S k) ∧ F k < 14)
    (hr : (o = t ∧ a1 o = -1 ∧ ∀ k, D k → F k ≠ o ∧ S k ≠ o) ∨ (o ≠ t ∧ ∃ h, D h ∧ a1 o = nI h ∧ (F h = o ∨ S h = o) ∧ F h ≠ S h ∧ ∀ k, D k → (F k = o ∨ S k = o) → k = h))
    (H : ∀ b2 b3, (∀ k, D k → b2 k = nI (ph_sb o f (F k)) ∧ b3 k = nI (ph_sb o f (S k))) → post (lc, ic, nI (ph_sb o f t), li, upd a1 f (a1 o), b2, b3, a4, a5, a6, a7, a8, a9, a10, a11, a12, a13)) :
    wpX_replace post (lc, ic, nI t, li, a1, a2, a3, a4, a5, a6, a7, a8, a9, a10, a11, a12, a13) (nI o) (nI f) := by
  have ico := pk_cl (x := nI o) o
  have icf := pk_cl (x := nI f) f
  rcases hr with ⟨e1, e2, e3⟩ | ⟨e1, h, d1, d2, d3, d4, d5⟩
  · refine ⟨pk_in o 14 ho, nm_r (e' := (-1 : Int32)) (by rw [ico]; exact e2) ⟨pk_in f 14 hf, nm_r (e' := upd a1 f (a1 o)) (by rw [icf, e2]) (br_t rfl ?_)⟩⟩
    have g := H a2 a3 (fun k hk => ⟨by rw [ph_sb_n (e3 k hk).1]; exact (hD k hk).2.1, by rw [ph_sb_n (e3 k hk).2]; exact (hD k hk).2.2.1⟩)
    have et : ph_sb o f t = f := by rw [e1]; exact ph_sb_e _ _
    rw [et] at g
    exact g
  · obtain ⟨h14, g2, g3, f14⟩ := hD h d1
    have ich := pk_cl (x := nI h) h
    have et : ph_sb o f t = t := ph_sb_n (fun e => e1 e.symm)
    rw [et] at H
    refine ⟨pk_in o 14 ho, nm_r (e' := nI h) (by rw [ico]; exact d2) ⟨pk_in f 14 hf, nm_r (e' := upd a1 f (a1 o)) (by rw [icf, d2]) (br_f (ph_neg1 h14) ⟨pk_in h 14 h14, ?_⟩)⟩⟩
    refine pk_eq (F h) o (fun z => ⟨pk_in h 14 h14, nm_e ?_⟩) (fun z => ⟨pk_in h 14 h14, nm_e ?_⟩) (hx := by rw [ich]; exact g2)
    · rw [ich]
      refine H _ a3 (fun k hk => ⟨?_, ?_⟩)
      · by_cases e : k = h
        · rw [e, pk_us, z, ph_sb_e]
        · rw [pk_un e, ph_sb_n (fun z' => e (d5 k hk (Or.inl z')))]; exact (hD k hk).2.1
      · rw [ph_sb_n (fun z' => ?_)]
        · exact (hD k hk).2.2.1
        · have e := d5 k hk (Or.inr z')
          rw [e] at z'
          exact d4 (z.trans z'.symm)
    · rw [ich]
      have sh := d3.resolve_left z
      refine H a2 _ (fun k hk => ⟨?_, ?_⟩)
      · rw [ph_sb_n (fun z' => ?_)]
        · exact (hD k hk).2.1
        · have e := d5 k hk (Or.inl z')
          rw [e] at z'
          exact z z'
      · by_cases e : k = h
        · rw [e, pk_us, sh, ph_sb_e]
        · rw [pk_un e, ph_sb_n (fun z' => e (d5 k hk (Or.inr z')))]; exact (hD k hk).2.2.1
theorem ph_rep_wf {o : Nat} (w : ph_wf n t P F S r K) (k : ph_ok n t P F S ow C a1 a2 a3 a4 a5) (ho : ph_nd n o) :
    (o = t ∧ a1 o = -1 ∧ ∀ k, ph_in n k → F k ≠ o ∧ S k ≠ o) ∨ (o ≠ t ∧ ∃ h, ph_in n h ∧ a1 o = nI h ∧ (F h = o ∨ S h = o) ∧ F h ≠ S h ∧ ∀ k, ph_in n k → (F k = o ∨ S k = o) → k = h) := by
  obtain ⟨_, w2, w3, _, _⟩ := w
  obtain ⟨⟨k0, k1⟩, _⟩ := k
  by_cases e : o = t
  · refine Or.inl ⟨e, by rw [e]; exact k0, fun j hj => ?_⟩
    rw [e]
    exact ⟨(w3 j hj).2.2.2.1, (w3 j hj).2.2.2.2.1⟩
  · obtain ⟨g1, g2⟩ := w2 o ho e
    refine Or.inr ⟨e, P o, g1, k1 o ho e, g2, (w3 _ g1).2.2.1, fun j hj hh => ?_⟩
    rcases hh with z | z
    · rw [← z]; exact (w3 j hj).2.2.2.2.2.1.symm
    · rw [← z]; exact (w3 j hj).2.2.2.2.2.2.symm
theorem ph_attach {post : Int32 → St2 → Prop} {x v : Nat} (w : ph_wf n t P F S r K) (k : ph_ok n t P F S ow C a1 a2 a3 a4 a5) (hx : ph_nd n x) (hv : v < 256)
    (h : ∀ (res : Int32) (n' t' : Nat) (P' F' S' r' ow' : Nat → Nat) (K' : Nat) (b1 b2 b3 b4 : Nat → Int32), n ≤ n' → ow' 0 = ow 0 → ph_wf n' t' P' F' S' r' K' → ph_ok n' t' P' F' S' ow' C b1 b2 b3 b4 a5 →
      post res (nI n', nI (n' - 1), nI t', li, b1, b2, b3, b4, a5, a6, a7, a8, a9, a10, a11, a12, a13)) : wpX_attach post (nI n, nI (n - 1), nI t, li, a1, a2, a3, a4, a5, a6, a7, a8, a9, a10, a11, a12, a13) (nI x) (nI v) := by
  have hn := w.1.2.1
  have w' := w
  obtain ⟨⟨n1, _, wt⟩, w2, w3, _, _⟩ := w'
  have k' := k
  obtain ⟨⟨k0, k1⟩, kF, kO, kC⟩ := k'
  unfold wpX_attach
  refine ph_isNode hn hx (br_f (by decide) ?_)
  refine ph_isStates hv (br_f (by decide) ?_)
  refine pk_eq n 7 (fun _ => h _ n t P F S r ow K a1 a2 a3 a4 (Nat.le_refl _) rfl w k) (fun z7 => ?_)
  have n7 : n < 7 := by omega
  have x14 := ph_nd14 hn hx
  have ei : (8 : Int32) + nI (n - 1) = nI (n + 7) := by
    have e : (8 : Int32) + nI (n - 1) = nI (8 + (n - 1)) := nI_add 8 (n - 1)
    rw [e, show 8 + (n - 1) = n + 7 by omega]
  have icx := pk_cl (x := nI x) x
  have icn := pk_cl (x := nI n) n
  have ici := pk_cl (x := nI (n + 7)) (n + 7)
  obtain ⟨r', K', hwf⟩ := ph_wf_at w n7 hx
  have ne : ∀ z, ph_nd n z → z ≠ n ∧ z ≠ n + 7 := by
    intro z hz
    unfold ph_nd at hz
    omega
  have hxn := ne x hx
  have htn := ne t wt
  refine nm_r ei (nm_r (nI_1 n) (nm_r (e' := nI n) (by rw [nI_1, show n - 1 + 1 = n by omega]) ⟨pk_in n 7 n7, nm_e ?_⟩))
  rw [icn]
  refine ph_replace (D := ph_in n) (F := F) (S := S) x14 (by omega) (fun j hj => ⟨ph_in14 hn hj, (kF j hj).1, (kF j hj).2, ph_nd14 hn (w3 j hj).1⟩) (ph_rep_wf w k hx) (fun b2 b3 hb => ?_)
  refine ⟨pk_in (n + 7) 14 (by omega), nm_e ⟨pk_in (n + 7) 14 (by omega), nm_e ⟨pk_in x 14 x14, nm_e ⟨pk_in n 14 (by omega), nm_e ?_⟩⟩⟩⟩
  rw [icx, ici]
  refine h _ (n + 1) _ _ _ _ r' (fun j => if j = n then v else ow j) K' _ _ _ _ (by omega) (if_neg (by omega)) hwf ⟨⟨?_, fun z hz hzt => ?_⟩, fun j hj => ?_, fun j hj => ?_, kC⟩
  · by_cases e : t = x
    · rw [e, ph_sb_e, pk_un (by omega), pk_un (fun z => hxn.2 z.symm), pk_us, ← e]; exact k0
    · rw [ph_sb_n e, pk_un htn.1, pk_un e, pk_un htn.2]; exact k0
  · by_cases e1 : z = n
    · rw [e1, pk_us]
      unfold ph_atP
      rw [if_neg (fun e => hxn.1 e.symm), if_pos rfl]
    · rw [pk_un e1]
      by_cases e2 : z = x
      · rw [e2, pk_us]
        unfold ph_atP
        rw [if_pos rfl]
      · rw [pk_un e2]
        unfold ph_atP
        rw [if_neg e2, if_neg e1]
        by_cases e3 : z = n + 7
        · have hxt : x ≠ t := fun e => hzt (by rw [← e, ph_sb_e, e3])
          rw [e3, pk_us, if_pos rfl]; exact k1 x hx hxt
        · rw [pk_un e3, if_neg e3]
          have hz' : ph_nd n z := by unfold ph_nd at hz ⊢; omega
          refine k1 z hz' (fun e => hzt ?_)
          rw [← e, ph_sb_n e2]
  · unfold ph_atC
    by_cases e : j = n + 7
    · rw [e, pk_us, pk_us, if_pos rfl, if_pos rfl]; exact ⟨rfl, rfl⟩
    · have hj' : ph_in n j := by unfold ph_in at hj ⊢; omega
      rw [pk_un e, pk_un e, if_neg e, if_neg e]; exact hb j hj'
  · show upd a4 n (nI v) j = nI (if j = n then v else ow j) ∧ (if j = n then v else ow j) < 256
    by_cases e : j = n
    · rw [e, pk_us, if_pos rfl]; exact ⟨rfl, hv⟩
    · rw [pk_un e, if_neg e]; exact kO j (by omega)
theorem ph_mutate {post : Int32 → St2 → Prop} {x v : Nat} (w : ph_wf n t P F S r K) (k : ph_ok n t P F S ow C a1 a2 a3 a4 a5) (hx : x < n) (hv : v < 256)
    (h : ∀ (res : Int32) (b4 : Nat → Int32), ph_ok n t P F S (fun j => if j = x then v else ow j) C a1 a2 a3 b4 a5 → post res (nI n, nI (n - 1), nI t, li, a1, a2, a3, b4, a5, a6, a7, a8, a9, a10, a11, a12, a13)) : wpX_mutate post (nI n, nI (n - 1), nI t, li, a1, a2, a3, a4, a5, a6, a7, a8, a9, a10, a11, a12, a13) (nI x) (nI v) := by
  have hn := w.1.2.1
  obtain ⟨k1, kF, kO, kC⟩ := k
  unfold wpX_mutate
  refine pk_lt x 0 (fun z => absurd z (by omega)) (fun _ => pk_lt x n (fun _ => ?_) (fun z => absurd z (by omega)))
  refine ph_isStates hv (br_f (by decide) ⟨pk_in x 7 (by omega), nm_e ⟨pk_in x 7 (by omega), nm_e (h _ _ ⟨k1, kF, fun j hj => ?_, kC⟩)⟩⟩)
  rw [pk_cl (x := nI x) x]
  show upd a4 x (nI v) j = nI (if j = x then v else ow j) ∧ (if j = x then v else ow j) < 256
  by_cases e : j = x
  · rw [e, pk_us, if_pos rfl]; exact ⟨rfl, hv⟩
  · rw [pk_un e, if_neg e]; exact kO j hj
theorem ph_cost {post : Int32 → St2 → Prop} {x y v : Nat} (k : ph_ok n t P F S ow C a1 a2 a3 a4 a5) (hx : x < 4) (hy : y < 4) (hv : v ≤ 9)
    (h : ∀ (res : Int32) (C' : Nat → Nat) (b5 : Nat → Int32), ph_ok n t P F S ow C' a1 a2 a3 a4 b5 → post res (nI n, nI (n - 1), nI t, li, a1, a2, a3, a4, b5, a6, a7, a8, a9, a10, a11, a12, a13)) : wpX_cost post (nI n, nI (n - 1), nI t, li, a1, a2, a3, a4, a5, a6, a7, a8, a9, a10, a11, a12, a13) (nI x) (nI y) (nI v) := by
  obtain ⟨k1, kF, kO, kC⟩ := k
  unfold wpX_cost
  refine ph_isState hx (br_f (by decide) ?_)
  refine ph_isState hy (br_f (by decide) ?_)
  refine pk_lt v 0 (fun z => absurd z (by omega)) (fun _ => pk_le v 9 (fun _ => ⟨pk_in (4 * x + y) 16 (by omega) (ph_ix x y), nm_e ⟨pk_in (4 * x + y) 16 (by omega) (ph_ix x y), nm_e (h _ (fun j => if j = 4 * x + y then v else C j) _ ⟨k1, kF, kO, fun j hj => ?_⟩)⟩⟩) (fun z => absurd z (by omega)))
  rw [pk_cl (4 * x + y) (ph_ix x y)]
  show upd a5 (4 * x + y) (nI v) j = nI (if j = 4 * x + y then v else C j) ∧ (if j = 4 * x + y then v else C j) ≤ 9
  by_cases e : j = 4 * x + y
  · rw [e, pk_us, if_pos rfl]; exact ⟨rfl, hv⟩
  · rw [pk_un e, if_neg e]; exact kC j hj
theorem ph_rate {post : Int32 → St2 → Prop} {x y v : Nat} (hx : x < 4) (hy : y < 4) (hv : v ≤ 9)
    (h : ∀ (res : Int32) (b6 : Nat → Int32), post res (nI n, nI (n - 1), nI t, li, a1, a2, a3, a4, a5, b6, a7, a8, a9, a10, a11, a12, a13)) : wpX_rate post (nI n, nI (n - 1), nI t, li, a1, a2, a3, a4, a5, a6, a7, a8, a9, a10, a11, a12, a13) (nI x) (nI y) (nI v) := by
  unfold wpX_rate
  refine ph_isState hx (br_f (by decide) ?_)
  refine ph_isState hy (br_f (by decide) ?_)
  exact pk_lt v 0 (fun z => absurd z (by omega)) (fun _ => pk_le v 9 (fun _ => ⟨pk_in (4 * x + y) 16 (by omega) (ph_ix x y), nm_e ⟨pk_in (4 * x + y) 16 (by omega) (ph_ix x y), nm_e (h _ _)⟩⟩) (fun z => absurd z (by omega)))
end
end
section
section
variable {n t K : Nat} {P F S r ow C : Nat → Nat} {li : Int32} {a1 a2 a3 a4 a5 a6 a7 a8 a9 a10 a11 : Nat → Int32} {a12 : Nat → Int64} {a13 : Nat → Int32}
theorem ph_mv78 {post : Int32 → St2 → Prop} {x y p o : Nat} (w : ph_wf n t P F S r K) (k : ph_ok n t P F S ow C a1 a2 a3 a4 a5) (hx : ph_nd n x) (hy : ph_nd n y) (hxt : x ≠ t) (hu : ¬ ph_un P t y x) (hp : P x = p) (hyp : y ≠ p)
    (ho : (F p = x ∧ S p = o) ∨ (F p = o ∧ S p = x))
    (h : ∀ b1 b2 b3, ph_ok n (ph_sb y p (ph_sb p o t)) (ph_mvP x y p o P) (ph_mvC y p o y F) (ph_mvC y p o x S) ow C b1 b2 b3 a4 a5 → post 0 (nI n, nI (n - 1), nI (ph_sb y p (ph_sb p o t)), li, b1, b2, b3, a4, a5, a6, a7, a8, a9, a10, a11, a12, a13)) :
    wX_move_78 post (nI x) (nI y) (nI p) (nI o) (nI n) (nI (n - 1)) (nI t) li a1 a2 a3 a4 a5 a6 a7 a8 a9 a10 a11 a12 a13 := by
  have w' := w
  obtain ⟨⟨w0, hn, wt⟩, w2, w3, w4, w5⟩ := w'
  have k' := k
  obtain ⟨⟨k0, k1⟩, kF, kO, kC⟩ := k'
  have ip : ph_in n p := by rw [← hp]; exact (w2 x hx hxt).1
  have hyx : y ≠ x := fun e => hu (by rw [e]; exact ph_un0 _ _ _)
  obtain ⟨f1, f2, f3, f4, f5, f6, f7⟩ := w3 p ip
  have no : ph_nd n o := by rcases ho with ⟨_, e⟩ | ⟨e, _⟩ <;> rw [← e] <;> assumption
  have oxe : o ≠ x := by rcases ho with ⟨e1, e2⟩ | ⟨e1, e2⟩ <;> rw [← e1, ← e2] <;> first | exact f3 | exact fun e => f3 e.symm
  have ot : o ≠ t := by rcases ho with ⟨_, e⟩ | ⟨e, _⟩ <;> rw [← e] <;> assumption
  have Po : P o = p := by rcases ho with ⟨_, e⟩ | ⟨e, _⟩ <;> rw [← e] <;> assumption
  have rx := w4 x hx hxt
  rw [hp] at rx
  have ro := w4 o no ot
  rw [Po] at ro
  have px : p ≠ x := fun e => by rw [e] at rx; omega
  have po : p ≠ o := fun e => by rw [e] at ro; omega
  have np := ph_in_nd ip
  have sib : ∀ z, ph_nd n z → z ≠ t → P z = p → z = x ∨ z = o := by
    intro z hz hzt e
    have h2 := (w2 z hz hzt).2
    rw [e] at h2
    rcases ho with ⟨e1, e2⟩ | ⟨e1, e2⟩
    · rw [e1, e2] at h2
      exact h2.imp (fun h => h.symm) (fun h => h.symm)
    · rw [e1, e2] at h2
      exact (h2.imp (fun h => h.symm) (fun h => h.symm)).symm
  have T1 : p = t → y = o → ph_sb y p (ph_sb p o t) = p := fun e e' => by rw [← e, ph_sb_e, e', ph_sb_e]
  have T2 : p = t → y ≠ o → ph_sb y p (ph_sb p o t) = o := fun e e' => by rw [← e, ph_sb_e, ph_sb_n (fun h => e' h.symm)]
  have T3 : p ≠ t → y = t → ph_sb y p (ph_sb p o t) = p := fun e e' => by rw [ph_sb_n (fun h => e h.symm), e', ph_sb_e]
  have T4 : p ≠ t → y ≠ t → ph_sb y p (ph_sb p o t) = t := fun e e' => by rw [ph_sb_n (fun h => e h.symm), ph_sb_n (fun h => e' h.symm)]
  have x14 := ph_nd14 hn hx
  have y14 := ph_nd14 hn hy
  have p14 := ph_in14 hn ip
  have o14 := ph_nd14 hn no
  have icx := pk_cl (x := nI x) x
  have icy := pk_cl (x := nI y) y
  have icp := pk_cl (x := nI p) p
  have nPp : p ≠ t → P p ≠ p := fun h e => by have := w4 p np h; rw [e] at this; omega
  have nPy : y ≠ t → y ≠ o → P y ≠ p := fun h h' e => (sib y hy h e).elim hyx h'
  have uP : ∀ v j, ph_in n j → (F j = v ∨ S j = v) → j = P v := by
    intro v j hj hh
    rcases hh with z | z
    · rw [← z]; exact (w3 j hj).2.2.2.2.2.1.symm
    · rw [← z]; exact (w3 j hj).2.2.2.2.2.2.symm
  have cno : ∀ j, ph_in n j → j ≠ p → F j ≠ o ∧ S j ≠ o := fun j hj hjp => ⟨fun e => hjp (by rw [uP o j hj (Or.inl e), Po]), fun e => hjp (by rw [uP o j hj (Or.inr e), Po])⟩
  have sbF : ∀ v, ph_sb p o v = o → v = p ∨ v = o := by
    intro v e
    by_cases g : v = p
    · exact Or.inl g
    · rw [ph_sb_n g] at e; exact Or.inr e
  have sbY : ∀ v, y ≠ o → ph_sb p o v = y → v = y := by
    intro v g e
    by_cases g2 : v = p
    · rw [g2, ph_sb_e] at e; exact absurd e.symm g
    · rw [ph_sb_n g2] at e; exact e
  have nsb : ∀ v v', v ≠ o → v' ≠ o → v ≠ v' → ph_sb p o v ≠ ph_sb p o v' := by
    intro v v' g g' gg e
    by_cases c : v = p
    · rw [c, ph_sb_e] at e
      rcases sbF v' e.symm with z | z
      · exact gg (c.trans z.symm)
      · exact g' z
    · rw [ph_sb_n c] at e
      by_cases c' : v' = p
      · rw [c', ph_sb_e] at e; exact g e
      · rw [ph_sb_n c'] at e; exact gg e
  have sb14 : ∀ v, v < 14 → ph_sb p o v < 14 := by
    intro v hv
    by_cases c : v = p
    · rw [c, ph_sb_e]; exact o14
    · rw [ph_sb_n c]; exact hv
  unfold wX_move_78
  refine ph_replace (D := ph_in n) (F := F) (S := S) p14 o14 (fun j hj => ⟨ph_in14 hn hj, (kF j hj).1, (kF j hj).2, ph_nd14 hn (w3 j hj).1⟩) (ph_rep_wf w k np) (fun b2 b3 hb => ?_)
  refine ph_replace (t := ph_sb p o t) (D := fun j => ph_in n j ∧ j ≠ p) (F := fun j => ph_sb p o (F j)) (S := fun j => ph_sb p o (S j)) y14 p14 (fun j hj => ⟨ph_in14 hn hj.1, (hb j hj.1).1, (hb j hj.1).2, sb14 _ (ph_nd14 hn (w3 j hj.1).1)⟩) ?_ (fun c2 c3 hc => ?_)
  · show (y = ph_sb p o t ∧ upd a1 o (a1 p) y = -1 ∧ ∀ j, ph_in n j ∧ j ≠ p → ph_sb p o (F j) ≠ y ∧ ph_sb p o (S j) ≠ y) ∨ (y ≠ ph_sb p o t ∧ ∃ h, (ph_in n h ∧ h ≠ p) ∧ upd a1 o (a1 p) y = nI h ∧ (ph_sb p o (F h) = y ∨ ph_sb p o (S h) = y) ∧ ph_sb p o (F h) ≠ ph_sb p o (S h) ∧ ∀ j, ph_in n j ∧ j ≠ p → (ph_sb p o (F j) = y ∨ ph_sb p o (S j) = y) → j = h)
    by_cases yo : y = o
    · by_cases pt : p = t
      · left
        refine ⟨by rw [← pt, ph_sb_e]; exact yo, by rw [yo, pk_us, pt]; exact k0, fun j hj => ⟨fun e => ?_, fun e => ?_⟩⟩
        · rcases sbF _ (e.trans yo) with z | z
          · exact (w3 j hj.1).2.2.2.1 (z.trans pt)
          · exact (cno j hj.1 hj.2).1 z
        · rcases sbF _ (e.trans yo) with z | z
          · exact (w3 j hj.1).2.2.2.2.1 (z.trans pt)
          · exact (cno j hj.1 hj.2).2 z
      · right
        obtain ⟨g1, g2⟩ := w2 p np pt
        refine ⟨by rw [ph_sb_n (fun e => pt e.symm), yo]; exact ot, P p, ⟨g1, nPp pt⟩, by rw [yo, pk_us]; exact k1 p np pt, ?_, ?_, fun j hj hh => ?_⟩
        · rcases g2 with g | g
          · left; rw [g, ph_sb_e, yo]
          · right; rw [g, ph_sb_e, yo]
        · exact nsb _ _ (cno _ g1 (nPp pt)).1 (cno _ g1 (nPp pt)).2 (w3 _ g1).2.2.1
        · rcases hh with e | e
          · rcases sbF _ (e.trans yo) with z | z
            · exact uP p j hj.1 (Or.inl z)
            · exact absurd z (cno j hj.1 hj.2).1
          · rcases sbF _ (e.trans yo) with z | z
            · exact uP p j hj.1 (Or.inr z)
            · exact absurd z (cno j hj.1 hj.2).2
    · by_cases yt : y = t
      · left
        refine ⟨by rw [ph_sb_n (fun e => hyp (yt.trans e))]; exact yt, by rw [pk_un yo, yt]; exact k0, fun j hj => ⟨fun e => ?_, fun e => ?_⟩⟩
        · exact (w3 j hj.1).2.2.2.1 ((sbY _ yo e).trans yt)
        · exact (w3 j hj.1).2.2.2.2.1 ((sbY _ yo e).trans yt)
      · right
        obtain ⟨g1, g2⟩ := w2 y hy yt
        refine ⟨?_, P y, ⟨g1, nPy yt yo⟩, by rw [pk_un yo]; exact k1 y hy yt, ?_, ?_, fun j hj hh => ?_⟩
        · by_cases pt : p = t
          · rw [← pt, ph_sb_e]; exact yo
          · rw [ph_sb_n (fun e => pt e.symm)]; exact yt
        · rcases g2 with g | g
          · left; rw [g, ph_sb_n hyp]
          · right; rw [g, ph_sb_n hyp]
        · exact nsb _ _ (cno _ g1 (nPy yt yo)).1 (cno _ g1 (nPy yt yo)).2 (w3 _ g1).2.2.1
        · rcases hh with e | e
          · exact uP y j hj.1 (Or.inl (sbY _ yo e))
          · exact uP y j hj.1 (Or.inr (sbY _ yo e))
  · refine ⟨pk_in p 14 p14, nm_e ⟨pk_in p 14 p14, nm_e ⟨pk_in y 14 y14, nm_e ⟨pk_in x 14 x14, nm_e ?_⟩⟩⟩⟩
    rw [icx, icy, icp]
    refine h _ _ _ ⟨⟨?_, fun z hz hzt => ?_⟩, fun j hj => ?_, kO, kC⟩
    · by_cases pt : p = t
      · by_cases yo : y = o
        · rw [T1 pt yo, pk_un px, pk_un (fun e => hyp e.symm), pk_us, yo, pk_us, pt]; exact k0
        · rw [T2 pt yo, pk_un oxe, pk_un (fun e => yo e.symm), pk_un (fun e => po e.symm), pk_us, pt]; exact k0
      · by_cases yt : y = t
        · rw [T3 pt yt, pk_un px, pk_un (fun e => hyp e.symm), pk_us, pk_un (fun e => ot (e.symm.trans yt)), yt]; exact k0
        · rw [T4 pt yt, pk_un (fun e => hxt e.symm), pk_un (fun e => yt e.symm), pk_un (fun e => pt e.symm), pk_un (fun e => ot e.symm)]; exact k0
    · unfold ph_mvP
      by_cases c1 : z = x
      · rw [c1, pk_us, if_pos rfl]
      · rw [pk_un c1, if_neg c1]
        by_cases c2 : z = y
        · rw [c2, pk_us, if_pos rfl]
        · rw [pk_un c2, if_neg c2]
          by_cases c3 : z = p
          · rw [c3, pk_us, if_pos rfl]
            by_cases yo : y = o
            · have pt : p ≠ t := fun e => hzt (by rw [T1 e yo]; exact c3)
              rw [if_pos yo, yo, pk_us]; exact k1 p np pt
            · have yt : y ≠ t := fun e => hzt (by rw [T3 (fun h => hyp (e.trans h.symm)) e]; exact c3)
              rw [if_neg yo, pk_un yo]; exact k1 y hy yt
          · rw [pk_un c3, if_neg c3]
            by_cases c4 : z = o
            · have yo : y ≠ o := fun e => c2 (c4.trans e.symm)
              have pt : p ≠ t := fun e => hzt (by rw [T2 e yo]; exact c4)
              rw [c4, pk_us, if_pos rfl]; exact k1 p np pt
            · rw [pk_un c4, if_neg c4]
              refine k1 z hz (fun e => hzt ?_)
              rw [T4 (fun e' => c3 (e.trans e'.symm)) (fun e' => c2 (e.trans e'.symm))]
              exact e
    · unfold ph_mvC
      by_cases e : j = p
      · rw [e, pk_us, pk_us, if_pos rfl, if_pos rfl]; exact ⟨rfl, rfl⟩
      · rw [pk_un e, pk_un e, if_neg e, if_neg e]; exact hc j ⟨hj, e⟩
theorem ph_move {post : Int32 → St2 → Prop} {x y : Nat} (w : ph_wf n t P F S r K) (k : ph_ok n t P F S ow C a1 a2 a3 a4 a5) (hx : ph_nd n x) (hy : ph_nd n y)
    (h : ∀ (res : Int32) (t' : Nat) (P' F' S' r' : Nat → Nat) (K' : Nat) (b1 b2 b3 : Nat → Int32), ph_wf n t' P' F' S' r' K' → ph_ok n t' P' F' S' ow C b1 b2 b3 a4 a5 → post res (nI n, nI (n - 1), nI t', li, b1, b2, b3, a4, a5, a6, a7, a8, a9, a10, a11, a12, a13)) :
    wpX_move post (nI n, nI (n - 1), nI t, li, a1, a2, a3, a4, a5, a6, a7, a8, a9, a10, a11, a12, a13) (nI x) (nI y) := by
  have w' := w
  obtain ⟨⟨w0, hn, wt⟩, w2, w3, w4, w5⟩ := w'
  have k' := k
  obtain ⟨⟨k0, k1⟩, kF, kO, kC⟩ := k'
  have x14 := ph_nd14 hn hx
  have y14 := ph_nd14 hn hy
  have t14 := ph_nd14 hn wt
  have stay : ∀ v, post v (nI n, nI (n - 1), nI t, li, a1, a2, a3, a4, a5, a6, a7, a8, a9, a10, a11, a12, a13) := fun v => h v t P F S r K a1 a2 a3 w k
  unfold wpX_move
  refine ph_isNode hn hx (br_f (by decide) ?_)
  refine ph_isNode hn hy (br_f (by decide) ?_)
  refine pk_eq x t (fun _ => stay _) (fun hxt => ⟨pk_in x 14 x14, nm_r (e' := nI (P x)) (by rw [pk_cl (x := nI x) x]; exact k1 x hx hxt) ?_⟩)
  obtain ⟨ip, hch⟩ := w2 x hx hxt
  have p14 := ph_in14 hn ip
  have icp := pk_cl (x := nI (P x)) (P x)
  have f14 := ph_nd14 hn (w3 _ ip).1
  refine ph_isUnder w k hy hx (fun _ => br_f (by decide) (stay _)) (fun hu => br_t rfl ?_)
  refine pk_eq y (P x) (fun _ => stay _) (fun hyp => ⟨pk_in (P x) 14 p14, ?_⟩)
  refine pk_eq (F (P x)) x (fun z => ⟨pk_in (P x) 14 p14, ?_⟩) (fun z => ⟨pk_in (P x) 14 p14, ?_⟩) (hx := by rw [icp]; exact (kF _ ip).1)
  · rw [icp, (kF _ ip).2]
    obtain ⟨r', K', hwf⟩ := ph_wf_mv w (o := S (P x)) hx hy hxt hu rfl hyp (Or.inl ⟨z, rfl⟩)
    exact ph_mv78 w k hx hy hxt hu rfl hyp (Or.inl ⟨z, rfl⟩) (fun b1 b2 b3 hk => h _ _ _ _ _ r' K' b1 b2 b3 hwf hk)
  · rw [icp, (kF _ ip).1]
    obtain ⟨r', K', hwf⟩ := ph_wf_mv w (o := F (P x)) hx hy hxt hu rfl hyp (Or.inr ⟨rfl, hch.resolve_left z⟩)
    exact ph_mv78 w k hx hy hxt hu rfl hyp (Or.inr ⟨rfl, hch.resolve_left z⟩) (fun b1 b2 b3 hk => h _ _ _ _ _ r' K' b1 b2 b3 hwf hk)
end
end
section
def ph_par (P : Nat → Nat) (t x : Nat) : Int32 := if x = t then -2 else nI (P x)
section
variable {n t K : Nat} {P F S r ow C : Nat → Nat} {li : Int32} {a1 a2 a3 a4 a5 a6 a7 a8 a9 a10 a11 : Nat → Int32} {a12 : Nat → Int64} {a13 : Nat → Int32}
theorem ph_parent2 {post : Int32 → Prop} {x : Nat} (w : ph_wf n t P F S r K) (k : ph_ok n t P F S ow C a1 a2 a3 a4 a5) (hx : ph_nd n x)
    (h : post (ph_par P t x)) : wpX_parent post (nI n, nI (n - 1), nI t, li, a1, a2, a3, a4, a5, a6, a7, a8, a9, a10, a11, a12, a13) (nI x) := by
  refine ph_parent w k hx (fun e => ?_) (fun e => ?_)
  · unfold ph_par at h
    rw [if_pos e] at h
    exact h
  · unfold ph_par at h
    rw [if_neg e] at h
    exact h
theorem ph_h84 {post : Int32 → St2 → Prop} {x y : Nat} (w : ph_wf n t P F S r K) (k : ph_ok n t P F S ow C a1 a2 a3 a4 a5) (hx : ph_nd n x) (hy : ph_nd n y)
    (h : ∀ (l : Int32) (b7 b8 : Nat → Int32), post 1 (nI n, nI (n - 1), nI t, l, a1, a2, a3, a4, a5, a6, b7, b8, a9, a10, a11, a12, a13)) : wL_holds_84 post (nI x) (nI y) (nI n) (nI (n - 1)) (nI t) li a1 a2 a3 a4 a5 a6 a7 a8 a9 a10 a11 a12 a13 := by
  unfold wL_holds_84
  refine ph_meet w k hx hy (fun m hm u1 u2 => ?_)
  have m14 := ph_nd14 w.1.2.1 hm
  refine ph_leavesBelow w k hx (fun l b7 b8 => ?_)
  refine ph_leavesBelow w k hy (fun l' b7' b8' => nm_e (br_f (nI_pos (by omega)) ?_))
  exact ph_leavesBelow w k hm (fun l2 c7 c8 => br_t (ph_Z_both w hx hy u1 u2) (h l2 c7 c8))
theorem ph_holds {post : Int32 → St2 → Prop} {x y site : Nat} (w : ph_wf n t P F S r K) (k : ph_ok n t P F S ow C a1 a2 a3 a4 a5) (hx : ph_nd n x) (hy : ph_nd n y) (hsi : site < 4)
    (h : ∀ (l : Int32) (b7 b8 b9 b10 b11 : Nat → Int32), post 1 (nI n, nI (n - 1), nI t, l, a1, a2, a3, a4, a5, a6, b7, b8, b9, b10, b11, a12, a13)) : wpL_holds post (nI n, nI (n - 1), nI t, li, a1, a2, a3, a4, a5, a6, a7, a8, a9, a10, a11, a12, a13) (nI x) (nI y) (nI site) := by
  have x14 := ph_nd14 w.1.2.1 hx
  unfold wpL_holds
  refine ph_least (site := 0) w k (by omega) (fun l1 b7 b9 b10 => ?_)
  refine ph_least (site := 1) w k (by omega) (fun l2 c7 c9 c10 => ?_)
  refine ph_least (site := 2) w k (by omega) (fun l3 d7 d9 d10 => ?_)
  refine ph_least (site := 3) w k (by omega) (fun l4 e7 e9 e10 => nm_e ?_)
  refine ph_total w k (fun l5 f7 f9 f10 => br_t rfl ?_)
  refine ph_ways w k hsi (fun c l6 g7 g9 g10 c1 c2 => pk_le 1 c (fun _ => ?_) (fun z => absurd z (by omega)))
  refine ph_states w k hx hsi (fun v l7 i7 i9 i10 i11 g1 g2 g3 => br_f g1 (br_f g2 ?_))
  have A := ph_h84 (post := post) (li := l7) (a6 := a6) (a7 := i7) (a8 := a8) (a9 := i9) (a10 := i10) (a11 := i11) (a12 := a12) (a13 := a13) w k hx hy (fun l b7 b8 => h l b7 b8 i9 i10 i11)
  refine pk_le 7 x (fun _ => A) (fun z => br_t ?_ A)
  rw [g3 (by omega)]
  exact ph_one_pow ⟨ow x / 4 ^ (3 - site) % 4, by omega⟩
theorem ph_sw74 {post : Int32 → St2 → Prop} {x y : Nat} (w : ph_wf n t P F S r K) (hx : ph_nd n x) (hy : ph_nd n y) (h1 : ¬ ph_un P t x y) (h2 : ¬ ph_un P t y x)
    (k : ph_ok n t (fun k => P (ph_sw x y k)) (fun k => ph_sw x y (F k)) (fun k => ph_sw x y (S k)) ow C a1 a2 a3 a4 a5)
    (h : ∀ (l : Int32) (b1 b2 b3 b7 b9 b10 : Nat → Int32), ph_ok n t P F S ow C b1 b2 b3 a4 a5 → post 1 (nI n, nI (n - 1), nI t, l, b1, b2, b3, a4, a5, a6, b7, a8, b9, b10, a11, a12, a13)) :
    wL_swapped_74 post (nI x) (nI y) (ph_tot ow C F S t) (ph_par P t x) (ph_par P t y) (nI n) (nI (n - 1)) (nI t) li a1 a2 a3 a4 a5 a6 a7 a8 a9 a10 a11 a12 a13 := by
  obtain ⟨r', K', w'⟩ := ph_wf_ex w hx hy h1 h2
  obtain ⟨u1, u2⟩ := ph_ex_nu w hx hy h1 h2
  unfold wL_swapped_74
  refine ph_swap w' k hx hy (fun z => z.elim (fun z => absurd z u1) (fun z => absurd z u2)) (fun _ _ d1 d2 d3 hk => br_t rfl ?_)
  have hk3 : ph_ok n t P F S ow C d1 d2 d3 a4 a5 := by
    have hk2 := hk
    simp only [ph_sw2] at hk2
    exact hk2
  refine ph_total w hk3 (fun l b7 b9 b10 => br_t rfl ?_)
  refine ph_parent2 w hk3 hx (br_t rfl ?_)
  exact ph_parent2 w hk3 hy (br_t rfl (h l d1 d2 d3 b7 b9 b10 hk3))
theorem ph_swapped {post : Int32 → St2 → Prop} {x y : Nat} (w : ph_wf n t P F S r K) (k : ph_ok n t P F S ow C a1 a2 a3 a4 a5) (hx : ph_nd n x) (hy : ph_nd n y)
    (h : ∀ (l : Int32) (b1 b2 b3 b7 b9 b10 : Nat → Int32), ph_ok n t P F S ow C b1 b2 b3 a4 a5 → post 1 (nI n, nI (n - 1), nI t, l, b1, b2, b3, a4, a5, a6, b7, a8, b9, b10, a11, a12, a13)) : wpL_swapped post (nI n, nI (n - 1), nI t, li, a1, a2, a3, a4, a5, a6, a7, a8, a9, a10, a11, a12, a13) (nI x) (nI y) := by
  unfold wpL_swapped
  refine ph_total w k (fun l b7 b9 b10 => ?_)
  refine ph_parent2 w k hx ?_
  refine ph_parent2 w k hy ?_
  refine ph_swap w k hx hy (fun _ => br_f (by decide) (br_t rfl (h l a1 a2 a3 b7 b9 b10 k))) (fun z1 z2 c1 c2 c3 hk => br_t (by decide) ?_)
  obtain ⟨r', K', w'⟩ := ph_wf_ex w hx hy z1 z2
  have hxt : x ≠ t := fun e => z2 (by rw [e]; exact ph_unT w y hy)
  have hyt : y ≠ t := fun e => z1 (by rw [e]; exact ph_unT w x hx)
  have A := ph_sw74 (post := post) (li := l) (a6 := a6) (a7 := b7) (a8 := a8) (a9 := b9) (a10 := b10) (a11 := a11) (a12 := a12) (a13 := a13) w hx hy z1 z2 hk h
  refine br_c (fun _ => A) (fun _ => ph_parent2 w' hk hx (br_t ?_ (ph_parent2 w' hk hy (br_t ?_ A))))
  · unfold ph_par
    rw [if_neg hxt, if_neg hyt]
    show nI (P (ph_sw x y x)) = nI (P y)
    rw [ph_sw_l]
  · unfold ph_par
    rw [if_neg hxt, if_neg hyt]
    show nI (P (ph_sw x y y)) = nI (P x)
    rw [ph_sw_r]
end
end
section
theorem ph_wf1 : ph_wf 1 0 (fun _ => 0) (fun _ => 0) (fun _ => 0) (fun _ => 0) 1 := by
  have n0 : ∀ x, ph_nd 1 x → x = 0 := by
    intro x h
    unfold ph_nd at h
    omega
  have i0 : ∀ x, ¬ ph_in 1 x := by
    intro x h
    unfold ph_in at h
    omega
  exact ⟨⟨by omega, by omega, Or.inl (by omega)⟩, fun x hx h => absurd (n0 x hx) h, fun p hp => absurd hp (i0 p), fun x hx h => absurd (n0 x hx) h, fun x _ => Nat.zero_lt_one⟩
def ph_c0 (j : Nat) : Nat := if j / 4 = j % 4 then 0 else 1
theorem ph_init {post : St2 → Prop} {p0 : Int32}
    (h : ∀ (v : Nat) (b1 b4 b5 b6 : Nat → Int32), v < 256 → (p0 < 0 → v = 0) → (¬ p0 < 0 → ¬ p0 ≤ 255 → v = 0) → (¬ p0 < 0 → p0 ≤ 255 → p0 = nI v) →
      ph_ok 1 0 (fun _ => 0) (fun _ => 0) (fun _ => 0) (fun _ => v) ph_c0 b1 (fun _ => 0) (fun _ => 0) b4 b5 →
      post (nI 1, nI (1 - 1), nI 0, 0, b1, (fun _ => 0), (fun _ => 0), b4, b5, b6, (fun _ => 0), (fun _ => 0), (fun _ => 0), (fun _ => 0), (fun _ => 0), (fun _ => 0), (fun _ => 0))) :
    wpX_init post 13 347 (0, 0, 0, 0) p0 := by
  unfold wpX_init
  refine ⟨by omega, by omega, by omega, by omega, by omega, by omega, by omega, by omega, by omega, by omega, by omega, by omega, by omega, by omega, by omega, by omega, by omega, by omega, by omega, by omega, by omega, by omega, by omega, by omega, by omega, by omega, ?_⟩
  refine pk_loop (σ := (Nat → Int32) × (Nat → Int32)) (fun q i s => wX_init_110 post 13 347 p0 13 347 0 0 0 0 q (nI i) (fun _ => 0) (fun _ => 0) (fun _ => 0) (fun _ => 0) s.1 s.2 (fun _ => 0) (fun _ => 0) (fun _ => 0) (fun _ => 0) (fun _ => 0) (fun _ => 0) (fun _ => 0))
    (fun i s => ∀ j, j < i → s.1 j = nI (ph_c0 j)) 16 0 ((fun _ => 0), (fun _ => 0)) (by omega) (fun j hj => absurd hj (by omega)) ?_ ?_
  · rintro q ⟨b5, b6⟩ hI
    dsimp only at hI
    have okk : ∀ (v : Nat) (z0 : Int32), z0 = nI v → v < 256 → ph_ok 1 0 (fun _ => 0) (fun _ => 0) (fun _ => 0) (fun _ => v) ph_c0 (upd (fun _ => 0) 0 (-1)) (fun _ => 0) (fun _ => 0) (upd (fun _ => 0) 0 z0) b5 := by
      intro v z0 hz hv
      refine ⟨⟨pk_us, fun x hx hx0 => ?_⟩, fun j hj => ?_, fun j hj => ?_, fun j hj => ⟨hI j hj, ?_⟩⟩
      · unfold ph_nd at hx
        omega
      · unfold ph_in at hj
        omega
      · have e : j = 0 := by omega
        rw [e, pk_us]
        exact ⟨hz, hv⟩
      · unfold ph_c0
        by_cases c : j / 4 = j % 4
        · rw [if_pos c]; omega
        · rw [if_neg c]; omega
    refine pk_le 16 16 (fun _ => ?_) (fun z => absurd z (by omega))
    have bad : (p0 < 0 ∨ 255 < p0) → wX_init_166 post 13 347 0 0 13 347 0 0 0 0 (fun _ => 0) (fun _ => 0) (fun _ => 0) (fun _ => 0) b5 b6 (fun _ => 0) (fun _ => 0) (fun _ => 0) (fun _ => 0) (fun _ => 0) (fun _ => 0) (fun _ => 0) := by
      intro hb
      refine ⟨pk_in 0 7 (by omega), nm_e (nm_e ?_)⟩
      refine h 0 _ _ b5 b6 (by omega) (fun _ => rfl) (fun _ _ => rfl) (fun h1 h2 => ?_) (okk 0 0 rfl (by omega))
      rcases hb with hb | hb
      · exact absurd hb h1
      · exact absurd h2 (Int32.not_le.mpr hb)
    refine br_c (fun c => br_t rfl (bad (Or.inl c))) (fun c => br_c (fun c2 => br_t rfl (bad (Or.inr c2))) (fun c2 => br_f (by decide) ?_))
    obtain ⟨v, hv, e⟩ := nI_of2 (M := 255) (n := 255) (by decide) c (Int32.not_lt.mp c2)
    refine ⟨pk_in 0 7 (by omega), nm_e (nm_e ?_)⟩
    exact h v _ _ b5 b6 (by omega) (fun z => absurd z c) (fun _ z => absurd (Int32.not_lt.mp c2) z) (fun _ _ => e) (okk v p0 e (by omega))
  · rintro q i ⟨b5, b6⟩ hi hI hw
    dsimp only at hI hw
    have ici := pk_cl (x := nI i) i
    refine pk_le 16 i (fun z => absurd z (by omega)) (fun _ => ⟨by decide, by decide, ?_⟩)
    have ed := pk_div (a := i) (d := 4) (by omega) (by decide) (by decide)
    have er := pk_rem (a := i) (d := 4) (by omega) (by decide) (by decide)
    have fin : ∀ z0 : Int32, z0 = nI (ph_c0 i) → wX_init_135 post 13 347 (wX_init_110 post 13 347 p0 13 347 0 0 0 0 q) p0 (nI i) z0 (nI i) 13 347 0 0 0 0 (fun _ => 0) (fun _ => 0) (fun _ => 0) (fun _ => 0) b5 b6 (fun _ => 0) (fun _ => 0) (fun _ => 0) (fun _ => 0) (fun _ => 0) (fun _ => 0) (fun _ => 0) := by
      intro z0 hz
      refine ⟨pk_in i 16 hi, nm_e ⟨pk_in i 16 hi, nm_e (nm_r (nI_1 i) (hw (_, _) (fun j hj => ?_)))⟩⟩
      show upd b5 (nI i).toNatClampNeg z0 j = nI (ph_c0 j)
      rw [ici]
      by_cases e : j = i
      · rw [e, pk_us, hz]
      · rw [pk_un e]; exact hI j (by omega)
    refine pk_eq (i / 4) (i % 4) (fun z => fin _ ?_) (fun z => fin _ ?_) (hx := ed) (hy := er)
    · unfold ph_c0
      rw [if_pos z]; rfl
    · unfold ph_c0
      rw [if_neg z]; rfl
end
section
theorem ph_cell {post : Int32 → Prop} {L k : Nat} {xs : Nat → Int32} {p1 : Int32} (hL : L ≤ 260) (hk : k < 1000) (e : p1 = nI k) (h : ∀ c, post c) : wpL_cell post L xs () p1 :=
  pk_le L k (fun _ => h _) (fun z => ⟨pk_in k L z e, h _⟩) (hy := e)
theorem ph_zero {w site : Nat} (hw : w < 256) (hsi : site < 4) : ((nI w >>> ((6 - (2 * nI site)) &&& 31)) &&& 3) = nI (w / 4 ^ (3 - site) % 4) := by
  have hh : site = 0 ∨ site = 1 ∨ site = 2 ∨ site = 3 := by omega
  rcases hh with e | e | e | e <;> rw [e]
  · rw [pk_shrN (by omega) _ 6 (by decide), pk_andN (by omega) 2 (by decide)]
  · rw [pk_shrN (by omega) _ 4 (by decide), pk_andN (by omega) 2 (by decide)]
  · rw [pk_shrN (by omega) _ 2 (by decide), pk_andN (by omega) 2 (by decide)]
  · rw [pk_shrN (by omega) _ 0 (by decide), pk_andN (by omega) 2 (by decide)]
section
variable {n t K : Nat} {P F S r ow C : Nat → Nat} {li : Int32} {a1 a2 a3 a4 a5 a6 a7 a8 a9 a10 a11 : Nat → Int32} {a12 : Nat → Int64} {a13 : Nat → Int32}
theorem ph_node {post : Int32 → Prop} {j : Nat} (n1 : 1 ≤ n) (n7 : n ≤ 7) (hj : j < 64) (h : ∀ x, ph_nd n x → post (nI x)) : wpL_node post (nI n, nI (n - 1), nI t, li, a1, a2, a3, a4, a5, a6, a7, a8, a9, a10, a11, a12, a13) (nI j) := by
  have e : (2 : Int32) * nI n - 1 = nI (2 * n - 1) := by
    have e1 : (2 : Int32) * nI n = nI (2 * n) := pk_mul 2 n
    rw [e1]
    exact pk_sub (b := 1) (by omega)
  unfold wpL_node
  unfold wpX_leaves
  have e0 : ¬ ((2 : Int32) * nI n - 1) = 0 := by rw [e]; exact nI_ne0 (by omega) (by omega)
  have hk : j % (2 * n - 1) < 2 * n - 1 := Nat.mod_lt _ (by omega)
  refine ⟨e0, nm_r (e' := nI (j % (2 * n - 1))) (by rw [e]; exact pk_rem (by omega) (by omega) (by omega)) ?_⟩
  refine pk_le n (j % (2 * n - 1)) (fun z => ?_) (fun z => h _ (Or.inl z))
  have e2 : (8 : Int32) + nI (j % (2 * n - 1)) - nI n = nI (8 + j % (2 * n - 1) - n) := by
    have e1 : (8 : Int32) + nI (j % (2 * n - 1)) = nI (8 + j % (2 * n - 1)) := nI_add 8 _
    rw [e1]
    exact pk_sub (by omega)
  rw [e2]
  exact h _ (Or.inr ⟨by omega, by omega⟩)
theorem ph_law290 {L : Nat} {xs : Nat → Int32} {J35 : Int32 → Int32 → Int32 → Int32 → Int32 → Int32 → (Nat → Int32) → (Nat → Int32) → (Nat → Int32) → (Nat → Int32) → (Nat → Int32) → (Nat → Int32) → (Nat → Int32) → (Nat → Int32) → (Nat → Int32) → (Nat → Int32) → (Nat → Int32) → (Nat → Int64) → (Nat → Int32) → Prop} {x3 x4 x6 : Int32} {x y kc ks : Nat} (w : ph_wf n t P F S r K) (k : ph_ok n t P F S ow C a1 a2 a3 a4 a5) (hx : ph_nd n x) (hy : ph_nd n y) (h3 : x3 = nI (ow 0))
    (HJ : ∀ (l : Int32) (b1 b2 b3 b7 b8 b9 b10 b11 : Nat → Int32), ph_ok n t P F S ow C b1 b2 b3 a4 a5 → J35 x3 (x4 + 2) (nI n) (nI (n - 1)) (nI t) l b1 b2 b3 a4 a5 a6 b7 b8 b9 b10 b11 a12 a13) :
    wL_law_290 (fun r => r = 1) L xs J35 x3 x4 x6 (nI x) (nI y) kc ks (nI n) (nI (n - 1)) (nI t) li a1 a2 a3 a4 a5 a6 a7 a8 a9 a10 a11 a12 a13 := by
  obtain ⟨site, hsi, es⟩ := pk_andE (x6 >>> ((8 : Int32) &&& 31)) (m := 3) 2 (by decide)
  have hsi' : site < 4 := hsi
  have n1 := w.1.1
  have h0 : ph_nd n 0 := Or.inl (by omega)
  unfold wL_law_290
  refine nm_r es ?_
  refine ph_states (x := 0) w k h0 hsi' (fun v l b7 b9 b10 b11 _ _ g3 => br_t ?_ ?_)
  · rw [g3 (by omega), h3, ph_zero (k.2.2.1 0 (by omega)).2 hsi']
  · refine ph_holds w k hx hy hsi' (fun l2 c7 c8 c9 c10 c11 => br_f (by decide) ?_)
    exact ph_swapped w k hx hy (fun l3 d1 d2 d3 d7 d9 d10 hk => br_f (by decide) (nm_e (HJ l3 d1 d2 d3 d7 c8 d9 d10 c11 hk)))
theorem ph_law221 {L : Nat} {xs : Nat → Int32} {J35 : Int32 → Int32 → Int32 → Int32 → Int32 → Int32 → (Nat → Int32) → (Nat → Int32) → (Nat → Int32) → (Nat → Int32) → (Nat → Int32) → (Nat → Int32) → (Nat → Int32) → (Nat → Int32) → (Nat → Int32) → (Nat → Int32) → (Nat → Int32) → (Nat → Int64) → (Nat → Int32) → Prop} {x3 x4 x6 x7 : Int32} {x y kc ks : Nat} (w : ph_wf n t P F S r K) (k : ph_ok n t P F S ow C a1 a2 a3 a4 a5) (hx : ph_nd n x) (hy : ph_nd n y) (h3 : x3 = nI (ow 0))
    (HJ : ∀ (z3 l : Int32) (ow' : Nat → Nat) (b1 b2 b3 b4 b7 b8 b9 b10 b11 : Nat → Int32), z3 = nI (ow' 0) → ph_ok n t P F S ow' C b1 b2 b3 b4 a5 → J35 z3 (x4 + 2) (nI n) (nI (n - 1)) (nI t) l b1 b2 b3 b4 a5 a6 b7 b8 b9 b10 b11 a12 a13) :
    wL_law_221 (fun r => r = 1) L xs J35 x3 x4 x6 x7 (nI x) (nI y) kc ks (nI n) (nI (n - 1)) (nI t) li a1 a2 a3 a4 a5 a6 a7 a8 a9 a10 a11 a12 a13 := by
  have n1 := w.1.1
  have n7 := w.1.2.1
  obtain ⟨j, hj, ej⟩ := pk_andE x6 (m := 7) 3 (by decide)
  have hj' : j < 8 := hj
  obtain ⟨v, hv, ev⟩ := pk_andE (x6 >>> ((3 : Int32) &&& 31)) (m := 255) 8 (by decide)
  have hv' : v < 256 := hv
  have hlt : j % n < n := Nat.mod_lt _ (by omega)
  unfold wL_law_221
  unfold wpX_leaves
  refine ⟨nI_ne0 (by omega) (by omega), nm_r (e' := nI (j % n)) (by rw [ej]; exact pk_rem (by omega) (by omega) (by omega)) ?_⟩
  have M : (x7 = 13 ∨ x7 = 14) → wL_law_247 (fun r => r = 1) L xs J35 x3 x4 x6 x7 (nI x) (nI y) (nI (j % n)) kc ks (nI n) (nI (n - 1)) (nI t) li a1 a2 a3 a4 a5 a6 a7 a8 a9 a10 a11 a12 a13 := by
    intro h7
    unfold wL_law_247
    rw [ev]
    refine ph_mutate w k hlt hv' (fun res b4 hk => ?_)
    have A : wL_law_276 (fun r => r = 1) L xs J35 x3 x4 x6 (nI x) (nI y) (nI (j % n)) kc ks (nI n) (nI (n - 1)) (nI t) li a1 a2 a3 b4 a5 a6 a7 a8 a9 a10 a11 a12 a13 := by
      unfold wL_law_276
      refine pk_eq (j % n) 0 (fun z => nm_r ev ?_) (fun z => ?_)
      · refine ph_law290 w hk hx hy ?_ (fun l b1 b2 b3 b7 b8 b9 b10 b11 hk' => HJ _ l _ b1 b2 b3 b4 b7 b8 b9 b10 b11 ?_ hk')
        · show nI v = nI (if 0 = j % n then v else ow 0)
          rw [if_pos z.symm]
        · show nI v = nI (if 0 = j % n then v else ow 0)
          rw [if_pos z.symm]
      · refine ph_law290 w hk hx hy ?_ (fun l b1 b2 b3 b7 b8 b9 b10 b11 hk' => HJ _ l _ b1 b2 b3 b4 b7 b8 b9 b10 b11 ?_ hk')
        · show x3 = nI (if 0 = j % n then v else ow 0)
          rw [if_neg (fun e => z e.symm)]; exact h3
        · show x3 = nI (if 0 = j % n then v else ow 0)
          rw [if_neg (fun e => z e.symm)]; exact h3
    show wL_law_262 (fun r => r = 1) L xs J35 x3 x4 x6 x7 (nI x) (nI y) (nI (j % n)) kc ks (nI n) (nI (n - 1)) (nI t) li a1 a2 a3 b4 a5 a6 a7 a8 a9 a10 a11 a12 a13
    unfold wL_law_262
    exact br_c (fun _ => A) (fun c => br_c (fun _ => A) (fun c2 => (h7.elim (fun e => absurd e c) (fun e => absurd e c2))))
  refine br_c (fun c => M (Or.inl c)) (fun c => br_c (fun c2 => M (Or.inr c2)) (fun c2 => ?_))
  unfold wL_law_262
  exact br_f c (br_f c2 (ph_law290 w k hx hy h3 (fun l b1 b2 b3 b7 b8 b9 b10 b11 hk' => HJ _ l _ b1 b2 b3 a4 b7 b8 b9 b10 b11 h3 hk')))
end
end
section
def ph_Inv (z3 : Int32) (u : St2) : Prop := match u with
  | (lc, ic, tp, li, a1, a2, a3, a4, a5, a6, a7, a8, a9, a10, a11, a12, a13) => ∃ (n t : Nat) (P F S r ow C : Nat → Nat) (K : Nat), lc = nI n ∧ ic = nI (n - 1) ∧ tp = nI t ∧ z3 = nI (ow 0) ∧ ph_wf n t P F S r K ∧ ph_ok n t P F S ow C a1 a2 a3 a4 a5
theorem ph_mono {n n' x : Nat} (h : n ≤ n') (hx : ph_nd n x) : ph_nd n' x := by
  unfold ph_nd at hx ⊢
  omega
theorem ph_law35 {L : Nat} {xs : Nat → Int32} {kc ks : Nat} (hL : L ≤ 260) (s : Nat × Int32 × St2) (h1 : s.1 ≤ L + 2) (h2 : ph_Inv s.2.1 s.2.2) :
    ∃ q, wL_law_35 (fun r => r = 1) L xs kc ks q s.2.1 (nI s.1) s.2.2.1 s.2.2.2.1 s.2.2.2.2.1 s.2.2.2.2.2.1 s.2.2.2.2.2.2.1 s.2.2.2.2.2.2.2.1 s.2.2.2.2.2.2.2.2.1 s.2.2.2.2.2.2.2.2.2.1 s.2.2.2.2.2.2.2.2.2.2.1 s.2.2.2.2.2.2.2.2.2.2.2.1 s.2.2.2.2.2.2.2.2.2.2.2.2.1 s.2.2.2.2.2.2.2.2.2.2.2.2.2.1 s.2.2.2.2.2.2.2.2.2.2.2.2.2.2.1 s.2.2.2.2.2.2.2.2.2.2.2.2.2.2.2.1 s.2.2.2.2.2.2.2.2.2.2.2.2.2.2.2.2.1 s.2.2.2.2.2.2.2.2.2.2.2.2.2.2.2.2.2.1 s.2.2.2.2.2.2.2.2.2.2.2.2.2.2.2.2.2.2 := by
  refine loop_m (fun q (s : Nat × Int32 × St2) => wL_law_35 (fun r => r = 1) L xs kc ks q s.2.1 (nI s.1) s.2.2.1 s.2.2.2.1 s.2.2.2.2.1 s.2.2.2.2.2.1 s.2.2.2.2.2.2.1 s.2.2.2.2.2.2.2.1 s.2.2.2.2.2.2.2.2.1 s.2.2.2.2.2.2.2.2.2.1 s.2.2.2.2.2.2.2.2.2.2.1 s.2.2.2.2.2.2.2.2.2.2.2.1 s.2.2.2.2.2.2.2.2.2.2.2.2.1 s.2.2.2.2.2.2.2.2.2.2.2.2.2.1 s.2.2.2.2.2.2.2.2.2.2.2.2.2.2.1 s.2.2.2.2.2.2.2.2.2.2.2.2.2.2.2.1 s.2.2.2.2.2.2.2.2.2.2.2.2.2.2.2.2.1 s.2.2.2.2.2.2.2.2.2.2.2.2.2.2.2.2.2.1 s.2.2.2.2.2.2.2.2.2.2.2.2.2.2.2.2.2.2) (fun s => s.1 ≤ L + 2 ∧ ph_Inv s.2.1 s.2.2) (fun s => L - s.1) ?_ s ⟨h1, h2⟩
  rintro q ⟨k, z3, lc, ic, tp, li, a1, a2, a3, a4, a5, a6, a7, a8, a9, a10, a11, a12, a13⟩ ⟨hk, n, t, P, F, S, r, ow, C, K, rfl, rfl, rfl, hz, w, ok⟩ hw
  dsimp only at hk hz
  have n1 := w.1.1
  have n7 := w.1.2.1
  refine pk_le L k (fun _ => rfl) (fun z => ?_)
  refine ph_cell hL (k := k) (by omega) rfl (fun c => ?_)
  refine ph_cell hL (k := k + 1) (by omega) (nI_1 k) (fun d => ?_)
  obtain ⟨jx, hjx, ex⟩ := pk_andE (c >>> ((4 : Int32) &&& 31)) (m := 63) 6 (by decide)
  obtain ⟨jy, hjy, ey⟩ := pk_andE (c >>> ((10 : Int32) &&& 31)) (m := 63) 6 (by decide)
  obtain ⟨op, hop, eo⟩ := pk_andE c (m := 15) 4 (by decide)
  have hop' : op < 16 := hop
  refine nm_r eo ?_
  rw [ex, ey]
  refine ph_node n1 n7 hjx (fun x hx => ?_)
  refine ph_node n1 n7 hjy (fun y hy => ?_)
  have J : ∀ (n' t' : Nat) (P' F' S' r' ow' C' : Nat → Nat) (K' : Nat) (b1 b2 b3 b4 b5 b6 : Nat → Int32), n ≤ n' → ow' 0 = ow 0 → ph_wf n' t' P' F' S' r' K' → ph_ok n' t' P' F' S' ow' C' b1 b2 b3 b4 b5 →
      wL_law_221 (fun r => r = 1) L xs (wL_law_35 (fun r => r = 1) L xs kc ks q) z3 (nI k) d (nI op) (nI x) (nI y) kc ks (nI n') (nI (n' - 1)) (nI t') li b1 b2 b3 b4 b5 b6 a7 a8 a9 a10 a11 a12 a13 := by
    intro n' t' P' F' S' r' ow' C' K' b1 b2 b3 b4 b5 b6 hnn e0 w' ok'
    refine ph_law221 w' ok' (ph_mono hnn hx) (ph_mono hnn hy) (by rw [hz, e0]) (fun z3' l ow2 c1 c2 c3 c4 c7 c8 c9 c10 c11 g1 g2 => ?_)
    have e2 : nI k + 2 = nI (k + 2) := nI_add k 2
    rw [e2]
    exact hw (k + 2, z3', nI n', nI (n' - 1), nI t', l, c1, c2, c3, c4, b5, b6, c7, c8, c9, c10, c11, a12, a13) ⟨by show k + 2 ≤ L + 2; omega, n', t', P', F', S', r', ow2, C', K', rfl, rfl, rfl, g1, w', g2⟩ (by show L - (k + 2) < L - k; omega)
  obtain ⟨d3, hd3, ed3⟩ := pk_andE d (m := 3) 2 (by decide)
  obtain ⟨f3, hf3, ef3⟩ := pk_andE (d >>> ((2 : Int32) &&& 31)) (m := 3) 2 (by decide)
  obtain ⟨v3, hv3, ev3⟩ := pk_andE (d >>> ((4 : Int32) &&& 31)) (m := 15) 4 (by decide)
  obtain ⟨u3, hu3, eu3⟩ := pk_andE d (m := 255) 8 (by decide)
  have hd3' : d3 < 4 := hd3
  have hf3' : f3 < 4 := hf3
  have hv3' : v3 < 16 := hv3
  have hu3' : u3 < 256 := hu3
  have er := pk_rem (a := v3) (d := 10) (by omega) (by decide) (by decide)
  have er' : nI v3 - nI v3 / 10 * 10 = nI (v3 % 10) := er
  refine pk_le 4 op (fun _ => pk_le 6 op (fun _ => pk_le 9 op (fun _ => pk_le 11 op (fun _ => pk_le 13 op (fun _ => ?_) (fun _ => ⟨by decide, ?_⟩)) (fun _ => ⟨by decide, ?_⟩)) (fun _ => ?_)) (fun _ => ?_)) (fun _ => ?_)
  · exact J n t P F S r ow C K a1 a2 a3 a4 a5 a6 (Nat.le_refl _) rfl w ok
  · rw [ed3, ef3, ev3, er']
    exact ph_rate hd3' hf3' (by omega) (fun res b6 => J n t P F S r ow C K a1 a2 a3 a4 a5 b6 (Nat.le_refl _) rfl w ok)
  · rw [ed3, ef3, ev3, er']
    exact ph_cost ok hd3' hf3' (by omega) (fun res C' b5 ok' => J n t P F S r ow C' K a1 a2 a3 a4 b5 a6 (Nat.le_refl _) rfl w ok')
  · exact ph_move w ok hx hy (fun res t' P' F' S' r' K' b1 b2 b3 w' ok' => J n t' P' F' S' r' ow C K' b1 b2 b3 a4 a5 a6 (Nat.le_refl _) rfl w' ok')
  · refine ph_swap w ok hx hy (fun _ => J n t P F S r ow C K a1 a2 a3 a4 a5 a6 (Nat.le_refl _) rfl w ok) (fun z1 z2 b1 b2 b3 ok' => ?_)
    obtain ⟨r', K', w'⟩ := ph_wf_ex w hx hy z1 z2
    exact J n t _ _ _ r' ow C K' b1 b2 b3 a4 a5 a6 (Nat.le_refl _) rfl w' ok'
  · rw [eu3]
    exact ph_attach w ok hx hu3' (fun res n' t' P' F' S' r' ow' K' b1 b2 b3 b4 hnn e0 w' ok' => J n' t' P' F' S' r' ow' C K' b1 b2 b3 b4 a5 a6 hnn e0 w' ok')
end
section
theorem i_vc (xs : Nat → Int32) (L : Nat) (hL : L ≤ 260) : wpL_law (fun r => r = 1) L xs := by
  unfold wpL_law
  refine ph_cell hL (k := 0) (by omega) rfl (fun c => ⟨13, 347, by omega, by omega, ?_⟩)
  refine ph_init (fun v b1 b4 b5 b6 hv h1 h2 h3 ok => ?_)
  have fin : ∀ z3, z3 = nI v → ∃ fu, wL_law_35 (fun r => r = 1) L xs (1 + 13) (17 + 347) fu z3 1 (nI 1) (nI (1 - 1)) (nI 0) 0 b1 (fun _ => 0) (fun _ => 0) b4 b5 b6 (fun _ => 0) (fun _ => 0) (fun _ => 0) (fun _ => 0) (fun _ => 0) (fun _ => 0) (fun _ => 0) := by
    intro z3 e
    exact ph_law35 hL (1, z3, nI 1, nI (1 - 1), nI 0, 0, b1, (fun _ => 0), (fun _ => 0), b4, b5, b6, (fun _ => 0), (fun _ => 0), (fun _ => 0), (fun _ => 0), (fun _ => 0), (fun _ => 0), (fun _ => 0)) (by show 1 ≤ L + 2; omega) ⟨1, 0, _, _, _, _, _, _, 1, rfl, rfl, rfl, e, ph_wf1, ok⟩
  refine br_c (fun g => fin 0 ?_) (fun g => br_c (fun g2 => fin c (h3 g g2)) (fun g2 => fin 0 ?_))
  · rw [h1 g]; rfl
  · rw [h2 g g2]; rfl
end
