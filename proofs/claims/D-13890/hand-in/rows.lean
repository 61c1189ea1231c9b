section
/-! part 01: finite sums, pigeonhole, cells that refer to a node -/
def st_sm (f : Nat → Nat) : Nat → Nat
  | 0 => 0
  | n + 1 => st_sm f n + f n
theorem st_sm_s (f : Nat → Nat) (n : Nat) : st_sm f (n + 1) = st_sm f n + f n := rfl
theorem st_sm_congr {f g : Nat → Nat} : ∀ {n : Nat}, (∀ i, i < n → f i = g i) → st_sm f n = st_sm g n := by
  intro n
  induction n with
  | zero => intro _; rfl
  | succ n ih =>
    intro h
    rw [st_sm_s, st_sm_s, ih (fun i hi => h i (by omega)), h n (by omega)]
theorem st_sm_upd {f g : Nat → Nat} {j : Nat} : ∀ {n : Nat}, j < n → (∀ i, i < n → i ≠ j → f i = g i) → st_sm f n + g j = st_sm g n + f j := by
  intro n
  induction n with
  | zero => intro h; omega
  | succ n ih =>
    intro hj h
    rw [st_sm_s, st_sm_s]
    by_cases e : j = n
    · subst e
      have e1 : st_sm f j = st_sm g j := st_sm_congr (fun i hi => h i (by omega) (by omega))
      omega
    · have e1 := ih (by omega) (fun i hi hn => h i (by omega) hn)
      have e2 := h n (by omega) (fun z => e z.symm)
      omega
theorem st_sm_pos {f : Nat → Nat} : ∀ {n : Nat}, 0 < st_sm f n → ∃ i, i < n ∧ 0 < f i := by
  intro n
  induction n with
  | zero => intro h; exact absurd h (Nat.lt_irrefl 0)
  | succ n ih =>
    intro h
    rw [st_sm_s] at h
    by_cases e : 0 < f n
    · exact ⟨n, by omega, e⟩
    · obtain ⟨i, hi, hp⟩ := ih (by omega)
      exact ⟨i, by omega, hp⟩
theorem st_sm_ge {f : Nat → Nat} {i : Nat} : ∀ {n : Nat}, i < n → f i ≤ st_sm f n := by
  intro n
  induction n with
  | zero => intro h; omega
  | succ n ih =>
    intro h
    rw [st_sm_s]
    by_cases e : i = n
    · subst e; omega
    · have := ih (by omega)
      omega
theorem st_sm_zero {f : Nat → Nat} {n : Nat} (h : ∀ i, i < n → f i = 0) : st_sm f n = 0 := by
  rcases Nat.eq_zero_or_pos (st_sm f n) with z | z
  · exact z
  · obtain ⟨i, hi, hp⟩ := st_sm_pos z
    have := h i hi
    omega
theorem st_sm_two {f : Nat → Nat} {i j n : Nat} (hi : i < n) (hj : j < n) (hn : i ≠ j) : f i + f j ≤ st_sm f n := by
  have e1 := st_sm_upd (f := f) (g := fun q => if q = j then 0 else f q) hj (fun q _ hq => by simp [hq])
  have e2 := st_sm_ge (f := fun q => if q = j then 0 else f q) hi
  simp only [if_true, hn, if_false] at e1 e2
  omega
theorem st_sm_le {f : Nat → Nat} {B : Nat} : ∀ {n : Nat}, (∀ i, i < n → f i ≤ B) → st_sm f n ≤ B * n := by
  intro n
  induction n with
  | zero => intro _; exact Nat.zero_le _
  | succ n ih =>
    intro h
    rw [st_sm_s, Nat.mul_succ]
    have e1 := ih (fun i hi => h i (by omega))
    have e2 := h n (by omega)
    omega
/-- all numbers below N lie in a list: it has N places at least -/
theorem st_pigeon : ∀ (N : Nat) (L : List Nat), (∀ n, n < N → n ∈ L) → N ≤ L.length := by
  intro N
  induction N with
  | zero => intro L _; exact Nat.zero_le _
  | succ N ih =>
    intro L h
    have h1 := ih (L.erase N) (fun n hn => (List.mem_erase_of_ne (by omega)).mpr (h n (by omega)))
    have h2 := List.length_erase_of_mem (h N (by omega))
    have h3 := List.length_pos_of_mem (h N (by omega))
    omega
theorem st_len_fm {α : Type} {f : α → List Nat} {B : Nat} : ∀ (l : List α), (∀ x, x ∈ l → (f x).length ≤ B) → (l.flatMap f).length ≤ B * l.length := by
  intro l
  induction l with
  | nil => intro _; exact Nat.zero_le _
  | cons a l ih =>
    intro h
    have e1 := ih (fun x hx => h x (List.mem_cons_of_mem _ hx))
    have e2 := h a List.mem_cons_self
    rw [List.flatMap_cons, List.length_append, List.length_cons, Nat.mul_succ]
    omega
/-- how many of the first n places a test holds at -/
theorem st_len_flt (p : Nat → Bool) : ∀ n, ((List.range n).filter p).length = st_sm (fun k => if p k = true then 1 else 0) n := by
  intro n
  induction n with
  | zero => rfl
  | succ n ih =>
    rw [List.range_succ, List.filter_append, List.length_append, ih, st_sm_s]
    by_cases e : p n = true
    · simp [e]
    · simp [e]
def st_up (f : Nat → Nat) (k v : Nat) : Nat → Nat := fun j => if j = k then v else f j
theorem st_ups {f : Nat → Nat} {k v : Nat} : st_up f k v k = v := if_pos rfl
theorem st_upn {f : Nat → Nat} {k v j : Nat} (h : j ≠ k) : st_up f k v j = f j := if_neg h
def st_e (x : Int32) (k : Nat) : Nat := if x = nI k then 1 else 0
theorem st_e_self (k : Nat) : st_e (nI k) k = 1 := if_pos rfl
theorem st_e_ne {x : Int32} {k : Nat} (h : x ≠ nI k) : st_e x k = 0 := if_neg h
theorem st_e_pos {x : Int32} {k : Nat} (h : 0 < st_e x k) : x = nI k := by
  by_cases e : x = nI k
  · exact e
  · rw [st_e_ne e] at h; omega
theorem st_e_le (x : Int32) (k : Nat) : st_e x k ≤ 1 := by
  unfold st_e
  split <;> omega
theorem st_m1_ne {k : Nat} (hk : k < 2 ^ 31) : (-1 : Int32) ≠ nI k := by
  intro z
  have h := nI_pos hk
  rw [← z] at h
  exact h (by decide)
theorem st_e_m1 {k : Nat} (hk : k < 400) : st_e (-1) k = 0 := st_e_ne (st_m1_ne (by omega))
theorem st_nn {c k : Nat} (hc : c < 402) (hk : k < 402) (h : c ≠ k) : nI c ≠ nI k := fun z => h ((nI_eq (by omega) (by omega)).mp z)
theorem st_e_nn {c k : Nat} (hc : c < 402) (hk : k < 402) (h : c ≠ k) : st_e (nI c) k = 0 := st_e_ne (st_nn hc hk h)
/-- the references to k out of the node p, if it is an inner one -/
def st_g (h : Nat → Nat) (A : Nat → Int32) (k p : Nat) : Nat := if 2 ≤ h p then st_sm (fun w => st_e (A (4 * p + w)) k) 4 else 0
def st_rf (h : Nat → Nat) (A : Nat → Int32) (P : Nat → Nat) (k : Nat) : Nat := st_sm (st_g h A k) 402 + P k
def st_ok (h : Nat → Nat) (l : Nat) (x : Int32) : Prop := x = -1 ∨ ∃ c, c < 400 ∧ x = nI c ∧ h c = l
def st_H (h : Nat → Nat) (A a2 a3 : Nat → Int32) (P : Nat → Nat) : Prop :=
  (∀ p, p < 400 → a3 p = nI (st_rf h A P p)) ∧ (∀ p, p < 400 → (0 < h p ↔ 0 < st_rf h A P p)) ∧ (∀ p, p < 400 → h p ≤ 4) ∧ (h 400 = 5 ∧ h 401 = 5) ∧
  (∀ p, p < 402 → 2 ≤ h p → ∀ w, w < 4 → st_ok h (h p - 1) (A (4 * p + w))) ∧ (∀ p, p < 400 → 2 ≤ h p → a2 p = 0) ∧ (∀ p, p < 400 → h p = 1 → ∃ b, b < 16 ∧ a2 p = nI (256 + b))
theorem st_g_le (h : Nat → Nat) (A : Nat → Int32) (k p : Nat) : st_g h A k p ≤ 4 := by
  unfold st_g
  split
  · exact st_sm_le (B := 1) (fun w _ => st_e_le _ _)
  · omega
theorem st_rf_bd (h : Nat → Nat) (A : Nat → Int32) (P : Nat → Nat) (k : Nat) : st_rf h A P k ≤ 1608 + P k := by
  have := st_sm_le (f := st_g h A k) (B := 4) (n := 402) (fun p _ => st_g_le h A k p)
  unfold st_rf
  omega
theorem st_g_cell {h : Nat → Nat} {A : Nat → Int32} {k p w : Nat} (h2 : 2 ≤ h p) (hw : w < 4) (e : A (4 * p + w) = nI k) : 1 ≤ st_g h A k p := by
  unfold st_g
  rw [if_pos h2]
  have := st_sm_ge (f := fun w => st_e (A (4 * p + w)) k) hw
  have e1 : st_e (A (4 * p + w)) k = 1 := by rw [e]; exact st_e_self k
  simp only [e1] at this
  exact this
theorem st_rf_cell {h : Nat → Nat} {A : Nat → Int32} {P : Nat → Nat} {k p w : Nat} (hp : p < 402) (h2 : 2 ≤ h p) (hw : w < 4) (e : A (4 * p + w) = nI k) : 1 + P k ≤ st_rf h A P k := by
  have e1 := st_g_cell (h := h) h2 hw e
  have e2 := st_sm_ge (f := st_g h A k) hp
  unfold st_rf
  omega
theorem st_rf_uniq {h : Nat → Nat} {A : Nat → Int32} {P : Nat → Nat} {k p w p' w' : Nat} (hr : st_rf h A P k ≤ 1) (hp : p < 402) (h2 : 2 ≤ h p) (hw : w < 4) (e : A (4 * p + w) = nI k)
    (hp' : p' < 402) (h2' : 2 ≤ h p') (hw' : w' < 4) (e' : A (4 * p' + w') = nI k) : p = p' ∧ w = w' := by
  by_cases ep : p = p'
  · refine ⟨ep, ?_⟩
    by_cases ew : w = w'
    · exact ew
    · exfalso
      subst ep
      have e1 := st_sm_two (f := fun w => st_e (A (4 * p + w)) k) hw hw' ew
      have e2 : st_e (A (4 * p + w)) k = 1 := by rw [e]; exact st_e_self k
      have e3 : st_e (A (4 * p + w')) k = 1 := by rw [e']; exact st_e_self k
      simp only [e2, e3] at e1
      have e4 := st_sm_ge (f := st_g h A k) hp
      have e5 : st_g h A k p = st_sm (fun w => st_e (A (4 * p + w)) k) 4 := if_pos h2
      unfold st_rf at hr
      omega
  · exfalso
    have e1 := st_g_cell (h := h) h2 hw e
    have e2 := st_g_cell (h := h) h2' hw' e'
    have e3 := st_sm_two (f := st_g h A k) hp hp' ep
    unfold st_rf at hr
    omega
theorem st_rf_ex {h : Nat → Nat} {A : Nat → Int32} {P : Nat → Nat} {k : Nat} (hr : 0 < st_rf h A P k) (hP : P k = 0) : ∃ p w, p < 402 ∧ 2 ≤ h p ∧ w < 4 ∧ A (4 * p + w) = nI k := by
  unfold st_rf at hr
  obtain ⟨p, hp, hg⟩ := st_sm_pos (f := st_g h A k) (n := 402) (by omega)
  unfold st_g at hg
  by_cases h2 : 2 ≤ h p
  · rw [if_pos h2] at hg
    obtain ⟨w, hw, he⟩ := st_sm_pos hg
    exact ⟨p, w, hp, h2, hw, st_e_pos he⟩
  · rw [if_neg h2] at hg
    omega
end
section
/-! part 02: the elementary steps keep the heap -/
theorem st_H_P {h : Nat → Nat} {A a2 a3 : Nat → Int32} {P P' : Nat → Nat} (H : st_H h A a2 a3 P) (e : ∀ k, k < 400 → P k = P' k) : st_H h A a2 a3 P' := by
  obtain ⟨H1, H2, H3, H4, H5, H6, H7⟩ := H
  have er : ∀ k, k < 400 → st_rf h A P' k = st_rf h A P k := fun k hk => by unfold st_rf; rw [e k hk]
  exact ⟨fun p hp => by rw [er p hp]; exact H1 p hp, fun p hp => by rw [er p hp]; exact H2 p hp, H3, H4, H5, H6, H7⟩
theorem st_H_3 {h : Nat → Nat} {A a2 a3 a3' : Nat → Int32} {P : Nat → Nat} (H : st_H h A a2 a3 P) (e : ∀ k, k < 400 → a3' k = a3 k) : st_H h A a2 a3' P := by
  obtain ⟨H1, H2, H3, H4, H5, H6, H7⟩ := H
  exact ⟨fun p hp => by rw [e p hp]; exact H1 p hp, H2, H3, H4, H5, H6, H7⟩
theorem st_ok_c {h : Nat → Nat} {l c : Nat} (hc : c < 400) (e : h c = l) : st_ok h l (nI c) := Or.inr ⟨c, hc, rfl, e⟩
theorem st_ok_m {h : Nat → Nat} {l : Nat} : st_ok h l (-1) := Or.inl rfl
theorem st_ok_n {h : Nat → Nat} {l c : Nat} (hc : c < 400) (H : st_ok h l (nI c)) : h c = l := by
  rcases H with z | ⟨d, hd, e, hl⟩
  · exact absurd z.symm (st_m1_ne (by omega))
  · have : c = d := (nI_eq (by omega) (by omega)).mp e
    rw [this]; exact hl
theorem st_ok_up {h : Nat → Nat} {l n v : Nat} {x : Int32} (H : st_ok h l x) (hn : h n ≠ l) : st_ok (st_up h n v) l x := by
  rcases H with z | ⟨d, hd, e, hl⟩
  · exact Or.inl z
  · refine Or.inr ⟨d, hd, e, ?_⟩
    rw [st_upn (fun z => hn (by rw [← z]; exact hl))]
    exact hl
/-- a cell takes a pending reference; what it held is pending now -/
theorem st_rf_swap {h : Nat → Nat} {A : Nat → Int32} {P : Nat → Nat} {p w : Nat} {y : Int32} (hp : p < 402) (h2 : 2 ≤ h p) (hw : w < 4) (k : Nat) :
    st_rf h (upd A (4 * p + w) y) (fun k => st_e (A (4 * p + w)) k + P k) k = st_rf h A (fun k => st_e y k + P k) k := by
  have e1 := st_sm_upd (f := st_g h (upd A (4 * p + w) y) k) (g := st_g h A k) hp (fun q hq hne => by
    unfold st_g
    have : st_sm (fun w_1 => st_e (upd A (4 * p + w) y (4 * q + w_1)) k) 4 = st_sm (fun w => st_e (A (4 * q + w)) k) 4 := st_sm_congr (fun i hi => by rw [pk_un (by omega)])
    rw [this])
  have g1 : st_g h (upd A (4 * p + w) y) k p = st_sm (fun i => st_e (upd A (4 * p + w) y (4 * p + i)) k) 4 := if_pos h2
  have g2 : st_g h A k p = st_sm (fun i => st_e (A (4 * p + i)) k) 4 := if_pos h2
  have e2 := st_sm_upd (f := fun i => st_e (upd A (4 * p + w) y (4 * p + i)) k) (g := fun i => st_e (A (4 * p + i)) k) hw (fun i hi hne => by
    rw [pk_un (by omega)])
  rw [pk_us] at e2
  unfold st_rf
  dsimp only
  omega
theorem st_swap {h : Nat → Nat} {A a2 a3 : Nat → Int32} {P : Nat → Nat} {p w : Nat} {y : Int32} (H : st_H h A a2 a3 (fun k => st_e y k + P k)) (hp : p < 402) (h2 : 2 ≤ h p) (hw : w < 4) (hy : st_ok h (h p - 1) y) :
    st_H h (upd A (4 * p + w) y) a2 a3 (fun k => st_e (A (4 * p + w)) k + P k) := by
  obtain ⟨H1, H2, H3, H4, H5, H6, H7⟩ := H
  refine ⟨fun q hq => by rw [st_rf_swap hp h2 hw]; exact H1 q hq, fun q hq => by rw [st_rf_swap hp h2 hw]; exact H2 q hq, H3, H4, ?_, H6, H7⟩
  intro q hq hq2 i hi
  by_cases e : 4 * q + i = 4 * p + w
  · have e1 : q = p := by omega
    have e2 : i = w := by omega
    subst e1
    subst e2
    rw [pk_us]
    exact hy
  · rw [pk_un e]
    exact H5 q hq hq2 i hi
/-- a free node is made: it is pending -/
theorem st_new {h : Nat → Nat} {A a2 a3 A' a2' a3' : Nat → Int32} {P : Nat → Nat} {n l : Nat} (H : st_H h A a2 a3 P) (hn : n < 400) (h0 : h n = 0) (hl : 1 ≤ l) (hl4 : l ≤ 4)
    (hA : ∀ j, j / 4 ≠ n → A' j = A j) (hc : 2 ≤ l → ∀ w, w < 4 → st_ok h (l - 1) (A' (4 * n + w))) (ha2 : ∀ q, q ≠ n → a2' q = a2 q) (h21 : 2 ≤ l → a2' n = 0) (h22 : l = 1 → ∃ b, b < 16 ∧ a2' n = nI (256 + b))
    (ha3 : ∀ k, k < 400 → a3' k = (if k = n then 1 else a3 k) + nI (if 2 ≤ l then st_sm (fun w => st_e (A' (4 * n + w)) k) 4 else 0)) :
    st_H (st_up h n l) A' a2' a3' (fun k => st_e (nI n) k + P k) := by
  obtain ⟨H1, H2, H3, H4, H5, H6, H7⟩ := H
  have hX : ∀ k, k < 400 → h k = 0 → (if 2 ≤ l then st_sm (fun w => st_e (A' (4 * n + w)) k) 4 else 0) = 0 := by
    intro k hk hk0
    by_cases e : 2 ≤ l
    · rw [if_pos e]
      refine st_sm_zero (fun w hw => st_e_ne (fun z => ?_))
      have := hc e w hw
      rw [z] at this
      have := st_ok_n hk this
      omega
    · rw [if_neg e]
  have hr : ∀ k, k < 400 → st_rf (st_up h n l) A' (fun k => st_e (nI n) k + P k) k = st_rf h A P k + (if 2 ≤ l then st_sm (fun w => st_e (A' (4 * n + w)) k) 4 else 0) + st_e (nI n) k := by
    intro k hk
    have e1 := st_sm_upd (f := st_g (st_up h n l) A' k) (g := st_g h A k) (j := n) (n := 402) (by omega) (fun q hq hne => by
      unfold st_g
      rw [st_upn hne]
      have : st_sm (fun w => st_e (A' (4 * q + w)) k) 4 = st_sm (fun w => st_e (A (4 * q + w)) k) 4 := st_sm_congr (fun i hi => by rw [hA _ (by omega)])
      rw [this])
    have g1 : st_g h A k n = 0 := if_neg (by omega)
    have g2 : st_g (st_up h n l) A' k n = (if 2 ≤ l then st_sm (fun w => st_e (A' (4 * n + w)) k) 4 else 0) := by
      unfold st_g
      rw [st_ups]
    unfold st_rf
    dsimp only
    omega
  have hn0 : st_rf h A P n = 0 := by
    have := H2 n hn
    omega
  refine ⟨?_, ?_, ?_, ?_, ?_, ?_, ?_⟩
  · intro k hk
    rw [hr k hk, ha3 k hk]
    by_cases e : k = n
    · subst e
      rw [if_pos rfl, hX k hk h0, hn0, st_e_self]
      rfl
    · rw [if_neg e, H1 k hk, nI_add, st_e_nn (by omega) (by omega) (fun z => e z.symm)]
      rfl
  · intro k hk
    rw [hr k hk]
    by_cases e : k = n
    · subst e
      rw [st_ups, st_e_self]
      omega
    · rw [st_upn e, st_e_nn (by omega) (by omega) (fun z => e z.symm)]
      have h2 := H2 k hk
      by_cases e0 : h k = 0
      · have := hX k hk e0
        omega
      · omega
  · intro k hk
    by_cases e : k = n
    · subst e
      rw [st_ups]; exact hl4
    · rw [st_upn e]; exact H3 k hk
  · rw [st_upn (by omega), st_upn (by omega)]
    exact H4
  · intro q hq hq2 w hw
    by_cases e : q = n
    · subst e
      rw [st_ups] at hq2 ⊢
      exact st_ok_up (hc hq2 w hw) (by omega)
    · rw [st_upn e] at hq2 ⊢
      rw [hA _ (by omega)]
      exact st_ok_up (H5 q hq hq2 w hw) (by omega)
  · intro q hq hq2
    by_cases e : q = n
    · subst e
      rw [st_ups] at hq2
      exact h21 hq2
    · rw [st_upn e] at hq2
      rw [ha2 q e]
      exact H6 q hq hq2
  · intro q hq hq2
    by_cases e : q = n
    · subst e
      rw [st_ups] at hq2
      exact h22 hq2
    · rw [st_upn e] at hq2
      rw [ha2 q e]
      exact H7 q hq hq2
/-- a pending reference goes; others are left -/
theorem st_rel {h : Nat → Nat} {A a2 a3 : Nat → Int32} {P : Nat → Nat} {c : Nat} (H : st_H h A a2 a3 (fun k => st_e (nI c) k + P k)) (hc : c < 400) (h2 : 2 ≤ st_rf h A (fun k => st_e (nI c) k + P k) c) :
    st_H h A a2 (upd a3 c (a3 c - 1)) P := by
  obtain ⟨H1, H2, H3, H4, H5, H6, H7⟩ := H
  have hr : ∀ k, st_rf h A (fun k => st_e (nI c) k + P k) k = st_rf h A P k + st_e (nI c) k := fun k => by unfold st_rf; dsimp only; omega
  refine ⟨?_, ?_, H3, H4, H5, H6, H7⟩
  · intro k hk
    have h1 := H1 k hk
    rw [hr k] at h1
    by_cases e : k = c
    · subst e
      rw [pk_us, h1, st_e_self]
      exact nI_pred _
    · rw [pk_un e, h1, st_e_nn (by omega) (by omega) (fun z => e z.symm)]
      rfl
  · intro k hk
    have h1 := H2 k hk
    rw [hr k] at h1
    by_cases e : k = c
    · subst e
      rw [hr k] at h2
      rw [st_e_self] at h1 h2
      omega
    · rw [st_e_nn (by omega) (by omega) (fun z => e z.symm)] at h1
      exact h1
/-- the last reference goes, it was pending: the node is free, what it leads to is pending -/
theorem st_relz {h : Nat → Nat} {A a2 a3 : Nat → Int32} {P P' : Nat → Nat} {c : Nat} (H : st_H h A a2 a3 (fun k => st_e (nI c) k + P k)) (hc : c < 400) (h1 : st_rf h A (fun k => st_e (nI c) k + P k) c = 1)
    (hP : ∀ k, k < 400 → P' k = P k + (if 2 ≤ h c then st_sm (fun w => st_e (A (4 * c + w)) k) 4 else 0)) :
    st_H (st_up h c 0) A a2 (upd a3 c 0) P' := by
  obtain ⟨H1, H2, H3, H4, H5, H6, H7⟩ := H
  have hr : ∀ k, k < 400 → st_rf h A (fun k => st_e (nI c) k + P k) k = st_rf (st_up h c 0) A P' k + st_e (nI c) k := by
    intro k hk
    have e1 := st_sm_upd (f := st_g (st_up h c 0) A k) (g := st_g h A k) (j := c) (n := 402) (by omega) (fun q hq hne => by
      unfold st_g
      rw [st_upn hne])
    have g1 : st_g (st_up h c 0) A k c = 0 := if_neg (by rw [st_ups]; omega)
    have g2 : st_g h A k c = (if 2 ≤ h c then st_sm (fun w => st_e (A (4 * c + w)) k) 4 else 0) := rfl
    have := hP k hk
    unfold st_rf
    dsimp only
    omega
  have hz : st_rf (st_up h c 0) A P' c = 0 := by
    have := hr c hc
    rw [h1, st_e_self] at this
    omega
  refine ⟨?_, ?_, ?_, ?_, ?_, ?_, ?_⟩
  · intro k hk
    by_cases e : k = c
    · subst e
      rw [pk_us, hz]
      rfl
    · have := H1 k hk
      rw [hr k hk, st_e_nn (by omega) (by omega) (fun z => e z.symm)] at this
      rw [pk_un e]
      exact this
  · intro k hk
    by_cases e : k = c
    · subst e
      rw [st_ups, hz]
    · have := H2 k hk
      rw [hr k hk, st_e_nn (by omega) (by omega) (fun z => e z.symm)] at this
      rw [st_upn e]
      exact this
  · intro k hk
    by_cases e : k = c
    · subst e
      rw [st_ups]; omega
    · rw [st_upn e]; exact H3 k hk
  · rw [st_upn (by omega), st_upn (by omega)]
    exact H4
  · intro q hq hq2 w hw
    by_cases e : q = c
    · subst e
      rw [st_ups] at hq2
      omega
    · rw [st_upn e] at hq2 ⊢
      rcases H5 q hq hq2 w hw with z | ⟨d, hd, ed, hl⟩
      · exact Or.inl z
      · refine Or.inr ⟨d, hd, ed, ?_⟩
        by_cases e' : d = c
        · exfalso
          subst e'
          have := st_rf_cell (h := h) (P := fun k => st_e (nI d) k + P k) hq hq2 hw ed
          rw [st_e_self] at this
          omega
        · rw [st_upn e']
          exact hl
  · intro q hq hq2
    by_cases e : q = c
    · subst e
      rw [st_ups] at hq2
      omega
    · rw [st_upn e] at hq2
      exact H6 q hq hq2
  · intro q hq hq2
    by_cases e : q = c
    · subst e
      rw [st_ups] at hq2
      omega
    · rw [st_upn e] at hq2
      exact H7 q hq hq2
/-- one user more of a node that is there: pending -/
theorem st_dup {h : Nat → Nat} {A a2 a3 : Nat → Int32} {P : Nat → Nat} {c : Nat} (H : st_H h A a2 a3 P) (hc : c < 400) (hl : 0 < h c) :
    st_H h A a2 (upd a3 c (a3 c + 1)) (fun k => st_e (nI c) k + P k) := by
  obtain ⟨H1, H2, H3, H4, H5, H6, H7⟩ := H
  have hr : ∀ k, st_rf h A (fun k => st_e (nI c) k + P k) k = st_rf h A P k + st_e (nI c) k := fun k => by unfold st_rf; dsimp only; omega
  refine ⟨?_, ?_, H3, H4, H5, H6, H7⟩
  · intro k hk
    have h1 := H1 k hk
    rw [hr k]
    by_cases e : k = c
    · subst e
      rw [pk_us, h1, st_e_self]
      exact nI_1 _
    · rw [pk_un e, h1, st_e_nn (by omega) (by omega) (fun z => e z.symm)]
      rfl
  · intro k hk
    have h1 := H2 k hk
    rw [hr k]
    by_cases e : k = c
    · subst e
      rw [st_e_self]
      omega
    · rw [st_e_nn (by omega) (by omega) (fun z => e z.symm)]
      exact h1
/-- a leaf's values and bits are written -/
theorem st_leafw {h : Nat → Nat} {A A' a2 a2' a3 : Nat → Int32} {P : Nat → Nat} {n b : Nat} (H : st_H h A a2 a3 P) (hn : n < 400) (h1 : h n = 1) (hb : b < 16) (hA : ∀ j, j / 4 ≠ n → A' j = A j) (ha : ∀ q, q ≠ n → a2' q = a2 q) (hv : a2' n = nI (256 + b)) :
    st_H h A' a2' a3 P := by
  obtain ⟨H1, H2, H3, H4, H5, H6, H7⟩ := H
  have hr : ∀ k, st_rf h A' P k = st_rf h A P k := by
    intro k
    have : st_sm (st_g h A' k) 402 = st_sm (st_g h A k) 402 := st_sm_congr (fun q hq => by
      unfold st_g
      by_cases e : 2 ≤ h q
      · rw [if_pos e, if_pos e]
        exact st_sm_congr (fun i hi => by rw [hA _ (fun z => absurd (show q = n by omega) (fun y => by subst y; omega))])
      · rw [if_neg e, if_neg e])
    unfold st_rf
    rw [this]
  refine ⟨fun k hk => by rw [hr k]; exact H1 k hk, fun k hk => by rw [hr k]; exact H2 k hk, H3, H4, ?_, ?_, ?_⟩
  · intro q hq hq2 w hw
    rw [hA _ (fun z => absurd (show q = n by omega) (fun y => by subst y; omega))]
    exact H5 q hq hq2 w hw
  · intro q hq hq2
    rw [ha q (fun z => by subst z; omega)]
    exact H6 q hq hq2
  · intro q hq hq2
    by_cases e : q = n
    · subst e
      exact ⟨b, hb, hv⟩
    · rw [ha q e]
      exact H7 q hq hq2
end
section
/-! part 03: what a map holds at a key, and steps that keep it -/
def st_ch (A : Nat → Int32) (x : Int32) (w : Nat) : Int32 := if x < 0 then -1 else A (4 * x.toNatClampNeg + w)
def st_lf (A : Nat → Int32) : Nat → Int32 → Nat → Int32
  | 0, x, _ => x
  | d + 1, x, key => st_lf A d (st_ch A x (key / 4 ^ (d + 1) % 4)) key
def st_bt (x : Int32) (i : Nat) : Bool := x.toBitVec.getLsbD i
def st_val (A a2 : Nat → Int32) (x : Int32) (b : Nat) : Option Int32 := if x < 0 then none else if st_bt (a2 x.toNatClampNeg) b = true then some (A (4 * x.toNatClampNeg + b)) else none
def st_se (A a2 : Nat → Int32) (d : Nat) (x : Int32) (key : Nat) : Option Int32 := st_val A a2 (st_lf A d x key) (key % 4)
def st_ms (A a2 : Nat → Int32) (m key : Nat) : Option Int32 := st_se A a2 3 (A (1600 + m)) key
theorem st_m1_neg : (-1 : Int32) < 0 := by decide
theorem st_ch_m (A : Nat → Int32) (w : Nat) : st_ch A (-1) w = -1 := if_pos st_m1_neg
theorem st_ch_n (A : Nat → Int32) {c : Nat} (hc : c < 2 ^ 31) (w : Nat) : st_ch A (nI c) w = A (4 * c + w) := by
  unfold st_ch
  rw [if_neg (nI_pos hc), nI_clamp hc]
theorem st_lf_s (A : Nat → Int32) (d : Nat) (x : Int32) (key : Nat) : st_lf A (d + 1) x key = st_lf A d (st_ch A x (key / 4 ^ (d + 1) % 4)) key := rfl
theorem st_se_s (A a2 : Nat → Int32) (d : Nat) (x : Int32) (key : Nat) : st_se A a2 (d + 1) x key = st_se A a2 d (st_ch A x (key / 4 ^ (d + 1) % 4)) key := rfl
theorem st_lf_m (A : Nat → Int32) (key : Nat) : ∀ d, st_lf A d (-1) key = -1 := by
  intro d
  induction d with
  | zero => rfl
  | succ d ih => rw [st_lf_s, st_ch_m]; exact ih
theorem st_val_m (A a2 : Nat → Int32) (b : Nat) : st_val A a2 (-1) b = none := if_pos st_m1_neg
theorem st_val_n (A a2 : Nat → Int32) {c : Nat} (hc : c < 2 ^ 31) (b : Nat) : st_val A a2 (nI c) b = if st_bt (a2 c) b = true then some (A (4 * c + b)) else none := by
  unfold st_val
  rw [if_neg (nI_pos hc), nI_clamp hc]
theorem st_se_m (A a2 : Nat → Int32) (d key : Nat) : st_se A a2 d (-1) key = none := by
  unfold st_se
  rw [st_lf_m, st_val_m]
theorem st_se_0 (A a2 : Nat → Int32) {c : Nat} (hc : c < 2 ^ 31) (key : Nat) : st_se A a2 0 (nI c) key = if st_bt (a2 c) (key % 4) = true then some (A (4 * c + key % 4)) else none := st_val_n A a2 hc _
theorem st_se_n (A a2 : Nat → Int32) (d : Nat) {c : Nat} (hc : c < 2 ^ 31) (key : Nat) : st_se A a2 (d + 1) (nI c) key = st_se A a2 d (A (4 * c + key / 4 ^ (d + 1) % 4)) key := by
  rw [st_se_s, st_ch_n A hc]
theorem st_lf_ok {h : Nat → Nat} {A a2 a3 : Nat → Int32} {P : Nat → Nat} (H : st_H h A a2 a3 P) (key : Nat) : ∀ d x, st_ok h (d + 1) x → st_ok h 1 (st_lf A d x key) := by
  intro d
  induction d with
  | zero => intro x hx; exact hx
  | succ d ih =>
    intro x hx
    rw [st_lf_s]
    rcases hx with z | ⟨c, hc, e, hl⟩
    · rw [z, st_ch_m]
      exact ih _ st_ok_m
    · rw [e, st_ch_n A (by omega)]
      have := H.2.2.2.2.1 c (by omega) (by omega) (key / 4 ^ (d + 1) % 4) (Nat.mod_lt _ (by omega))
      rw [hl] at this
      exact ih _ this
theorem st_lf_agree {h : Nat → Nat} {A A' a2 a3 : Nat → Int32} {P : Nat → Nat} (H : st_H h A a2 a3 P) (hA : ∀ c w, c < 400 → 2 ≤ h c → w < 4 → A' (4 * c + w) = A (4 * c + w)) (key : Nat) :
    ∀ d x, st_ok h (d + 1) x → st_lf A' d x key = st_lf A d x key := by
  intro d
  induction d with
  | zero => intro x hx; rfl
  | succ d ih =>
    intro x hx
    rw [st_lf_s, st_lf_s]
    rcases hx with z | ⟨c, hc, e, hl⟩
    · rw [z, st_ch_m, st_ch_m]
      exact ih _ st_ok_m
    · have hw : key / 4 ^ (d + 1) % 4 < 4 := Nat.mod_lt _ (by omega)
      rw [e, st_ch_n A (by omega), st_ch_n A' (by omega), hA c _ hc (by omega) hw]
      have := H.2.2.2.2.1 c (by omega) (by omega) _ hw
      rw [hl] at this
      exact ih _ this
theorem st_se_agree {h : Nat → Nat} {A A' a2 a2' a3 : Nat → Int32} {P : Nat → Nat} (H : st_H h A a2 a3 P) (hA : ∀ c w, c < 400 → 0 < h c → w < 4 → A' (4 * c + w) = A (4 * c + w)) (ha : ∀ c, c < 400 → 0 < h c → a2' c = a2 c) (key : Nat) (d : Nat) (x : Int32) (hx : st_ok h (d + 1) x) :
    st_se A' a2' d x key = st_se A a2 d x key := by
  unfold st_se
  rw [st_lf_agree H (fun c w hc h2 hw => hA c w hc (by omega) hw) key d x hx]
  rcases st_lf_ok H key d x hx with z | ⟨c, hc, e, hl⟩
  · rw [z, st_val_m, st_val_m]
  · rw [e, st_val_n A a2 (by omega), st_val_n A' a2' (by omega), ha c hc (by omega), hA c _ hc (by omega) (Nat.mod_lt _ (by omega))]
/-- a cell takes something that holds the same: no map changes -/
theorem st_se_swap {h : Nat → Nat} {A a2 a3 : Nat → Int32} {P : Nat → Nat} {p w : Nat} {y : Int32} (H : st_H h A a2 a3 P) (hp : p < 402) (h2 : 2 ≤ h p) (hw : w < 4) (hy : st_ok h (h p - 1) y)
    (he : ∀ key, st_se A a2 (h p - 2) y key = st_se A a2 (h p - 2) (A (4 * p + w)) key) (key : Nat) : ∀ d x, st_ok h (d + 1) x → st_se (upd A (4 * p + w) y) a2 d x key = st_se A a2 d x key := by
  intro d
  induction d with
  | zero =>
    intro x hx
    rcases hx with z | ⟨c, hc, e, hl⟩
    · rw [z, st_se_m, st_se_m]
    · have hk : key % 4 < 4 := Nat.mod_lt _ (by omega)
      have hcp : c ≠ p := fun z => by subst z; omega
      rw [e, st_se_0 _ _ (by omega), st_se_0 _ _ (by omega), pk_un (by omega)]
  | succ d ih =>
    intro x hx
    rcases hx with z | ⟨c, hc, e, hl⟩
    · rw [z, st_se_m, st_se_m]
    · rw [e, st_se_n _ _ _ (by omega), st_se_n _ _ _ (by omega)]
      have hk : key / 4 ^ (d + 1) % 4 < 4 := Nat.mod_lt _ (by omega)
      generalize key / 4 ^ (d + 1) % 4 = t at hk ⊢
      by_cases eq : 4 * c + t = 4 * p + w
      · have e1 : c = p := by omega
        have e2 : t = w := by omega
        subst e1
        subst e2
        have hd : d = h c - 2 := by omega
        have hd1 : d + 1 = h c - 1 := by omega
        rw [pk_us, ih y (by rw [hd1]; exact hy), hd]
        exact he key
      · rw [pk_un eq]
        have := H.2.2.2.2.1 c (by omega) (by omega) t hk
        rw [hl] at this
        exact ih _ this
theorem st_ms_swap {h : Nat → Nat} {A a2 a3 : Nat → Int32} {P : Nat → Nat} {p w : Nat} {y : Int32} (H : st_H h A a2 a3 P) (hp : p < 402) (h2 : 2 ≤ h p) (hw : w < 4) (hy : st_ok h (h p - 1) y)
    (he : ∀ key, st_se A a2 (h p - 2) y key = st_se A a2 (h p - 2) (A (4 * p + w)) key) (key m : Nat) (hm : m < 8) : st_ms (upd A (4 * p + w) y) a2 m key = st_ms A a2 m key := by
  unfold st_ms
  by_cases e : 1600 + m = 4 * p + w
  · have hp5 : h p = 5 := by
      have : p = 400 ∨ p = 401 := by omega
      rcases this with z | z
      · rw [z]; exact H.2.2.2.1.1
      · rw [z]; exact H.2.2.2.1.2
    rw [e, pk_us]
    rw [hp5] at he hy
    rw [st_se_swap H hp h2 hw (by rw [hp5]; exact hy) (by rw [hp5]; exact he) key 3 y hy]
    exact he key
  · rw [pk_un e]
    refine st_se_swap H hp h2 hw hy he key 3 _ ?_
    have h5 : h (400 + m / 4) = 5 := by
      have : m / 4 = 0 ∨ m / 4 = 1 := by omega
      rcases this with z | z
      · rw [z]; exact H.2.2.2.1.1
      · rw [z]; exact H.2.2.2.1.2
    have := H.2.2.2.2.1 (400 + m / 4) (by omega) (by omega) (m % 4) (Nat.mod_lt _ (by omega))
    rw [h5, show 4 * (400 + m / 4) + m % 4 = 1600 + m by omega] at this
    exact this
theorem st_root_ok {h : Nat → Nat} {A a2 a3 : Nat → Int32} {P : Nat → Nat} (H : st_H h A a2 a3 P) {m : Nat} (hm : m < 8) : st_ok h 4 (A (1600 + m)) := by
  have h5 : h (400 + m / 4) = 5 := by
    have : m / 4 = 0 ∨ m / 4 = 1 := by omega
    rcases this with z | z
    · rw [z]; exact H.2.2.2.1.1
    · rw [z]; exact H.2.2.2.1.2
  have := H.2.2.2.2.1 (400 + m / 4) (by omega) (by omega) (m % 4) (Nat.mod_lt _ (by omega))
  rw [h5, show 4 * (400 + m / 4) + m % 4 = 1600 + m by omega] at this
  exact this
/-- a root is replaced: that map alone changes -/
theorem st_ms_root {h : Nat → Nat} {A a2 a3 : Nat → Int32} {P : Nat → Nat} {m : Nat} {y : Int32} (H : st_H h A a2 a3 P) (hy : st_ok h 4 y) (key m' : Nat) (hm' : m' < 8) :
    st_ms (upd A (1600 + m) y) a2 m' key = if m' = m then st_se A a2 3 y key else st_ms A a2 m' key := by
  have ag : ∀ x, st_ok h 4 x → st_se (upd A (1600 + m) y) a2 3 x key = st_se A a2 3 x key := fun x hx => st_se_agree H (fun c w hc _ hw => pk_un (by omega)) (fun _ _ _ => rfl) key 3 x hx
  unfold st_ms
  by_cases e : m' = m
  · subst e
    rw [pk_us, if_pos rfl]
    exact ag y hy
  · rw [pk_un (by omega), if_neg e]
    exact ag _ (st_root_ok H hm')
theorem st_hne {h : Nat → Nat} {c n a b : Nat} (h1 : h c = a) (h2 : h n = b) (hab : a ≠ b) : c ≠ n := fun z => by subst z; exact hab (h1.symm.trans h2)
theorem st_bt256 : ∀ i, i < 4 → st_bt (nI 256) i = false := by decide
/-- a cell's node is replaced by a copy of its own, or a new one -/
theorem st_own {h : Nat → Nat} {A A1 a2 a3 a2' a3' : Nat → Int32} {p w n : Nat} (H : st_H h A a2 a3 (fun _ => 0)) (hp : p < 402) (h2 : 2 ≤ h p) (hw : w < 4) (hn : n < 400) (h0 : h n = 0)
    (hA1 : ∀ j, j / 4 ≠ n → A1 j = A j)
    (hsrc : (A (4 * p + w) = -1 ∧ (3 ≤ h p → ∀ i, i < 4 → A1 (4 * n + i) = -1) ∧ (h p = 2 → a2' n = nI 256)) ∨ ∃ c, c < 400 ∧ A (4 * p + w) = nI c ∧ a3 c ≠ 1 ∧ (∀ i, i < 4 → A1 (4 * n + i) = A (4 * c + i)) ∧ (h p = 2 → a2' n = a2 c))
    (ha2 : ∀ q, q ≠ n → a2' q = a2 q) (h21 : 3 ≤ h p → a2' n = 0)
    (ha3 : ∀ k, k < 400 → a3' k = (if k = n then 1 else a3 k) + nI (if 3 ≤ h p then st_sm (fun i => st_e (A1 (4 * n + i)) k) 4 else 0) - nI (st_e (A (4 * p + w)) k)) :
    st_H (st_up h n (h p - 1)) (upd A1 (4 * p + w) (nI n)) a2' a3' (fun _ => 0) ∧ (∀ m, m < 8 → ∀ key, st_ms (upd A1 (4 * p + w) (nI n)) a2' m key = st_ms A a2 m key) ∧ a3' n = 1 ∧ (∀ q, q < 400 → h p ≤ h q → a3' q = a3 q) := by
  have hpn : p ≠ n := fun z => by subst z; omega
  have hp10 : h p - 1 ≠ 0 := by omega
  have h5 : h p ≤ 5 := by
    by_cases z : p < 400
    · have := H.2.2.1 p z; omega
    · have : p = 400 ∨ p = 401 := by omega
      rcases this with z | z
      · rw [z]; exact Nat.le_of_eq H.2.2.2.1.1
      · rw [z]; exact Nat.le_of_eq H.2.2.2.1.2
  have hx1 : A1 (4 * p + w) = A (4 * p + w) := hA1 _ (by omega)
  have hxok : st_ok h (h p - 1) (A (4 * p + w)) := H.2.2.2.2.1 p hp h2 w hw
  have hcok : 3 ≤ h p → ∀ i, i < 4 → st_ok h (h p - 1 - 1) (A1 (4 * n + i)) := by
    intro h3 i hi
    rcases hsrc with ⟨_, e, _⟩ | ⟨c, hc, e, _, e1, _⟩
    · rw [e h3 i hi]; exact st_ok_m
    · rw [e] at hxok
      have hcl := st_ok_n hc hxok
      have := H.2.2.2.2.1 c (by omega) (by omega) i hi
      rw [e1 i hi]
      rw [hcl] at this
      exact this
  have hleaf : h p = 2 → ∃ b, b < 16 ∧ a2' n = nI (256 + b) := by
    intro e2
    rcases hsrc with ⟨_, _, e⟩ | ⟨c, hc, e, _, _, e1⟩
    · exact ⟨0, by omega, e e2⟩
    · rw [e] at hxok
      have hcl := st_ok_n hc hxok
      rw [e1 e2]
      exact H.2.2.2.2.2.2 c hc (by omega)
  have N1 := st_new (A' := A1) (a2' := a2') (a3' := fun k => (if k = n then 1 else a3 k) + nI (if 2 ≤ h p - 1 then st_sm (fun i => st_e (A1 (4 * n + i)) k) 4 else 0)) (l := h p - 1) H hn h0 (by omega) (by omega) hA1
    (fun z => hcok (by omega)) ha2 (fun z => h21 (by omega)) (fun z => hleaf (by omega)) (fun k _ => rfl)
  have hup : st_up h n (h p - 1) p = h p := st_upn hpn
  have N2 := st_swap N1 hp (by rw [hup]; exact h2) hw (by rw [hup]; exact st_ok_c hn st_ups)
  have e23 : (2 ≤ h p - 1) = (3 ≤ h p) := propext ⟨fun z => by omega, fun z => by omega⟩
  rw [hx1] at N2
  simp only [e23] at N2 N1
  have hnr : ∀ k, k < 400 → h k = 0 → st_e (A (4 * p + w)) k = 0 := by
    intro k hk hk0
    refine st_e_ne (fun z => ?_)
    rw [z] at hxok
    have := st_ok_n hk hxok
    omega
  have hcr : ∀ k, k < 400 → (h k = 0 ∨ h p ≤ h k) → (if 3 ≤ h p then st_sm (fun i => st_e (A1 (4 * n + i)) k) 4 else 0) = 0 := by
    intro k hk hk0
    by_cases h3 : 3 ≤ h p
    · rw [if_pos h3]
      refine st_sm_zero (fun i hi => st_e_ne (fun z => ?_))
      have := hcok h3 i hi
      rw [z] at this
      have := st_ok_n hk this
      omega
    · rw [if_neg h3]
  refine ⟨?_, ?_, ?_, ?_⟩
  · rcases hsrc with ⟨e, _, _⟩ | ⟨c, hc, e, hne, _, _⟩
    · rw [e] at N2 ha3
      refine st_H_3 (st_H_P N2 (fun k hk => by rw [st_e_m1 hk])) (fun k hk => ?_)
      rw [ha3 k hk, st_e_m1 hk]
      exact Int32.sub_zero _
    · rw [e] at N2 ha3
      have hcl : h c = h p - 1 := by rw [e] at hxok; exact st_ok_n hc hxok
      have hcn : c ≠ n := st_hne hcl h0 hp10
      have r0 : 2 ≤ st_rf h A (fun _ => 0) c := by
        have r1 := st_rf_cell (P := fun _ => 0) hp h2 hw e
        have r2 := H.1 c hc
        by_cases z : st_rf h A (fun _ => 0) c = 1
        · rw [z] at r2
          exact absurd r2 hne
        · omega
      have r3 := N2.1 c hc
      dsimp only at r3
      rw [if_neg hcn, H.1 c hc, nI_add] at r3
      have b1 := st_rf_bd h A (fun _ => 0) c
      have b2 := st_rf_bd (st_up h n (h p - 1)) (upd A1 (4 * p + w) (nI n)) (fun k => st_e (nI c) k + 0) c
      have b3 : (if 3 ≤ h p then st_sm (fun i => st_e (A1 (4 * n + i)) c) 4 else 0) ≤ 4 := by
        split
        · exact st_sm_le (B := 1) (fun _ _ => st_e_le _ _)
        · omega
      have b4 := st_e_le (nI c) c
      have r4 := (nI_eq (by omega) (by omega)).mp r3
      refine st_H_3 (st_rel N2 hc (by omega)) (fun k hk => ?_)
      rw [ha3 k hk]
      by_cases z : k = c
      · subst z
        rw [pk_us, st_e_self]
        rfl
      · rw [pk_un z, st_e_nn (by omega) (by omega) (fun q => z q.symm)]
        exact Int32.sub_zero _
  · intro m hm key
    have ag : ∀ d x, st_ok h (d + 1) x → ∀ key, st_se A1 a2' d x key = st_se A a2 d x key := fun d x hx key =>
      st_se_agree H (fun c i hc hl hi => hA1 _ (fun z => absurd (show c = n by omega) (fun y => by subst y; omega))) (fun c hc hl => ha2 c (fun z => by subst z; omega)) key d x hx
    rw [st_ms_swap N1 hp (by rw [hup]; exact h2) hw (by rw [hup]; exact st_ok_c hn st_ups) ?_ key m hm]
    · unfold st_ms
      rw [hA1 _ (by omega)]
      exact ag 3 _ (st_root_ok H hm) key
    · intro key
      rw [hup, hx1]
      rcases hsrc with ⟨e, e1, e2⟩ | ⟨c, hc, e, _, e1, e2⟩
      · rw [e, st_se_m]
        by_cases h3 : 3 ≤ h p
        · rw [show h p - 2 = (h p - 3) + 1 by omega, st_se_n _ _ _ (by omega), e1 h3 _ (Nat.mod_lt _ (by omega)), st_se_m]
        · rw [show h p - 2 = 0 by omega, st_se_0 _ _ (by omega), e2 (by omega), st_bt256 _ (Nat.mod_lt _ (by omega)), if_neg (by decide)]
      · have hcl : h c = h p - 1 := by rw [e] at hxok; exact st_ok_n hc hxok
        have hcn : c ≠ n := st_hne hcl h0 hp10
        rw [e]
        by_cases h3 : 3 ≤ h p
        · rw [show h p - 2 = (h p - 3) + 1 by omega, st_se_n _ _ _ (by omega), st_se_n _ _ _ (by omega), e1 _ (Nat.mod_lt _ (by omega)), hA1 (4 * c + _) (by omega)]
        · rw [show h p - 2 = 0 by omega, st_se_0 _ _ (by omega), st_se_0 _ _ (by omega), e2 (by omega), e1 _ (Nat.mod_lt _ (by omega)), hA1 (4 * c + _) (by omega), ha2 c hcn]
  · rw [ha3 n hn, if_pos rfl, hnr n hn h0, hcr n hn (Or.inl h0)]
    rfl
  · intro q hq hl
    rw [ha3 q hq, if_neg (fun z => by subst z; omega), hcr q hq (Or.inr hl)]
    have : st_e (A (4 * p + w)) q = 0 := by
      refine st_e_ne (fun z => ?_)
      rw [z] at hxok
      have := st_ok_n hq hxok
      omega
    rw [this]
    show a3 q + 0 - 0 = a3 q
    rw [Int32.sub_zero, Int32.add_zero]
end
section
/-! part 04: a free node is there, by counting -/
def st_cd (f : Nat → Option Int32) : Nat := st_sm (fun k => if (f k).isSome = true then 1 else 0) 256
def st_n1 (A : Nat → Int32) (m key : Nat) : Int32 := st_ch A (A (1600 + m)) (key / 64 % 4)
def st_n2 (A : Nat → Int32) (m key : Nat) : Int32 := st_ch A (st_n1 A m key) (key / 16 % 4)
def st_n3 (A : Nat → Int32) (m key : Nat) : Int32 := st_ch A (st_n2 A m key) (key / 4 % 4)
theorem st_lf3 (A : Nat → Int32) (m key : Nat) : st_lf A 3 (A (1600 + m)) key = st_n3 A m key := rfl
theorem st_ms3 (A a2 : Nat → Int32) (m key : Nat) : st_ms A a2 m key = st_val A a2 (st_n3 A m key) (key % 4) := rfl
theorem st_parent {h : Nat → Nat} {A a2 a3 : Nat → Int32} (H : st_H h A a2 a3 (fun _ => 0)) {n : Nat} (hn : n < 400) (hl : 0 < h n) : ∃ p w, p < 402 ∧ h p = h n + 1 ∧ w < 4 ∧ A (4 * p + w) = nI n := by
  obtain ⟨p, w, hp, h2, hw, e⟩ := st_rf_ex ((H.2.1 n hn).mp hl) rfl
  have := H.2.2.2.2.1 p hp h2 w hw
  rw [e] at this
  have := st_ok_n hn this
  exact ⟨p, w, hp, by omega, hw, e⟩
theorem st_r4 {h : Nat → Nat} {A a2 a3 : Nat → Int32} (H : st_H h A a2 a3 (fun _ => 0)) {n : Nat} (hn : n < 400) (hl : h n = 4) : ∃ m, m < 8 ∧ A (1600 + m) = nI n := by
  obtain ⟨p, w, hp, hh, hw, e⟩ := st_parent H hn (by omega)
  have : ¬ p < 400 := fun z => by have := H.2.2.1 p z; omega
  exact ⟨4 * (p - 400) + w, by omega, by rw [show 1600 + (4 * (p - 400) + w) = 4 * p + w by omega]; exact e⟩
theorem st_low {h : Nat → Nat} {A a2 a3 : Nat → Int32} (H : st_H h A a2 a3 (fun _ => 0)) {p : Nat} (hp : p < 402) (hl : h p ≤ 4) : p < 400 := by
  by_cases z : p < 400
  · exact z
  · have : p = 400 ∨ p = 401 := by omega
    rcases this with z | z
    · rw [z] at hl; have := H.2.2.2.1.1; omega
    · rw [z] at hl; have := H.2.2.2.1.2; omega
theorem st_r3 {h : Nat → Nat} {A a2 a3 : Nat → Int32} (H : st_H h A a2 a3 (fun _ => 0)) {n : Nat} (hn : n < 400) (hl : h n = 3) : ∃ m q, m < 8 ∧ q < 4 ∧ ∀ key, key / 64 = q → st_n1 A m key = nI n := by
  obtain ⟨p, w, hp, hh, hw, e⟩ := st_parent H hn (by omega)
  have hp4 := st_low H hp (by omega)
  obtain ⟨m, hm, em⟩ := st_r4 H hp4 (by omega)
  refine ⟨m, w, hm, hw, fun key hk => ?_⟩
  unfold st_n1
  rw [em, st_ch_n A (by omega), hk, Nat.mod_eq_of_lt hw]
  exact e
theorem st_r2 {h : Nat → Nat} {A a2 a3 : Nat → Int32} (H : st_H h A a2 a3 (fun _ => 0)) {n : Nat} (hn : n < 400) (hl : h n = 2) : ∃ m q, m < 8 ∧ q < 16 ∧ ∀ key, key / 16 = q → st_n2 A m key = nI n := by
  obtain ⟨p, w, hp, hh, hw, e⟩ := st_parent H hn (by omega)
  have hp4 := st_low H hp (by omega)
  obtain ⟨m, q, hm, hq, em⟩ := st_r3 H hp4 (by omega)
  refine ⟨m, 4 * q + w, hm, by omega, fun key hk => ?_⟩
  unfold st_n2
  rw [em key (by omega), st_ch_n A (by omega), show key / 16 % 4 = w by omega]
  exact e
theorem st_r1 {h : Nat → Nat} {A a2 a3 : Nat → Int32} (H : st_H h A a2 a3 (fun _ => 0)) {n : Nat} (hn : n < 400) (hl : h n = 1) : ∃ m q, m < 8 ∧ q < 64 ∧ ∀ key, key / 4 = q → st_n3 A m key = nI n := by
  obtain ⟨p, w, hp, hh, hw, e⟩ := st_parent H hn (by omega)
  have hp4 := st_low H hp (by omega)
  obtain ⟨m, q, hm, hq, em⟩ := st_r2 H hp4 (by omega)
  refine ⟨m, 4 * q + w, hm, by omega, fun key hk => ?_⟩
  unfold st_n3
  rw [em key (by omega), st_ch_n A (by omega), show key / 4 % 4 = w by omega]
  exact e
theorem st_bnz : ∀ b, b < 16 → b ≠ 0 → ∃ i, i < 4 ∧ st_bt (nI (256 + b)) i = true := by decide +kernel
theorem st_free {h : Nat → Nat} {A a2 a3 : Nat → Int32} (H : st_H h A a2 a3 (fun _ => 0)) (ne : ∀ p, p < 400 → h p = 1 → a2 p ≠ nI 256) (hc : ∀ m, m < 8 → st_cd (st_ms A a2 m) ≤ 16) : ∃ n, n < 400 ∧ h n = 0 := by
  by_cases ex : ∃ n, n < 400 ∧ h n = 0
  · exact ex
  · exfalso
    have hlive : ∀ n, n < 400 → 0 < h n := fun n hn => by
      rcases Nat.eq_zero_or_pos (h n) with z | z
      · exact absurd ⟨n, hn, z⟩ ex
      · exact z
    let L0 : List Nat := (List.range 8).map (fun m => (A (1600 + m)).toNatClampNeg)
    let L1 : List Nat := (List.range 32).map (fun i => (st_n1 A (i / 4) (i % 4 * 64)).toNatClampNeg)
    let L2 : List Nat := (List.range 128).map (fun i => (st_n2 A (i / 16) (i % 16 * 16)).toNatClampNeg)
    let L3 : List Nat := (List.range 8).flatMap (fun m => ((List.range 256).filter (fun k => (st_ms A a2 m k).isSome)).map (fun k => (st_n3 A m k).toNatClampNeg))
    have hlen : (L0 ++ (L1 ++ (L2 ++ L3))).length ≤ 296 := by
      have e3 : L3.length ≤ 16 * (List.range 8).length := by
        refine st_len_fm _ (fun m hm => ?_)
        rw [List.length_map, st_len_flt]
        exact hc m (List.mem_range.mp hm)
      rw [List.length_range] at e3
      have e0 : L0.length = 8 := by rw [List.length_map, List.length_range]
      have e1 : L1.length = 32 := by rw [List.length_map, List.length_range]
      have e2 : L2.length = 128 := by rw [List.length_map, List.length_range]
      rw [List.length_append, List.length_append, List.length_append]
      omega
    have hcov : ∀ n, n < 400 → n ∈ L0 ++ (L1 ++ (L2 ++ L3)) := by
      intro n hn
      have h1 := hlive n hn
      have h2 := H.2.2.1 n hn
      have hcases : h n = 4 ∨ h n = 3 ∨ h n = 2 ∨ h n = 1 := by omega
      rcases hcases with z | z | z | z
      · obtain ⟨m, hm, e⟩ := st_r4 H hn z
        refine List.mem_append.mpr (Or.inl (List.mem_map.mpr ⟨m, List.mem_range.mpr hm, ?_⟩))
        rw [e, nI_clamp (by omega)]
      · obtain ⟨m, q, hm, hq, e⟩ := st_r3 H hn z
        refine List.mem_append.mpr (Or.inr (List.mem_append.mpr (Or.inl (List.mem_map.mpr ⟨4 * m + q, List.mem_range.mpr (by omega), ?_⟩))))
        rw [show (4 * m + q) / 4 = m by omega, show (4 * m + q) % 4 = q by omega, e _ (by omega), nI_clamp (by omega)]
      · obtain ⟨m, q, hm, hq, e⟩ := st_r2 H hn z
        refine List.mem_append.mpr (Or.inr (List.mem_append.mpr (Or.inr (List.mem_append.mpr (Or.inl (List.mem_map.mpr ⟨16 * m + q, List.mem_range.mpr (by omega), ?_⟩))))))
        rw [show (16 * m + q) / 16 = m by omega, show (16 * m + q) % 16 = q by omega, e _ (by omega), nI_clamp (by omega)]
      · obtain ⟨m, q, hm, hq, e⟩ := st_r1 H hn z
        obtain ⟨b, hb, eb⟩ := H.2.2.2.2.2.2 n hn z
        have hb0 : b ≠ 0 := fun y => ne n hn z (by rw [eb, y])
        obtain ⟨i, hi, ei⟩ := st_bnz b hb hb0
        have ek := e (4 * q + i) (by omega)
        refine List.mem_append.mpr (Or.inr (List.mem_append.mpr (Or.inr (List.mem_append.mpr (Or.inr (List.mem_flatMap.mpr ⟨m, List.mem_range.mpr hm, List.mem_map.mpr ⟨4 * q + i, List.mem_filter.mpr ⟨List.mem_range.mpr (by omega), ?_⟩, ?_⟩⟩))))))
        · rw [st_ms3, ek, st_val_n A a2 (by omega), show (4 * q + i) % 4 = i by omega, eb, ei]
          rfl
        · rw [ek, nI_clamp (by omega)]
    have := st_pigeon 400 _ hcov
    omega
end
section
/-! part 05: walks that only read: turn, behind, leafFor, holds, get, has, size, missingLevel, next -/
def st_A (a1 a5 : Nat → Int32) : Nat → Int32 := fun j => if j < 1600 then a1 j else a5 (j - 1600)
theorem st_A_lo {a1 a5 : Nat → Int32} {j : Nat} (h : j < 1600) : st_A a1 a5 j = a1 j := if_pos h
theorem st_A_hi {a1 a5 : Nat → Int32} {m : Nat} : st_A a1 a5 (1600 + m) = a5 m := by
  unfold st_A
  rw [if_neg (by omega), show 1600 + m - 1600 = m by omega]
theorem st_A_u1 {a1 a5 : Nat → Int32} {c : Nat} {x : Int32} (h : c < 1600) : st_A (upd a1 c x) a5 = upd (st_A a1 a5) c x := by
  funext j
  by_cases e : j = c
  · subst e
    rw [pk_us, st_A_lo h, pk_us]
  · rw [pk_un e]
    unfold st_A
    rw [pk_un e]
theorem st_A_u5 {a1 a5 : Nat → Int32} {m : Nat} {x : Int32} : st_A a1 (upd a5 m x) = upd (st_A a1 a5) (1600 + m) x := by
  funext j
  by_cases e : j = 1600 + m
  · subst e
    rw [pk_us, st_A_hi, pk_us]
  · rw [pk_un e]
    unfold st_A
    by_cases z : j < 1600
    · rw [if_pos z, if_pos z]
    · rw [if_neg z, if_neg z, pk_un (by omega)]
theorem st_turn : ∀ key, key < 256 → ∀ l, l < 4 → ((((nI key).toUInt32 >>> ((6 - (2 * nI l)).toUInt32 &&& Int32.toUInt32 31)).toInt32) &&& 3) = nI (key / 4 ^ (3 - l) % 4) := by decide +kernel
theorem st_behind : ∀ key, key < 256 → ∀ r, r < 5 → (nI key &&& ((((256 : Int32).toUInt32 >>> ((2 * nI r).toUInt32 &&& Int32.toUInt32 31)).toInt32 - 1) ^^^ (-1))) + ((256 : Int32).toUInt32 >>> ((2 * nI r).toUInt32 &&& Int32.toUInt32 31)).toInt32 = nI ((key / 4 ^ (4 - r) + 1) * 4 ^ (4 - r)) := by decide +kernel
theorem st_k3 : ∀ key, key < 256 → nI key &&& 3 = nI (key % 4) := by decide +kernel
theorem st_wturn {post : Int32 → Prop} {key l : Nat} (hk : key < 256) (hl : l < 4) (h : post (nI (key / 4 ^ (3 - l) % 4))) : wpX_turn post () (nI key) (nI l) := by
  unfold wpX_turn
  rw [st_turn key hk l hl]
  exact h
theorem st_wbehind {post : Int32 → Prop} {key r : Nat} (hk : key < 256) (hl : r < 5) (h : post (nI ((key / 4 ^ (4 - r) + 1) * 4 ^ (4 - r)))) : wpX_behind post () (nI key) (nI r) := by
  unfold wpX_behind
  refine nm_e ?_
  rw [st_behind key hk r hl]
  exact h
theorem st_ix4 (c t : Nat) : (4 : Int32) * nI c + nI t = nI (4 * c + t) := by
  show nI 4 * nI c + nI t = _
  rw [pk_mul, nI_add]
theorem st_s_u : ∀ n, n < 4 → (((nI n).toUInt32 &&& Int32.toUInt32 31).toBitVec % 32).toNat = n := by decide +kernel
theorem st_bt1 : ∀ i, i < 32 → st_bt 1 i = decide (i = 0) := by decide +kernel
theorem st_bit (v : Int32) {j : Nat} (hj : j < 4) : ((v.toUInt32 >>> ((nI j).toUInt32 &&& Int32.toUInt32 31)).toInt32 &&& 1) = 0 ↔ st_bt v j = false := by
  have hb : ∀ i, i < 32 → st_bt ((v.toUInt32 >>> ((nI j).toUInt32 &&& Int32.toUInt32 31)).toInt32 &&& 1) i = (st_bt v (j + i) && decide (i = 0)) := by
    intro i hi
    rw [← st_bt1 i hi]
    unfold st_bt
    rw [Int32.toBitVec_and, BitVec.getLsbD_and]
    show ((v.toUInt32 >>> ((nI j).toUInt32 &&& Int32.toUInt32 31)).toBitVec.getLsbD i && _) = (v.toUInt32.toBitVec.getLsbD (j + i) && _)
    rw [UInt32.toBitVec_shiftRight]
    show ((v.toUInt32.toBitVec >>> (((nI j).toUInt32 &&& Int32.toUInt32 31).toBitVec % 32).toNat).getLsbD i && _) = _
    rw [st_s_u j hj, BitVec.getLsbD_ushiftRight]
  constructor
  · intro e
    have := hb 0 (by omega)
    rw [e] at this
    rw [show st_bt 0 0 = false by decide] at this
    simpa using this.symm
  · intro e
    refine Int32.toBitVec_inj.mp (BitVec.eq_of_getLsbD_eq (fun i hi => ?_))
    have := hb i hi
    unfold st_bt at this e
    rw [this, show (0 : Int32).toBitVec.getLsbD i = false from BitVec.getLsbD_zero]
    by_cases z : i = 0
    · subst z
      rw [Nat.add_zero, e]
      rfl
    · simp [z]
theorem st_blk {k key a b : Nat} (hab : a ≤ b) (h : k / 4 ^ a = key / 4 ^ a) : k / 4 ^ b = key / 4 ^ b := by
  have e : 4 ^ b = 4 ^ a * 4 ^ (b - a) := by rw [← Nat.pow_add, show a + (b - a) = b by omega]
  rw [e, ← Nat.div_div_eq_div_mul, ← Nat.div_div_eq_div_mul, h]
theorem st_bh {key r : Nat} (hr : r < 5) (hk : key < 256) : key < (key / 4 ^ (4 - r) + 1) * 4 ^ (4 - r) ∧ (key / 4 ^ (4 - r) + 1) * 4 ^ (4 - r) ≤ 256 ∧ ∀ k, key ≤ k → k < (key / 4 ^ (4 - r) + 1) * 4 ^ (4 - r) → k / 4 ^ (4 - r) = key / 4 ^ (4 - r) := by
  have : r = 0 ∨ r = 1 ∨ r = 2 ∨ r = 3 ∨ r = 4 := by omega
  rcases this with z | z | z | z | z <;> subst z
  · rw [show 4 ^ (4 - 0) = 256 from rfl]; exact ⟨by omega, by omega, fun k _ _ => by omega⟩
  · rw [show 4 ^ (4 - 1) = 64 from rfl]; exact ⟨by omega, by omega, fun k _ _ => by omega⟩
  · rw [show 4 ^ (4 - 2) = 16 from rfl]; exact ⟨by omega, by omega, fun k _ _ => by omega⟩
  · rw [show 4 ^ (4 - 3) = 4 from rfl]; exact ⟨by omega, by omega, fun k _ _ => by omega⟩
  · rw [show 4 ^ (4 - 4) = 1 from rfl]; exact ⟨by omega, by omega, fun k _ _ => by omega⟩
/-- the first place from a on at which Q holds, 256 if none -/
def st_nx (Q : Nat → Prop) (a r : Nat) : Prop := a ≤ r ∧ r ≤ 256 ∧ (∀ k, a ≤ k → k < r → ¬ Q k) ∧ (r < 256 → Q r)
theorem st_nx_eq {Q Q' : Nat → Prop} {a r r' : Nat} (h : st_nx Q a r) (h' : st_nx Q' a r') (e : ∀ k, k < 256 → (Q k ↔ Q' k)) : r = r' := by
  obtain ⟨h1, h2, h3, h4⟩ := h
  obtain ⟨g1, g2, g3, g4⟩ := h'
  rcases Nat.lt_trichotomy r r' with z | z | z
  · exact absurd ((e r (by omega)).mp (h4 (by omega))) (g3 r h1 z)
  · exact z
  · exact absurd ((e r' (by omega)).mpr (g4 (by omega))) (h3 r' g1 z)
/-- p0 names the map m -/
def st_ixm (p0 : Int32) (m : Nat) : Prop := m < 8 ∧ ¬ p0 < (-1) ∧ ¬ 6 < p0 ∧ p0 + 1 = nI m
theorem st_ixm_m : st_ixm (-1) 0 := ⟨by omega, by decide, by decide, by decide⟩
theorem st_ixm_d : ∀ s, s < 7 → ¬ nI s < (-1) ∧ ¬ 6 < nI s ∧ nI s + 1 = nI (s + 1) := by decide
theorem st_ixm_s {s : Nat} (h : s < 7) : st_ixm (nI s) (s + 1) := ⟨by omega, st_ixm_d s h⟩
section READ
variable {h : Nat → Nat} {a1 a2 a3 a4 a5 a6 a7 a8 : Nat → Int32} {P : Nat → Nat}
theorem st_isMap1 {post : Int32 → Prop} {p0 : Int32} {m : Nat} (hx : st_ixm p0 m) (ht : a4 m = 1) (hp : post 1) : wpX_isMap post (a1, a2, a3, a4, a5, a6, a7, a8) p0 := by
  obtain ⟨hm, h1, h2, h3⟩ := hx
  refine br_f h1 (br_f h2 ?_)
  rw [h3, nI_clamp (by omega), ht]
  exact ⟨vp_in_nI hm (by omega), br_f (by decide) hp⟩
theorem st_isMap0 {post : Int32 → Prop} {p0 : Int32} {m : Nat} (hx : st_ixm p0 m) (ht : a4 m = 0) (hp : post 0) : wpX_isMap post (a1, a2, a3, a4, a5, a6, a7, a8) p0 := by
  obtain ⟨hm, h1, h2, h3⟩ := hx
  refine br_f h1 (br_f h2 ?_)
  rw [h3, nI_clamp (by omega), ht]
  exact ⟨vp_in_nI hm (by omega), br_t rfl hp⟩
theorem st_isMap7 {post : Int32 → Prop} (hp : post 0) : wpX_isMap post (a1, a2, a3, a4, a5, a6, a7, a8) (nI 7) := br_f (by decide) (br_t (by decide) hp)
theorem st_size1 {post : Int32 → Prop} {p0 : Int32} {m : Nat} (hx : st_ixm p0 m) (ht : a4 m = 1) (hp : post (a6 m)) : wpX_size post (a1, a2, a3, a4, a5, a6, a7, a8) p0 := by
  unfold wpX_size
  dsimp only
  refine st_isMap1 hx ht ?_
  refine br_f (by decide) ?_
  rw [hx.2.2.2, nI_clamp (by have := hx.1; omega)]
  exact ⟨vp_in_nI hx.1 (by omega), hp⟩
theorem st_leafFor_l (H : st_H h (st_A a1 a5) a2 a3 P) {post : Int32 → Prop} {key : Nat} (hk : key < 256) : ∀ d, d ≤ 3 → ∀ x, st_ok h (d + 1) x → post (st_lf (st_A a1 a5) d x key) →
    wX_leafFor_10 post (nI key) a1 a2 a3 a4 a5 a6 a7 a8 (d + 1) x (nI (3 - d)) := by
  intro d
  induction d with
  | zero =>
    intro _ x hx hp
    exact br_t (by decide) hp
  | succ d ih =>
    intro hd x hx hp
    refine pk_le 3 (3 - (d + 1)) (fun z => absurd z (by omega)) (fun _ => ?_)
    rcases hx with z | ⟨c, hc, e, hl⟩
    · rw [z] at hp ⊢
      rw [st_lf_m] at hp
      exact br_t st_m1_neg hp
    · have ht : key / 4 ^ (d + 1) % 4 < 4 := Nat.mod_lt _ (by omega)
      have hok := H.2.2.2.2.1 c (by omega) (by omega) _ ht
      rw [e] at hp ⊢
      rw [st_lf_s, st_ch_n _ (by omega)] at hp
      rw [hl] at hok
      refine br_f (nI_pos (by omega)) (st_wturn hk (by omega) ?_)
      rw [show 3 - (3 - (d + 1)) = d + 1 by omega, st_ix4, nI_clamp (by omega), nI_1, show 3 - (d + 1) + 1 = 3 - d by omega]
      rw [st_A_lo (show 4 * c + key / 4 ^ (d + 1) % 4 < 1600 by omega)] at hp hok
      exact ⟨vp_in_nI (by omega) (by omega), nm_e (nm_e (ih (by omega) _ hok hp))⟩
theorem st_leafFor (H : st_H h (st_A a1 a5) a2 a3 P) {post : Int32 → Prop} {m key : Nat} (hm : m < 8) (hk : key < 256) (hp : post (st_n3 (st_A a1 a5) m key)) : wpX_leafFor post (a1, a2, a3, a4, a5, a6, a7, a8) (nI m) (nI key) := by
  have hr := st_root_ok H hm
  have hp' : post (st_lf (st_A a1 a5) 3 (st_A a1 a5 (1600 + m)) key) := hp
  rw [st_A_hi] at hr hp'
  refine ⟨vp_in_nI hm (by omega), ?_⟩
  rw [nI_clamp (by omega)]
  exact nm_e ⟨4, st_leafFor_l H hk 3 (by omega) _ hr hp'⟩
theorem st_n3_ok (H : st_H h (st_A a1 a5) a2 a3 P) {m : Nat} (hm : m < 8) (key : Nat) : st_ok h 1 (st_n3 (st_A a1 a5) m key) := st_lf_ok H key 3 _ (st_root_ok H hm)
theorem st_holds (H : st_H h (st_A a1 a5) a2 a3 P) {post : Int32 → Prop} {m key : Nat} (hm : m < 8) (hk : key < 256) (hp : post (if (st_ms (st_A a1 a5) a2 m key).isSome = true then 1 else 0)) : wpX_holds post (a1, a2, a3, a4, a5, a6, a7, a8) (nI m) (nI key) := by
  refine st_leafFor H hm hk ?_
  rw [st_ms3] at hp
  rcases st_n3_ok H hm key with z | ⟨c, hc, e, hl⟩
  · rw [z] at hp ⊢
    rw [st_val_m] at hp
    exact br_t st_m1_neg hp
  · rw [e] at hp ⊢
    rw [st_val_n _ _ (by omega)] at hp
    rw [nI_clamp (by omega), st_k3 key hk]
    refine br_f (nI_pos (by omega)) ⟨vp_in_nI hc (by omega), ek_if (st_bit (a2 c) (Nat.mod_lt _ (by omega))) (fun z => ?_) (fun z => ?_)⟩
    · rw [z] at hp
      exact hp
    · rw [Bool.of_not_eq_false z] at hp
      exact hp
theorem st_has (H : st_H h (st_A a1 a5) a2 a3 P) {post : Int32 → Prop} {p0 : Int32} {m key : Nat} (hx : st_ixm p0 m) (ht : a4 m = 1) (hk : key < 256) (hp : post (if (st_ms (st_A a1 a5) a2 m key).isSome = true then 1 else 0)) : wpX_has post (a1, a2, a3, a4, a5, a6, a7, a8) p0 (nI key) := by
  unfold wpX_has
  dsimp only
  refine st_isMap1 hx ht ?_
  refine br_f (by decide) (br_f (nI_pos (by omega)) (pk_lt 255 key (fun z => absurd z (by omega)) (fun _ => ?_)))
  rw [hx.2.2.2]
  refine st_holds H hx.1 hk ?_
  by_cases e : (st_ms (st_A a1 a5) a2 m key).isSome = true
  · rw [if_pos e] at hp ⊢
    exact br_f (by decide) hp
  · rw [if_neg e] at hp ⊢
    exact br_t rfl hp
theorem st_get (H : st_H h (st_A a1 a5) a2 a3 P) {post : Int32 → Prop} {p0 : Int32} {m key : Nat} (hx : st_ixm p0 m) (ht : a4 m = 1) (hk : key < 256) (hp : post ((st_ms (st_A a1 a5) a2 m key).getD 0)) : wpX_get post (a1, a2, a3, a4, a5, a6, a7, a8) p0 (nI key) := by
  unfold wpX_get
  dsimp only
  refine st_isMap1 hx ht ?_
  refine br_f (by decide) (br_f (nI_pos (by omega)) (pk_le key 255 (fun _ => ?_) (fun z => absurd z (by omega))))
  rw [hx.2.2.2]
  refine st_leafFor H hx.1 hk ?_
  rw [st_ms3] at hp
  rcases st_n3_ok H hx.1 key with z | ⟨c, hc, e, hl⟩
  · rw [z] at hp ⊢
    rw [st_val_m] at hp
    exact br_t st_m1_neg hp
  · rw [e] at hp ⊢
    have hb : key % 4 < 4 := Nat.mod_lt _ (by omega)
    rw [st_val_n _ _ (by omega), st_A_lo (by omega)] at hp
    rw [nI_clamp (by omega), st_k3 key hk, st_ix4, nI_clamp (by omega)]
    refine br_f (nI_pos (by omega)) ⟨vp_in_nI hc (by omega), ek_if (st_bit (a2 c) hb) (fun z => ?_) (fun z => ⟨vp_in_nI (by omega) (by omega), ?_⟩)⟩
    · rw [z] at hp
      exact hp
    · rw [Bool.of_not_eq_false z] at hp
      exact hp
theorem st_miss_l (H : st_H h (st_A a1 a5) a2 a3 P) {key : Nat} (hk : key < 256) : ∀ d, d ≤ 3 → ∀ (post : Int32 → Prop) x, st_ok h (d + 1) x →
    (∀ r, 3 - d ≤ r → r ≤ 5 → (r = 5 → (st_se (st_A a1 a5) a2 d x key).isSome = true) → (r ≤ 4 → ∀ k, k / 4 ^ (4 - r) = key / 4 ^ (4 - r) → st_se (st_A a1 a5) a2 d x k = none) → post (nI r)) →
    wX_missingLevel_10 post (nI key) a1 a2 a3 a4 a5 a6 a7 a8 (d + 1) x (nI (3 - d)) := by
  intro d
  induction d with
  | zero =>
    intro _ post x hx hp
    refine br_t (by decide) ?_
    rcases hx with z | ⟨c, hc, e, hl⟩
    · rw [z] at hp ⊢
      exact br_f (by decide) (hp 3 (by omega) (by omega) (fun z => absurd z (by omega)) (fun _ k _ => st_se_m _ _ _ _))
    · rw [e] at hp ⊢
      have hb : key % 4 < 4 := Nat.mod_lt _ (by omega)
      rw [nI_clamp (by omega), st_k3 key hk]
      refine br_t (nI_pos' (by omega)) ⟨vp_in_nI hc (by omega), ek_if (st_bit (a2 c) hb) (fun z => ?_) (fun z => ?_)⟩
      · refine hp 4 (by omega) (by omega) (fun z => absurd z (by omega)) (fun _ k ek => ?_)
        have : k = key := by rw [show 4 ^ (4 - 4) = 1 from rfl] at ek; omega
        rw [this, st_se_0 _ _ (by omega), z]
        rfl
      · refine hp 5 (by omega) (by omega) (fun _ => ?_) (fun z => absurd z (by omega))
        rw [st_se_0 _ _ (by omega), Bool.of_not_eq_false z]
        rfl
  | succ d ih =>
    intro hd post x hx hp
    refine pk_le 3 (3 - (d + 1)) (fun z => absurd z (by omega)) (fun _ => ?_)
    rcases hx with z | ⟨c, hc, e, hl⟩
    · rw [z] at hp ⊢
      exact br_f (by decide) (hp _ (by omega) (by omega) (fun z => absurd z (by omega)) (fun _ k _ => st_se_m _ _ _ _))
    · have ht : key / 4 ^ (d + 1) % 4 < 4 := Nat.mod_lt _ (by omega)
      have hok := H.2.2.2.2.1 c (by omega) (by omega) _ ht
      rw [e] at hp ⊢
      rw [hl] at hok
      refine br_t (nI_pos' (by omega)) (st_wturn hk (by omega) ?_)
      rw [show 3 - (3 - (d + 1)) = d + 1 by omega, st_ix4, nI_clamp (by omega), nI_1, show 3 - (d + 1) + 1 = 3 - d by omega]
      rw [← st_A_lo (a1 := a1) (a5 := a5) (show 4 * c + key / 4 ^ (d + 1) % 4 < 1600 by omega)]
      refine ⟨vp_in_nI (by omega) (by omega), nm_e (nm_e (ih (by omega) post _ hok (fun r hr1 hr2 hr3 hr4 => hp r (by omega) hr2 (fun z => ?_) (fun z k ek => ?_))))⟩
      · rw [st_se_n _ _ _ (by omega)]
        exact hr3 z
      · rw [st_se_n _ _ _ (by omega), st_blk (show 4 - r ≤ d + 1 by omega) ek]
        exact hr4 z k ek
theorem st_miss (H : st_H h (st_A a1 a5) a2 a3 P) {post : Int32 → Prop} {m key : Nat} (hm : m < 8) (hk : key < 256)
    (hp : ∀ r, r ≤ 5 → (r = 5 → (st_ms (st_A a1 a5) a2 m key).isSome = true) → (r ≤ 4 → ∀ k, k / 4 ^ (4 - r) = key / 4 ^ (4 - r) → st_ms (st_A a1 a5) a2 m k = none) → post (nI r)) :
    wpX_missingLevel post (a1, a2, a3, a4, a5, a6, a7, a8) (nI m) (nI key) := by
  have hr := st_root_ok H hm
  rw [st_A_hi] at hr
  refine ⟨vp_in_nI hm (by omega), ?_⟩
  rw [nI_clamp (by omega)]
  refine nm_e ⟨4, st_miss_l H hk 3 (by omega) post _ hr (fun r _ h5 hr3 hr4 => hp r h5 (fun z => ?_) (fun z k ek => ?_))⟩
  · unfold st_ms
    rw [st_A_hi]
    exact hr3 z
  · unfold st_ms
    rw [st_A_hi]
    exact hr4 z k ek
theorem st_next_l (H : st_H h (st_A a1 a5) a2 a3 P) {post : Int32 → Prop} {p0 : Int32} {m a : Nat} (hx : st_ixm p0 m)
    (hp : ∀ r, st_nx (fun k => (st_ms (st_A a1 a5) a2 m k).isSome = true) a r → post (nI r)) : ∀ f key step, step ≤ key → key ≤ 256 → 256 - key < f → a ≤ key →
    (∀ k, a ≤ k → k < key → ¬ (st_ms (st_A a1 a5) a2 m k).isSome = true) → wX_next_23 post p0 a1 a2 a3 a4 a5 a6 a7 a8 f (nI key) (nI step) := by
  intro f
  induction f with
  | zero => intro key step _ _ z; omega
  | succ f ih =>
    intro key step hs hk hf ha hn
    have fin : 256 ≤ key → post 256 := fun z => by
      have : key = 256 := by omega
      subst this
      exact hp 256 ⟨ha, by omega, hn, fun z => absurd z (by omega)⟩
    refine pk_le 256 step (fun z => fin (by omega)) (fun _ => pk_le 256 key fin (fun z => ?_))
    rw [hx.2.2.2]
    refine st_miss H hx.1 z (fun r h5 hr5 hr4 => pk_le r 4 (fun y => ?_) (fun y => ?_))
    · obtain ⟨b1, b2, b3⟩ := st_bh (show r < 5 by omega) z
      refine st_wbehind z (by omega) (nm_r (nI_1 step) (ih _ _ (by omega) b2 (by omega) (by omega) (fun k k1 k2 => ?_)))
      by_cases kk : k < key
      · exact hn k k1 kk
      · rw [hr4 y k (b3 k (by omega) k2)]
        decide
    · exact hp key ⟨ha, by omega, hn, fun _ => hr5 (by omega)⟩
theorem st_next (H : st_H h (st_A a1 a5) a2 a3 P) {post : Int32 → Prop} {p0 : Int32} {m a : Nat} (hx : st_ixm p0 m) (ht : a4 m = 1) (ha : a ≤ 256)
    (hp : ∀ r, st_nx (fun k => (st_ms (st_A a1 a5) a2 m k).isSome = true) a r → post (nI r)) : wpX_next post (a1, a2, a3, a4, a5, a6, a7, a8) p0 (nI a) := by
  unfold wpX_next
  dsimp only
  refine st_isMap1 hx ht ?_
  exact br_f (by decide) (br_t (nI_pos' (by omega)) ⟨257, st_next_l H hx hp 257 a 0 (by omega) ha (by omega) (by omega) (fun k k1 k2 => absurd k2 (by omega))⟩)
end READ
end
section
/-! part 06: sharedLevel, nextChange, changes -/
section CHANGE
variable {h : Nat → Nat} {a1 a2 a3 a4 a5 a6 a7 a8 : Nat → Int32} {P : Nat → Nat}
/-- the last level: both leaves are known, the held bits as options -/
theorem st_sh158 {post : Int32 → Prop} {key : Nat} {x y z : Int32} {i j : Int32} (hk : key < 256) {vx vy : Option Int32} (hx : vx = none ∧ i = 0 ∨ ∃ c, c < 400 ∧ x = nI c ∧ vx = some (a1 (4 * c + key % 4)) ∧ i = 1) (hy : vy = none ∧ j = 0 ∨ ∃ c, c < 400 ∧ y = nI c ∧ vy = some (a1 (4 * c + key % 4)) ∧ j = 1)
    (h5 : vx ≠ vy → post 5) (h4 : vx = vy → post 4) : wX_sharedLevel_158 post (nI key) x y i j a1 a2 a3 a4 a5 a6 a7 a8 := by
  unfold wX_sharedLevel_158
  have hb : key % 4 < 4 := Nat.mod_lt _ (by omega)
  rcases hx with ⟨e1, e2⟩ | ⟨c, hc, e0, e1, e2⟩
  · rcases hy with ⟨g1, g2⟩ | ⟨d, hd, g0, g1, g2⟩
    · rw [e2, g2]
      exact br_t rfl (br_t rfl (h4 (by rw [e1, g1])))
    · rw [e2, g2]
      exact br_f (by decide) (h5 (by rw [e1, g1]; simp))
  · rcases hy with ⟨g1, g2⟩ | ⟨d, hd, g0, g1, g2⟩
    · rw [e2, g2]
      exact br_f (by decide) (h5 (by rw [e1, g1]; simp))
    · rw [e2, g2, e0, g0, st_k3 key hk, st_ix4, st_ix4, nI_clamp (by omega), nI_clamp (by omega)]
      refine br_t rfl (br_f (by decide) ⟨vp_in_nI (by omega) (by omega), vp_in_nI (by omega) (by omega), br_c (fun z => h4 (by rw [e1, g1, z])) (fun z => h5 (by rw [e1, g1]; exact fun q => z (Option.some.inj q)))⟩)
theorem st_sh130 {post : Int32 → Prop} {key : Nat} {x y : Int32} {i : Int32} (hk : key < 256) {vx : Option Int32} (hx : vx = none ∧ i = 0 ∨ ∃ c, c < 400 ∧ x = nI c ∧ vx = some (a1 (4 * c + key % 4)) ∧ i = 1) (hy : st_ok h 1 y)
    (h5 : vx ≠ st_val (st_A a1 a5) a2 y (key % 4) → post 5) (h4 : vx = st_val (st_A a1 a5) a2 y (key % 4) → post 4) : wX_sharedLevel_130 post (nI key) x y i a1 a2 a3 a4 a5 a6 a7 a8 := by
  unfold wX_sharedLevel_130
  have hb : key % 4 < 4 := Nat.mod_lt _ (by omega)
  rcases hy with z | ⟨d, hd, e, hl⟩
  · rw [z] at h5 h4 ⊢
    rw [st_val_m] at h5 h4
    refine br_t st_m1_neg ?_
    unfold wX_sharedLevel_157
    exact st_sh158 (z := 0) hk hx (Or.inl ⟨rfl, rfl⟩) h5 h4
  · rw [e] at h5 h4 ⊢
    rw [st_val_n _ _ (by omega), st_A_lo (by omega)] at h5 h4
    rw [nI_clamp (by omega)]
    refine br_f (nI_pos (by omega)) ⟨vp_in_nI hd (by omega), ?_⟩
    rw [st_k3 key hk]
    refine ek_if (st_bit (a2 d) hb) (fun z => ?_) (fun z => ?_)
    · rw [z] at h5 h4
      unfold wX_sharedLevel_157
      exact st_sh158 (z := 0) hk hx (Or.inl ⟨rfl, rfl⟩) h5 h4
    · rw [Bool.of_not_eq_false z] at h5 h4
      exact st_sh158 (z := 0) hk hx (Or.inr ⟨d, hd, rfl, rfl, rfl⟩) h5 h4
theorem st_sh_l (H : st_H h (st_A a1 a5) a2 a3 P) {key : Nat} (hk : key < 256) : ∀ d, d ≤ 3 → ∀ (post : Int32 → Prop) x y, st_ok h (d + 1) x → st_ok h (d + 1) y →
    (∀ r, 3 - d ≤ r → r ≤ 5 → (r = 5 → st_se (st_A a1 a5) a2 d x key ≠ st_se (st_A a1 a5) a2 d y key) → (r ≤ 4 → ∀ k, k / 4 ^ (4 - r) = key / 4 ^ (4 - r) → st_se (st_A a1 a5) a2 d x k = st_se (st_A a1 a5) a2 d y k) → post (nI r)) →
    wX_sharedLevel_19 post (nI key) a1 a2 a3 a4 a5 a6 a7 a8 (d + 1) x y (nI (3 - d)) := by
  intro d
  induction d with
  | zero =>
    intro _ post x y hx hy hp
    refine br_t (by decide) (br_c (fun z => ?_) (fun z => ?_))
    · exact hp 3 (by omega) (by omega) (fun z => absurd z (by omega)) (fun _ k _ => by rw [z])
    · have hb : key % 4 < 4 := Nat.mod_lt _ (by omega)
      have h5 : st_val (st_A a1 a5) a2 x (key % 4) ≠ st_val (st_A a1 a5) a2 y (key % 4) → post 5 := fun q => hp 5 (by omega) (by omega) (fun _ => q) (fun z => absurd z (by omega))
      have h4 : st_val (st_A a1 a5) a2 x (key % 4) = st_val (st_A a1 a5) a2 y (key % 4) → post 4 := fun q => hp 4 (by omega) (by omega) (fun z => absurd z (by omega)) (fun _ k ek => by
        have : k = key := by rw [show 4 ^ (4 - 4) = 1 from rfl] at ek; omega
        rw [this]
        exact q)
      rcases hx with z | ⟨c, hc, e, hl⟩
      · rw [z] at h5 h4 ⊢
        rw [st_val_m] at h5 h4
        refine br_t st_m1_neg ?_
        unfold wX_sharedLevel_129
        exact st_sh130 hk (Or.inl ⟨rfl, rfl⟩) hy h5 h4
      · rw [e] at h5 h4 ⊢
        rw [st_val_n _ _ (by omega), st_A_lo (by omega)] at h5 h4
        rw [nI_clamp (by omega)]
        refine br_f (nI_pos (by omega)) ⟨vp_in_nI hc (by omega), ?_⟩
        rw [st_k3 key hk]
        refine ek_if (st_bit (a2 c) hb) (fun z => ?_) (fun z => ?_)
        · rw [z] at h5 h4
          unfold wX_sharedLevel_129
          exact st_sh130 hk (Or.inl ⟨rfl, rfl⟩) hy h5 h4
        · rw [Bool.of_not_eq_false z] at h5 h4
          exact st_sh130 hk (Or.inr ⟨c, hc, rfl, rfl, rfl⟩) hy h5 h4
  | succ d ih =>
    intro hd post x y hx hy hp
    refine pk_le 3 (3 - (d + 1)) (fun z => absurd z (by omega)) (fun _ => br_c (fun z => ?_) (fun z => ?_))
    · exact hp _ (by omega) (by omega) (fun z => absurd z (by omega)) (fun _ k _ => by rw [z])
    · have ht : key / 4 ^ (d + 1) % 4 < 4 := Nat.mod_lt _ (by omega)
      have oks : ∀ v, st_ok h (d + 1 + 1) v → st_ok h (d + 1) (st_ch (st_A a1 a5) v (key / 4 ^ (d + 1) % 4)) := by
        intro v hv
        rcases hv with q | ⟨c, hc, e, hl⟩
        · rw [q, st_ch_m]; exact st_ok_m
        · have hok := H.2.2.2.2.1 c (by omega) (by omega) _ ht
          rw [hl] at hok
          rw [e, st_ch_n _ (by omega)]
          exact hok
      have main : wX_sharedLevel_19 post (nI key) a1 a2 a3 a4 a5 a6 a7 a8 (d + 1) (st_ch (st_A a1 a5) x (key / 4 ^ (d + 1) % 4)) (st_ch (st_A a1 a5) y (key / 4 ^ (d + 1) % 4)) (nI (3 - d)) := by
        refine ih (by omega) post _ _ (oks x hx) (oks y hy) (fun r hr1 hr2 hr3 hr4 => hp r (by omega) hr2 (fun z => ?_) (fun z k ek => ?_))
        · rw [st_se_s, st_se_s]
          exact hr3 z
        · rw [st_se_s, st_se_s, st_blk (show 4 - r ≤ d + 1 by omega) ek]
          exact hr4 z k ek
      have snd : ∀ v, v = st_ch (st_A a1 a5) x (key / 4 ^ (d + 1) % 4) → wX_sharedLevel_60 post (wX_sharedLevel_19 post (nI key) a1 a2 a3 a4 a5 a6 a7 a8 (d + 1)) (nI key) y (nI (3 - (d + 1))) v a1 a2 a3 a4 a5 a6 a7 a8 := by
        intro v ev
        rw [← ev] at main
        unfold wX_sharedLevel_60
        rw [nI_1, show 3 - (d + 1) + 1 = 3 - d by omega]
        rcases hy with q | ⟨c, hc, e, hl⟩
        · rw [q] at main ⊢
          rw [st_ch_m] at main
          exact br_f (by decide) (nm_e main)
        · rw [e] at main ⊢
          rw [st_ch_n _ (by omega), st_A_lo (by omega)] at main
          refine br_t (nI_pos' (by omega)) (st_wturn hk (by omega) ?_)
          rw [show 3 - (3 - (d + 1)) = d + 1 by omega, st_ix4, nI_clamp (by omega)]
          exact ⟨vp_in_nI (by omega) (by omega), nm_e (nm_e main)⟩
      rcases hx with q | ⟨c, hc, e, hl⟩
      · rw [q] at snd ⊢
        rw [st_ch_m] at snd
        exact br_f (by decide) (snd _ rfl)
      · rw [e] at snd ⊢
        rw [st_ch_n _ (by omega), st_A_lo (by omega)] at snd
        refine br_t (nI_pos' (by omega)) (st_wturn hk (by omega) ?_)
        rw [show 3 - (3 - (d + 1)) = d + 1 by omega, st_ix4, nI_clamp (by omega)]
        exact ⟨vp_in_nI (by omega) (by omega), snd _ rfl⟩
theorem st_shared (H : st_H h (st_A a1 a5) a2 a3 P) {post : Int32 → Prop} {m m' key : Nat} (hm : m < 8) (hm' : m' < 8) (hk : key < 256)
    (hp : ∀ r, r ≤ 5 → (r = 5 → st_ms (st_A a1 a5) a2 m key ≠ st_ms (st_A a1 a5) a2 m' key) → (r ≤ 4 → ∀ k, k / 4 ^ (4 - r) = key / 4 ^ (4 - r) → st_ms (st_A a1 a5) a2 m k = st_ms (st_A a1 a5) a2 m' k) → post (nI r)) :
    wpX_sharedLevel post (a1, a2, a3, a4, a5, a6, a7, a8) (nI m) (nI m') (nI key) := by
  have hr := st_root_ok H hm
  have hr' := st_root_ok H hm'
  rw [st_A_hi] at hr hr'
  refine ⟨vp_in_nI hm (by omega), ?_⟩
  rw [nI_clamp (by omega), nI_clamp (by omega)]
  refine nm_e ⟨vp_in_nI hm' (by omega), nm_e ⟨4, st_sh_l H hk 3 (by omega) post _ _ hr hr' (fun r _ h5 hr3 hr4 => hp r h5 (fun z => ?_) (fun z k ek => ?_))⟩⟩
  · unfold st_ms
    rw [st_A_hi, st_A_hi]
    exact hr3 z
  · unfold st_ms
    rw [st_A_hi, st_A_hi]
    exact hr4 z k ek
theorem st_nc_l (H : st_H h (st_A a1 a5) a2 a3 P) {post : Int32 → Prop} {p0 p1 : Int32} {m m' a : Nat} (hx : st_ixm p0 m) (hx' : st_ixm p1 m')
    (hp : ∀ r, st_nx (fun k => st_ms (st_A a1 a5) a2 m k ≠ st_ms (st_A a1 a5) a2 m' k) a r → post (nI r)) : ∀ f key step, step ≤ key → key ≤ 256 → 256 - key < f → a ≤ key →
    (∀ k, a ≤ k → k < key → ¬ (st_ms (st_A a1 a5) a2 m k ≠ st_ms (st_A a1 a5) a2 m' k)) → wX_nextChange_32 post p0 p1 a1 a2 a3 a4 a5 a6 a7 a8 f (nI key) (nI step) := by
  intro f
  induction f with
  | zero => intro key step _ _ z; omega
  | succ f ih =>
    intro key step hs hk hf ha hn
    have fin : 256 ≤ key → post 256 := fun z => by
      have : key = 256 := by omega
      subst this
      exact hp 256 ⟨ha, by omega, hn, fun z => absurd z (by omega)⟩
    refine pk_le 256 step (fun z => fin (by omega)) (fun _ => pk_le 256 key fin (fun z => ?_))
    rw [hx.2.2.2, hx'.2.2.2]
    refine st_shared H hx.1 hx'.1 z (fun r h5 hr5 hr4 => pk_le r 4 (fun y => ?_) (fun y => ?_))
    · obtain ⟨b1, b2, b3⟩ := st_bh (show r < 5 by omega) z
      refine st_wbehind z (by omega) (nm_r (nI_1 step) (ih _ _ (by omega) b2 (by omega) (by omega) (fun k k1 k2 => ?_)))
      by_cases kk : k < key
      · exact hn k k1 kk
      · exact fun q => q (hr4 y k (b3 k (by omega) k2))
    · exact hp key ⟨ha, by omega, hn, fun _ => hr5 (by omega)⟩
theorem st_nextChange (H : st_H h (st_A a1 a5) a2 a3 P) {post : Int32 → Prop} {p0 p1 : Int32} {m m' a : Nat} (hx : st_ixm p0 m) (hx' : st_ixm p1 m') (ht : a4 m = 1) (ht' : a4 m' = 1) (ha : a ≤ 256)
    (hp : ∀ r, st_nx (fun k => st_ms (st_A a1 a5) a2 m k ≠ st_ms (st_A a1 a5) a2 m' k) a r → post (nI r)) : wpX_nextChange post (a1, a2, a3, a4, a5, a6, a7, a8) p0 p1 (nI a) := by
  unfold wpX_nextChange
  dsimp only
  refine st_isMap1 hx ht ?_
  refine br_f (by decide) ?_
  refine st_isMap1 hx' ht' ?_
  exact br_f (by decide) (br_t (nI_pos' (by omega)) ⟨257, st_nc_l H hx hx' hp 257 a 0 (by omega) ha (by omega) (by omega) (fun k k1 k2 => absurd k2 (by omega))⟩)
/-- how many keys two maps differ at -/
def st_df (f g : Nat → Option Int32) (n : Nat) : Nat := st_sm (fun k => if f k = g k then 0 else 1) n
theorem st_df_skip {f g : Nat → Option Int32} {a : Nat} : ∀ {r : Nat}, a ≤ r → (∀ k, a ≤ k → k < r → ¬ (f k ≠ g k)) → st_df f g r = st_df f g a := by
  intro r
  induction r with
  | zero =>
    intro ha _
    rw [show a = 0 by omega]
  | succ r ih =>
    intro ha hn
    by_cases e : a = r + 1
    · rw [e]
    · unfold st_df at ih ⊢
      rw [st_sm_s, ih (by omega) (fun k k1 k2 => hn k k1 (by omega))]
      have := Decidable.of_not_not (hn r (by omega) (by omega))
      rw [if_pos this]
      rfl
theorem st_ch_l (H : st_H h (st_A a1 a5) a2 a3 P) {post : Int32 → Prop} {p0 p1 : Int32} {m m' : Nat} (hx : st_ixm p0 m) (hx' : st_ixm p1 m') (ht : a4 m = 1) (ht' : a4 m' = 1)
    (hp : post (nI (st_df (st_ms (st_A a1 a5) a2 m) (st_ms (st_A a1 a5) a2 m') 256))) : ∀ f a key step, step ≤ key → 256 - key < f →
    st_nx (fun k => st_ms (st_A a1 a5) a2 m k ≠ st_ms (st_A a1 a5) a2 m' k) a key → 
    wX_changes_32 post p0 p1 a1 a2 a3 a4 a5 a6 a7 a8 f (nI (st_df (st_ms (st_A a1 a5) a2 m) (st_ms (st_A a1 a5) a2 m') a)) (nI key) (nI step) := by
  intro f
  induction f with
  | zero => intro a key step _ z; omega
  | succ f ih =>
    intro a key step hs hf hn
    obtain ⟨n1, n2, n3, n4⟩ := hn
    have hd := st_df_skip n1 n3
    have fin : 256 ≤ key → post (nI (st_df (st_ms (st_A a1 a5) a2 m) (st_ms (st_A a1 a5) a2 m') a)) := fun z => by
      have : key = 256 := by omega
      rw [← hd, this]
      exact hp
    refine pk_le 256 step (fun z => fin (by omega)) (fun _ => pk_le 256 key fin (fun z => ?_))
    have h1 : st_df (st_ms (st_A a1 a5) a2 m) (st_ms (st_A a1 a5) a2 m') a + 1 = st_df (st_ms (st_A a1 a5) a2 m) (st_ms (st_A a1 a5) a2 m') (key + 1) := by
      rw [← hd]
      unfold st_df
      rw [st_sm_s, if_neg (n4 z)]
    refine nm_r (by rw [nI_1, h1]) ?_
    rw [nI_1 key]
    exact st_nextChange H hx hx' ht ht' (by omega) (fun r hr => nm_r (nI_1 step) (ih (key + 1) r (step + 1) (by have := hr.1; omega) (by have := hr.1; omega) hr))
theorem st_changes (H : st_H h (st_A a1 a5) a2 a3 P) {post : Int32 → Prop} {p0 p1 : Int32} {m m' : Nat} (hx : st_ixm p0 m) (hx' : st_ixm p1 m') (ht : a4 m = 1) (ht' : a4 m' = 1)
    (hp : post (nI (st_df (st_ms (st_A a1 a5) a2 m) (st_ms (st_A a1 a5) a2 m') 256))) : wpX_changes post (a1, a2, a3, a4, a5, a6, a7, a8) p0 p1 := by
  unfold wpX_changes
  dsimp only
  refine st_isMap1 hx ht ?_
  refine br_f (by decide) ?_
  refine st_isMap1 hx' ht' ?_
  refine br_f (by decide) ?_
  refine st_nextChange (a := 0) H hx hx' ht ht' (by omega) (fun r hr => ?_)
  exact ⟨257, st_ch_l H hx hx' ht ht' hp 257 0 r 0 (by omega) (by omega) hr⟩
end CHANGE
end
section
/-! part 07: freeNode, ownNode, ownPath -/
theorem st_upd_self (f : Nat → Int32) (k : Nat) : upd f k (f k) = f := by
  funext j
  by_cases e : j = k
  · subst e; rw [pk_us]
  · rw [pk_un e]
section OWN
variable {h : Nat → Nat} {a1 a2 a3 a4 a5 a6 a7 a8 : Nat → Int32}
theorem st_a3_0 {A : Nat → Int32} (H : st_H h A a2 a3 (fun _ => 0)) {k : Nat} (hk : k < 400) : a3 k = 0 ↔ h k = 0 := by
  rw [H.1 k hk]
  have h2 := H.2.1 k hk
  have b := st_rf_bd h A (fun _ => 0) k
  show nI _ = nI 0 ↔ _
  rw [nI_eq (by omega) (by omega)]
  omega
theorem st_freeNode_l (H : st_H h (st_A a1 a5) a2 a3 (fun _ => 0)) (ex : ∃ n, n < 400 ∧ h n = 0) {post : Int32 → Prop} (hp : ∀ n, n < 400 → h n = 0 → post (nI n)) : ∀ f i, i ≤ 400 → 400 - i < f → (∀ k, k < i → h k ≠ 0) →
    wX_freeNode_2 post a1 a2 a3 a4 a5 a6 a7 a8 f (nI i) := by
  intro f
  induction f with
  | zero => intro i _ z; omega
  | succ f ih =>
    intro i hi hf hn
    refine pk_le 400 i (fun z => ?_) (fun z => ⟨vp_in_nI z (by omega), ?_⟩)
    · obtain ⟨n, n1, n2⟩ := ex
      exact absurd n2 (hn n (by omega))
    · rw [nI_clamp (by omega)]
      refine ek_if (st_a3_0 H z) (fun y => hp i z y) (fun y => nm_r (nI_1 i) (ih (i + 1) (by omega) (by omega) (fun k hk => ?_)))
      by_cases e : k = i
      · rw [e]; exact y
      · exact hn k (by omega)
theorem st_freeNode (H : st_H h (st_A a1 a5) a2 a3 (fun _ => 0)) (ex : ∃ n, n < 400 ∧ h n = 0) {post : Int32 → Prop} (hp : ∀ n, n < 400 → h n = 0 → post (nI n)) : wpX_freeNode post (a1, a2, a3, a4, a5, a6, a7, a8) :=
  ⟨401, st_freeNode_l H ex hp 401 0 (by omega) (by omega) (fun k z => absurd z (by omega))⟩
def st_oi (lv n : Nat) (src a1 a3 : Nat → Int32) (i : Nat) (b1 b3 : Nat → Int32) : Prop :=
  (∀ j, j / 4 ≠ n → b1 j = a1 j) ∧ (∀ w, w < i → b1 (4 * n + w) = src w) ∧ (∀ k, k < 400 → b3 k = a3 k + nI (if lv < 3 then st_sm (fun w => st_e (src w) k) i else 0))
theorem st_oi_a1 {lv n i : Nat} {src b1 b3 : Nat → Int32} (h : st_oi lv n src a1 a3 i b1 b3) : (∀ j, j / 4 ≠ n → upd b1 (4 * n + i) (src i) j = a1 j) ∧ (∀ w, w < i + 1 → upd b1 (4 * n + i) (src i) (4 * n + w) = src w) ∨ 4 ≤ i := by
  by_cases hi : i < 4
  · refine Or.inl ⟨fun j hj => ?_, fun w hw => ?_⟩
    · rw [pk_un (by omega)]; exact h.1 j hj
    · by_cases e : w = i
      · rw [e, pk_us]
      · rw [pk_un (by omega)]; exact h.2.1 w (by omega)
  · exact Or.inr (by omega)
theorem st_on75 {post : Int32 → St1 → Prop} {J : Int32 → (Nat → Int32) → (Nat → Int32) → (Nat → Int32) → (Nat → Int32) → (Nat → Int32) → (Nat → Int32) → (Nat → Int32) → (Nat → Int32) → Prop} {x : Int32} {lv n i : Nat} {src b1 b3 : Nat → Int32} (hn : n < 400) (hlv : lv ≤ 3) (hi : i < 4)
    (hok : lv < 3 → src i = -1 ∨ ∃ d, d < 400 ∧ src i = nI d) (hI : st_oi lv n src a1 a3 i b1 b3) (hJ : ∀ c1 c3, st_oi lv n src a1 a3 (i + 1) c1 c3 → J (nI (i + 1)) c1 a2 c3 a4 a5 a6 a7 a8) :
    wX_ownNode_75 post J x (nI lv) (nI n) (nI i) (src i) (nI (4 * n + i)) b1 a2 b3 a4 a5 a6 a7 a8 := by
  unfold wX_ownNode_75
  rcases st_oi_a1 hI with ⟨i1, i2⟩ | z
  · refine ⟨vp_in_nI (by omega) (by omega), nm_e ?_⟩
    rw [nI_clamp (by omega)]
    refine pk_le 3 lv (fun z => nm_r (nI_1 i) (hJ _ _ ⟨i1, i2, fun k hk => ?_⟩)) (fun z => ?_)
    · rw [hI.2.2 k hk, if_neg (by omega), if_neg (by omega)]
    · rw [st_ix4, nI_clamp (by omega), pk_us]
      refine ⟨vp_in_nI (by omega) (by omega), ?_⟩
      rcases hok z with e | ⟨d, hd, e⟩
      · refine br_t (by rw [e]; exact st_m1_neg) (nm_r (nI_1 i) (hJ _ _ ⟨i1, i2, fun k hk => ?_⟩))
        rw [hI.2.2 k hk, if_pos z, if_pos z, st_sm_s, e, st_e_m1 hk]
        rfl
      · have hin : vp_in (src i) 400 := by rw [e]; exact vp_in_nI hd (by omega)
        refine br_f (by rw [e]; exact nI_pos (by omega)) ⟨vp_in_nI (by omega) (by omega), hin, hin, nm_e (nm_r (nI_1 i) (hJ _ _ ⟨i1, i2, fun k hk => ?_⟩))⟩
        rw [e, nI_clamp (by omega), if_pos z, st_sm_s]
        by_cases ek : k = d
        · subst ek
          rw [pk_us, hI.2.2 k hk, if_pos z, e, st_e_self, ← nI_1]
          grind
        · rw [pk_un ek, hI.2.2 k hk, if_pos z, e, st_e_nn (by omega) (by omega) (fun q => ek q.symm)]
          rfl
  · omega
theorem st_ownL {post : Int32 → St1 → Prop} {x : Int32} {lv n : Nat} {src : Nat → Int32} (hn : n < 400) (hlv : lv ≤ 3)
    (hs : (x = -1 ∧ ∀ i, i < 4 → src i = if 3 ≤ lv then 0 else -1) ∨ ∃ c, c < 400 ∧ c ≠ n ∧ x = nI c ∧ ∀ i, i < 4 → src i = a1 (4 * c + i))
    (hok : lv < 3 → ∀ i, i < 4 → src i = -1 ∨ ∃ d, d < 400 ∧ src i = nI d)
    (hp : ∀ b1 b3, st_oi lv n src a1 a3 4 b1 b3 → wX_ownNode_140 post x (nI lv) (nI n) (if x < 0 then 0 else a2 x.toNatClampNeg) (nI n) b1 a2 b3 a4 a5 a6 a7 a8) :
    ∃ f, wX_ownNode_31 post x (nI lv) (nI n) f 0 a1 a2 a3 a4 a5 a6 a7 a8 := by
  refine pk_loop (σ := (Nat → Int32) × (Nat → Int32)) (fun f i s => wX_ownNode_31 post x (nI lv) (nI n) f (nI i) s.1 a2 s.2 a4 a5 a6 a7 a8) (fun i s => st_oi lv n src a1 a3 i s.1 s.2) 4 0 (a1, a3) (by omega) ?_ ?_ ?_
  · refine ⟨fun j _ => rfl, fun w z => absurd z (by omega), fun k _ => ?_⟩
    show a3 k = a3 k + nI _
    have : (if lv < 3 then st_sm (fun w => st_e (src w) k) 0 else 0) = 0 := by split <;> rfl
    rw [this, nI_0, Int32.add_zero]
  · intro f s hI
    refine br_t (by decide) ?_
    have := hp s.1 s.2 hI
    rcases hs with ⟨e, _⟩ | ⟨c, hc, _, e, _⟩
    · rw [e] at this ⊢
      rw [if_pos st_m1_neg] at this
      exact br_f (by decide) this
    · rw [e] at this ⊢
      rw [if_neg (nI_pos (by omega))] at this
      exact br_t (nI_pos' (by omega)) ⟨vp_in_nI hc (by omega), this⟩
  · intro f i s hi hI hw
    have main : wX_ownNode_75 post (wX_ownNode_31 post x (nI lv) (nI n) f) x (nI lv) (nI n) (nI i) (src i) (nI (4 * n + i)) s.1 a2 s.2 a4 a5 a6 a7 a8 :=
      st_on75 hn hlv hi (fun z => hok z i hi) hI (fun c1 c3 hc => hw (c1, c3) hc)
    refine pk_le 4 i (fun z => absurd z (by omega)) (fun _ => ?_)
    rw [st_ix4]
    rcases hs with ⟨e, es⟩ | ⟨c, hc, hcn, e, es⟩
    · rw [es i hi] at main
      rw [e] at main ⊢
      refine br_f (by decide) (pk_le 3 lv (fun z => ?_) (fun z => ?_))
      · rw [if_pos z] at main; exact main
      · rw [if_neg (by omega)] at main; exact main
    · rw [es i hi, ← hI.1 _ (show (4 * c + i) / 4 ≠ n by omega)] at main
      rw [e] at main ⊢
      rw [st_ix4, nI_clamp (by omega)]
      exact br_t (nI_pos' (by omega)) ⟨vp_in_nI (by omega) (by omega), main⟩
theorem st_or256 : ∀ b, b < 16 → nI (256 + b) ||| 256 = nI (256 + b) := by decide
theorem st_on140 {post : Int32 → St1 → Prop} {x z0 : Int32} {lv n : Nat} (hn : n < 400) (hlv : lv ≤ 3) {b3 : Nat → Int32} (hx : (x = -1 ∧ b3 = a3) ∨ ∃ c, c < 400 ∧ x = nI c ∧ b3 = upd a3 c (a3 c - 1))
    (hp : ∀ b2, (∀ q, q ≠ n → b2 q = a2 q) → b2 n = (if lv < 3 then 0 else z0 ||| 256) → post (nI n) (a1, b2, b3, a4, a5, a6, a7, a8)) :
    wX_ownNode_140 post x (nI lv) (nI n) z0 (nI n) a1 a2 a3 a4 a5 a6 a7 a8 := by
  unfold wX_ownNode_140
  refine ⟨vp_in_nI hn (by omega), nm_e ?_⟩
  have fin : ∀ b2, (∀ q, q ≠ n → b2 q = a2 q) → b2 n = (if lv < 3 then 0 else z0 ||| 256) →
      ((x < 0 → post (nI n) (a1, b2, a3, a4, a5, a6, a7, a8)) ∧ (¬ x < 0 → (vp_in x 400 ∧ (vp_in x 400 ∧ ∀ am : Nat → Int32, am = upd a3 x.toNatClampNeg ((a3 x.toNatClampNeg) - 1) → post (nI n) (a1, b2, am, a4, a5, a6, a7, a8))))) := by
    intro b2 e1 e2
    have := hp b2 e1 e2
    rcases hx with ⟨e, eb⟩ | ⟨c, hc, e, eb⟩
    · rw [eb] at this
      exact br_t (by rw [e]; exact st_m1_neg) this
    · rw [eb] at this
      rw [e, nI_clamp (by omega)]
      exact br_f (nI_pos (by omega)) ⟨vp_in_nI hc (by omega), vp_in_nI hc (by omega), nm_e this⟩
  rw [nI_clamp (by omega)]
  refine pk_eq lv 3 (fun z => ?_) (fun z => ?_)
  · rw [nI_clamp (by omega)]
    refine ⟨vp_in_nI hn (by omega), vp_in_nI hn (by omega), nm_e (fin _ (fun q hq => by rw [pk_un hq, pk_un hq]) ?_)⟩
    rw [pk_us, pk_us, if_neg (by omega)]
  · rw [nI_clamp (by omega)]
    refine ⟨vp_in_nI hn (by omega), nm_e (fin _ (fun q hq => by rw [pk_un hq, pk_un hq]) ?_)⟩
    rw [pk_us, if_pos (by omega)]
theorem st_own16 (H : st_H h (st_A a1 a5) a2 a3 (fun _ => 0)) {p w lv : Nat} (hp : p < 402) (h2 : 2 ≤ h p) (hw : w < 4) (hlv : lv + h p = 5) (ex : ∃ n, n < 400 ∧ h n = 0) {x : Int32} (hx : x = st_A a1 a5 (4 * p + w)) (hne : ∀ c, c < 400 → x = nI c → a3 c ≠ 1)
    {post : Int32 → St1 → Prop}
    (K : ∀ n h' b1 b2 b3, n < 400 → st_H h' (upd (st_A b1 a5) (4 * p + w) (nI n)) b2 b3 (fun _ => 0) → (∀ m, m < 8 → ∀ key, st_ms (upd (st_A b1 a5) (4 * p + w) (nI n)) b2 m key = st_ms (st_A a1 a5) a2 m key) → b3 n = 1 → h' n = h p - 1 →
      (∀ q, q < 402 → h p ≤ h q → h' q = h q ∧ (q < 400 → b3 q = a3 q) ∧ ∀ i, i < 4 → st_A b1 a5 (4 * q + i) = st_A a1 a5 (4 * q + i)) → (∀ q, q < 400 → q ≠ n → h' q = 1 → h q = 1 ∧ b2 q = a2 q) → post (nI n) (b1, b2, b3, a4, a5, a6, a7, a8)) :
    wX_ownNode_16 post x (nI lv) a1 a2 a3 a4 a5 a6 a7 a8 := by
  unfold wX_ownNode_16
  refine st_freeNode H ex (fun n hn h0 => ⟨vp_in_nI hn (by omega), nm_e ?_⟩)
  rw [nI_clamp (by omega)]
  have hxok := H.2.2.2.2.1 p hp h2 w hw
  rw [← hx] at hxok
  have fin : ∀ b1 b2 b3, (∀ j, j / 4 ≠ n → b1 j = a1 j) → 
      ((x = -1 ∧ (3 ≤ h p → ∀ i, i < 4 → b1 (4 * n + i) = -1) ∧ (h p = 2 → b2 n = nI 256)) ∨ ∃ c, c < 400 ∧ x = nI c ∧ (∀ i, i < 4 → b1 (4 * n + i) = a1 (4 * c + i)) ∧ (h p = 2 → b2 n = a2 c)) → (∀ q, q ≠ n → b2 q = a2 q) → (3 ≤ h p → b2 n = 0) →
      (∀ k, k < 400 → b3 k = (if k = n then 1 else a3 k) + nI (if 3 ≤ h p then st_sm (fun i => st_e (b1 (4 * n + i)) k) 4 else 0) - nI (st_e x k)) → post (nI n) (b1, b2, b3, a4, a5, a6, a7, a8) := by
    intro b1 b2 b3 hb1 hsrc hb2 hb20 hb3
    have hA1 : ∀ j, j / 4 ≠ n → st_A b1 a5 j = st_A a1 a5 j := by
      intro j hj
      unfold st_A
      rw [hb1 j hj]
    have hAn : ∀ i, i < 4 → st_A b1 a5 (4 * n + i) = b1 (4 * n + i) := fun i hi => st_A_lo (by omega)
    have hsm : ∀ k, st_sm (fun i => st_e (st_A b1 a5 (4 * n + i)) k) 4 = st_sm (fun i => st_e (b1 (4 * n + i)) k) 4 := fun k => st_sm_congr (fun i hi => by rw [hAn i hi])
    have O := st_own (A1 := st_A b1 a5) (a2' := b2) (a3' := b3) H hp h2 hw hn h0 hA1 ?_ hb2 hb20 (fun k hk => by rw [hb3 k hk, hsm, hx])
    · obtain ⟨O1, O2, O3, O4⟩ := O
      refine K n _ b1 b2 b3 hn O1 O2 O3 st_ups (fun q hq hl => ⟨st_upn (fun z => by subst z; omega), fun hq4 => O4 q hq4 hl, fun i hi => hA1 _ (fun z => ?_)⟩) (fun q hq hqn h1 => ?_)
      · have : q = n := by omega
        subst this; omega
      · rw [st_upn hqn] at h1
        exact ⟨h1, hb2 q hqn⟩
    · rw [← hx]
      rcases hsrc with ⟨e, e1, e2⟩ | ⟨c, hc, e, e1, e2⟩
      · exact Or.inl ⟨e, fun z i hi => by rw [hAn i hi]; exact e1 z i hi, e2⟩
      · exact Or.inr ⟨c, hc, e, hne c hc e, fun i hi => by rw [hAn i hi, e1 i hi, st_A_lo (by omega)], e2⟩
  rcases hxok with e | ⟨c, hc, e, hl⟩
  · refine st_ownL (src := fun _ => if 3 ≤ lv then 0 else -1) hn (by omega) (Or.inl ⟨e, fun _ _ => rfl⟩) (fun z i hi => Or.inl (if_neg (by omega))) (fun b1 b3 hI => ?_)
    obtain ⟨i1, i2, i3⟩ := hI
    rw [if_pos (by rw [e]; exact st_m1_neg)]
    refine st_on140 (b3 := b3) hn (by omega) (Or.inl ⟨e, rfl⟩) (fun b2 q1 q2 => fin b1 b2 b3 i1 (Or.inl ⟨e, fun z i hi => ?_, fun z => ?_⟩) q1 (fun z => ?_) (fun k hk => ?_))
    · rw [i2 i hi, if_neg (by omega)]
    · rw [q2, if_neg (by omega)]
      rfl
    · rw [q2, if_pos (by omega)]
    · rw [i3 k hk, e, st_e_m1 hk, nI_0, Int32.sub_zero]
      have e3 : (if 3 ≤ h p then st_sm (fun i => st_e (b1 (4 * n + i)) k) 4 else 0) = (if lv < 3 then st_sm (fun w => st_e (if 3 ≤ lv then 0 else -1) k) 4 else 0) := by
        by_cases z : 3 ≤ h p
        · rw [if_pos z, if_pos (by omega)]
          exact st_sm_congr (fun i hi => by rw [i2 i hi])
        · rw [if_neg z, if_neg (by omega)]
      rw [e3]
      rfl
  · have hcn : c ≠ n := fun z => by subst z; omega
    refine st_ownL (src := fun i => a1 (4 * c + i)) hn (by omega) (Or.inr ⟨c, hc, hcn, e, fun _ _ => rfl⟩) (fun z i hi => ?_) (fun b1 b3 hI => ?_)
    · have := H.2.2.2.2.1 c (by omega) (by omega) i hi
      rw [st_A_lo (by omega)] at this
      rcases this with q | ⟨d, hd, q, _⟩
      · exact Or.inl q
      · exact Or.inr ⟨d, hd, q⟩
    · obtain ⟨i1, i2, i3⟩ := hI
      rw [if_neg (by rw [e]; exact nI_pos (by omega)), e, nI_clamp (by omega), ← e]
      refine st_on140 (b3 := upd b3 c (b3 c - 1)) hn (by omega) (Or.inr ⟨c, hc, e, rfl⟩) (fun b2 q1 q2 => fin b1 b2 _ i1 (Or.inr ⟨c, hc, e, i2, fun z => ?_⟩) q1 (fun z => ?_) (fun k hk => ?_))
      · obtain ⟨b, hb, eb⟩ := H.2.2.2.2.2.2 c hc (by omega)
        rw [q2, if_neg (by omega), eb]
        exact st_or256 b hb
      · rw [q2, if_pos (by omega)]
      · have e3 : (if 3 ≤ h p then st_sm (fun i => st_e (b1 (4 * n + i)) k) 4 else 0) = (if lv < 3 then st_sm (fun w => st_e (a1 (4 * c + w)) k) 4 else 0) := by
          by_cases z : 3 ≤ h p
          · rw [if_pos z, if_pos (by omega)]
            exact st_sm_congr (fun i hi => by rw [i2 i hi])
          · rw [if_neg z, if_neg (by omega)]
        rw [e3, e]
        by_cases ek : k = c
        · subst ek
          rw [pk_us, i3 k hk, st_e_self]
          rfl
        · rw [pk_un ek, i3 k hk, st_e_nn (by omega) (by omega) (fun q => ek q.symm), nI_0, Int32.sub_zero]
          rfl
theorem st_ownNode (H : st_H h (st_A a1 a5) a2 a3 (fun _ => 0)) {p w lv : Nat} (hp : p < 402) (h2 : 2 ≤ h p) (hw : w < 4) (hlv : lv + h p = 5) (ex : ∃ n, n < 400 ∧ h n = 0) {x : Int32} (hx : x = st_A a1 a5 (4 * p + w))
    {post : Int32 → St1 → Prop}
    (K : ∀ n h' b1 b2 b3, n < 400 → st_H h' (upd (st_A b1 a5) (4 * p + w) (nI n)) b2 b3 (fun _ => 0) → (∀ m, m < 8 → ∀ key, st_ms (upd (st_A b1 a5) (4 * p + w) (nI n)) b2 m key = st_ms (st_A a1 a5) a2 m key) → b3 n = 1 → h' n = h p - 1 →
      (∀ q, q < 402 → h p ≤ h q → h' q = h q ∧ (q < 400 → b3 q = a3 q) ∧ ∀ i, i < 4 → st_A b1 a5 (4 * q + i) = st_A a1 a5 (4 * q + i)) → (∀ q, q < 400 → q ≠ n → h' q = 1 → h q = 1 ∧ b2 q = a2 q) → post (nI n) (b1, b2, b3, a4, a5, a6, a7, a8)) :
    wpX_ownNode post (a1, a2, a3, a4, a5, a6, a7, a8) x (nI lv) := by
  have hxok := H.2.2.2.2.1 p hp h2 w hw
  rw [← hx] at hxok
  have step : (∀ c, c < 400 → x = nI c → a3 c ≠ 1) → wX_ownNode_16 post x (nI lv) a1 a2 a3 a4 a5 a6 a7 a8 := fun hne => st_own16 H hp h2 hw hlv ex hx hne K
  rcases hxok with e | ⟨c, hc, e, hl⟩
  · exact br_t (by rw [e]; exact st_m1_neg) (step (fun c hc ec => absurd (e.symm.trans ec) (st_m1_ne (by omega))))
  · refine br_f (by rw [e]; exact nI_pos (by omega)) ⟨by rw [e]; exact vp_in_nI hc (by omega), br_c (fun z => ?_) (fun z => step (fun d hd ed => ?_))⟩
    · rw [e, nI_clamp (by omega)] at z
      have es : upd (st_A a1 a5) (4 * p + w) (nI c) = st_A a1 a5 := by rw [← e, hx]; exact st_upd_self _ _
      rw [e]
      exact K c h a1 a2 a3 hc (by rw [es]; exact H) (fun m hm key => by rw [es]) z hl (fun q hq _ => ⟨rfl, fun _ => rfl, fun _ _ => rfl⟩) (fun q hq _ h1 => ⟨h1, rfl⟩)
    · rw [e, nI_clamp (by omega)] at z
      have : c = d := (nI_eq (by omega) (by omega)).mp (e.symm.trans ed)
      rw [← this]
      exact z
end OWN
theorem st_on31_eq (post : Int32 → St1 → Prop) (x1 x2 x3 : Int32) : ∀ n, wX_ownNode_2_31 post x1 x2 x3 n = wX_ownNode_31 post x1 x2 x3 n := by
  intro n
  induction n with
  | zero => rfl
  | succ n ih =>
    funext x4 a1 a2 a3 a4 a5 a6 a7 a8
    unfold wX_ownNode_2_31 wX_ownNode_31
    rw [ih]
    rfl
theorem st_on16_eq : wX_ownNode_2_16 = wX_ownNode_16 := by
  funext post x1 x2 a1 a2 a3 a4 a5 a6 a7 a8
  unfold wX_ownNode_2_16 wX_ownNode_16
  have : wX_ownNode_2_31 post = wX_ownNode_31 post := by
    funext x1 x2 x3 n
    exact st_on31_eq post x1 x2 x3 n
  rw [this]
theorem st_on_eq : wpX_ownNode_2 = wpX_ownNode := by
  funext post u p0 p1
  unfold wpX_ownNode_2 wpX_ownNode
  rw [st_on16_eq]
end
section
/-! part 08: ownPath -/
def st_pth (h : Nat → Nat) (A a3 a7 : Nat → Int32) (key j : Nat) : Prop :=
  A 1600 = a7 0 ∧ (∀ i, i < j → A (4 * (a7 i).toNatClampNeg + key / 4 ^ (3 - i) % 4) = a7 (i + 1)) ∧ (∀ i, i ≤ j → ∃ c, c < 400 ∧ a7 i = nI c ∧ h c = 4 - i ∧ a3 c = 1)
/-- no leaf is empty, but perhaps the one that was just made -/
def st_NE (h : Nat → Nat) (a2 a7 : Nat → Int32) (j : Nat) : Prop := ∀ q, q < 400 → h q = 1 → (j = 3 → nI q ≠ a7 3) → a2 q ≠ nI 256
section PATH
variable {a4 a6 a8 : Nat → Int32}
theorem st_cd_congr {f g : Nat → Option Int32} (e : ∀ k, k < 256 → f k = g k) : st_cd f = st_cd g := st_sm_congr (fun k hk => by rw [e k hk])
theorem st_path_step {h h' : Nat → Nat} {A B a3 b3 a7 : Nat → Int32} {key j p n : Nat} (hj : j < 3) (hpth : st_pth h A a3 a7 key j) (hp : p < 400) (ep : a7 j = nI p) (hn : n < 400) (h3 : b3 n = 1) (hl : h' n = h p - 1) (h45 : h 400 = 5)
    (hq : ∀ q, q < 402 → h p ≤ h q → h' q = h q ∧ (q < 400 → b3 q = a3 q) ∧ ∀ i, i < 4 → B (4 * q + i) = A (4 * q + i)) :
    st_pth h' (upd B (4 * p + key / 4 ^ (3 - j) % 4) (nI n)) b3 (upd a7 (j + 1) (nI n)) key (j + 1) := by
  obtain ⟨p1, p2, p3⟩ := hpth
  have hpj : h p = 4 - j := by
    obtain ⟨c, hc, ec, el, _⟩ := p3 j (by omega)
    have : p = c := (nI_eq (by omega) (by omega)).mp (ep.symm.trans ec)
    rw [this]; exact el
  have ht : key / 4 ^ (3 - j) % 4 < 4 := Nat.mod_lt _ (by omega)
  refine ⟨?_, ?_, ?_⟩
  · rw [pk_un (by omega), pk_un (by omega), ← p1]
    have := (hq 400 (by omega) (by omega)).2.2 0 (by omega)
    exact this
  · intro i hi
    by_cases e : i = j
    · subst e
      rw [pk_un (show i ≠ i + 1 by omega), ep, nI_clamp (by omega), pk_us, pk_us]
    · obtain ⟨c, hc, ec, el, _⟩ := p3 i (by omega)
      have hcp : c ≠ p := fun z => by subst z; omega
      have ht' : key / 4 ^ (3 - i) % 4 < 4 := Nat.mod_lt _ (by omega)
      have := p2 i (by omega)
      rw [pk_un (show i ≠ j + 1 by omega), pk_un (show i + 1 ≠ j + 1 by omega), ← this, ec, nI_clamp (by omega), pk_un (by omega)]
      exact (hq c (by omega) (by omega)).2.2 _ ht'
  · intro i hi
    by_cases e : i = j + 1
    · subst e
      exact ⟨n, hn, pk_us, by omega, h3⟩
    · obtain ⟨c, hc, ec, el, e3⟩ := p3 i (by omega)
      have := hq c (by omega) (by omega)
      exact ⟨c, hc, by rw [pk_un e]; exact ec, by rw [this.1]; exact el, by rw [this.2.1 hc]; exact e3⟩
theorem st_ownPath_l {M : Nat → Nat → Option Int32} {key : Nat} (hk : key < 256) (hcd : ∀ m, m < 8 → st_cd (M m) ≤ 16) {a5 : Nat → Int32} {post : Int32 → St1 → Prop}
    (K : ∀ h b1 b2 b3 b7, st_H h (st_A b1 a5) b2 b3 (fun _ => 0) → (∀ m, m < 8 → ∀ k, st_ms (st_A b1 a5) b2 m k = M m k) → st_NE h b2 b7 3 → st_pth h (st_A b1 a5) b3 b7 key 3 → post (b7 3) (b1, b2, b3, a4, a5, a6, b7, a8)) :
    ∀ e, e ≤ 3 → ∀ h b1 b2 b3 b7, st_H h (st_A b1 a5) b2 b3 (fun _ => 0) → (∀ m, m < 8 → ∀ k, st_ms (st_A b1 a5) b2 m k = M m k) → st_NE h b2 b7 (3 - e) → st_pth h (st_A b1 a5) b3 b7 key (3 - e) →
      wX_ownPath_31 post (nI key) (e + 1) (nI (3 - e)) b1 b2 b3 a4 a5 a6 b7 a8 := by
  intro e
  induction e with
  | zero =>
    intro _ h b1 b2 b3 b7 H hM hN hp
    exact br_t (by decide) (K h b1 b2 b3 b7 H hM hN hp)
  | succ e ih =>
    intro he h b1 b2 b3 b7 H hM hN hp
    obtain ⟨c, hc, ec, el, e3⟩ := hp.2.2 (3 - (e + 1)) (by omega)
    have ht : key / 4 ^ (3 - (3 - (e + 1))) % 4 < 4 := Nat.mod_lt _ (by omega)
    have ex := st_free H (fun q hq h1 => hN q hq h1 (fun z => by omega)) (fun m hm => by rw [st_cd_congr (fun k _ => hM m hm k)]; exact hcd m hm)
    refine pk_le 3 (3 - (e + 1)) (fun z => absurd z (by omega)) (fun _ => ⟨vp_in_nI (by omega) (by omega), st_wturn hk (by omega) ?_⟩)
    rw [nI_clamp (by omega), ec, st_ix4]
    refine nm_e ⟨vp_in_nI (by omega) (by omega), ?_⟩
    rw [nI_clamp (by omega), nI_1, show 3 - (e + 1) + 1 = 3 - e by omega, st_on_eq]
    refine st_ownNode (p := c) (w := key / 4 ^ (3 - (3 - (e + 1))) % 4) H (by omega) (by omega) ht (by omega) ex (st_A_lo (by omega)).symm (fun n h' c1 c2 c3 hn H' hM' h3 hl hq hne => ?_)
    refine ⟨vp_in_nI (by omega) (by omega), nm_e ⟨vp_in_nI (by omega) (by omega), vp_in_nI (by omega) (by omega), ?_⟩⟩
    rw [pk_us, nI_clamp (by omega)]
    have hs := st_path_step (B := st_A c1 a5) (show 3 - (e + 1) < 3 by omega) hp hc ec hn h3 hl H.2.2.2.1.1 hq
    rw [show 3 - (e + 1) + 1 = 3 - e by omega] at hs
    refine nm_e (nm_e (ih (by omega) h' _ c2 c3 _ ?_ ?_ ?_ ?_))
    · rw [st_A_u1 (by omega)]; exact H'
    · rw [st_A_u1 (by omega)]; exact fun m hm k => by rw [hM' m hm k]; exact hM m hm k
    · intro q hq' h1 h33
      by_cases z : q = n
      · exfalso
        subst z
        have : 3 - e = 3 := by omega
        refine h33 this ?_
        rw [this, pk_us]
      · obtain ⟨g1, g2⟩ := hne q hq' z h1
        rw [g2]
        exact hN q hq' g1 (fun z => by omega)
    · rw [st_A_u1 (by omega)]; exact hs
theorem st_ownPath {h : Nat → Nat} {a1 a2 a3 a5 a7 : Nat → Int32} {key : Nat} (hk : key < 256) (H : st_H h (st_A a1 a5) a2 a3 (fun _ => 0)) (hN : ∀ q, q < 400 → h q = 1 → a2 q ≠ nI 256) (hcd : ∀ m, m < 8 → st_cd (st_ms (st_A a1 a5) a2 m) ≤ 16) {post : Int32 → St1 → Prop}
    (K : ∀ h b1 b2 b3 b5 b7, st_H h (st_A b1 b5) b2 b3 (fun _ => 0) → (∀ m, m < 8 → ∀ k, st_ms (st_A b1 b5) b2 m k = st_ms (st_A a1 a5) a2 m k) → st_NE h b2 b7 3 → st_pth h (st_A b1 b5) b3 b7 key 3 → (∀ m, m ≠ 0 → b5 m = a5 m) → post (b7 3) (b1, b2, b3, a4, b5, a6, b7, a8)) :
    wpX_ownPath post (a1, a2, a3, a4, a5, a6, a7, a8) (nI key) := by
  have h400 := H.2.2.2.1.1
  refine st_ownNode (p := 400) (w := 0) (lv := 0) H (by omega) (by omega) (by omega) (by omega) (st_free H hN hcd) (st_A_hi (m := 0)).symm (fun n h' c1 c2 c3 hn H' hM' h3 hl hq hne => ?_)
  refine nm_e (nm_e ⟨4, ?_⟩)
  have eA : st_A c1 (upd a5 0 (nI n)) = upd (st_A c1 a5) (4 * 400 + 0) (nI n) := st_A_u5
  refine st_ownPath_l (M := st_ms (st_A a1 a5) a2) hk hcd (fun g b1 b2 b3 b7 G1 G2 G3 G4 => K g b1 b2 b3 _ b7 G1 G2 G3 G4 (fun m hm => pk_un hm)) 3 (by omega) h' c1 c2 c3 _ ?_ ?_ ?_ ?_
  · rw [eA]; exact H'
  · rw [eA]; exact hM'
  · intro q hq' h1 _
    obtain ⟨g1, g2⟩ := hne q hq' (fun z => by subst z; omega) h1
    rw [g2]
    exact hN q hq' g1
  · rw [eA]
    refine ⟨?_, fun i hi => absurd hi (by omega), fun i hi => ⟨n, hn, ?_, by omega, h3⟩⟩
    · rw [show 4 * 400 + 0 = 1600 from rfl, pk_us, pk_us, pk_us]
    · have : i = 0 := by omega
      subst this
      rw [pk_us, pk_us]
end PATH
end
section
/-! part 09: the object's picture; put -/
def st_I (T : Nat → Bool) (M : Nat → Nat → Option Int32) (a1 a2 a3 a4 a5 a6 : Nat → Int32) : Prop :=
  ∃ h, st_H h (st_A a1 a5) a2 a3 (fun _ => 0) ∧ (∀ q, q < 400 → h q = 1 → a2 q ≠ nI 256) ∧ (∀ m, m < 8 → ∀ k, k < 256 → st_ms (st_A a1 a5) a2 m k = M m k) ∧
    (∀ m, m < 8 → a6 m = nI (st_cd (M m)) ∧ st_cd (M m) ≤ 16) ∧ (∀ m, m < 8 → a4 m = if T m = true then 1 else 0) ∧ (∀ m, m < 8 → T m = false → a5 m = -1) ∧ T 0 = true
def st_pm (M : Nat → Nat → Option Int32) (s : Nat) (key : Nat) (o : Option Int32) : Nat → Nat → Option Int32 := fun m k => if m = s ∧ k = key then o else M m k
theorem st_n1_ok {h : Nat → Nat} {A a2 a3 : Nat → Int32} {P : Nat → Nat} (H : st_H h A a2 a3 P) {m : Nat} (hm : m < 8) (k : Nat) : st_ok h 3 (st_n1 A m k) := by
  unfold st_n1
  rcases st_root_ok H hm with z | ⟨c, hc, e, hl⟩
  · rw [z, st_ch_m]; exact st_ok_m
  · rw [e, st_ch_n A (by omega)]
    have := H.2.2.2.2.1 c (by omega) (by omega) (k / 64 % 4) (by omega)
    rw [hl] at this
    exact this
theorem st_n2_ok {h : Nat → Nat} {A a2 a3 : Nat → Int32} {P : Nat → Nat} (H : st_H h A a2 a3 P) {m : Nat} (hm : m < 8) (k : Nat) : st_ok h 2 (st_n2 A m k) := by
  unfold st_n2
  rcases st_n1_ok H hm k with z | ⟨c, hc, e, hl⟩
  · rw [z, st_ch_m]; exact st_ok_m
  · rw [e, st_ch_n A (by omega)]
    have := H.2.2.2.2.1 c (by omega) (by omega) (k / 16 % 4) (by omega)
    rw [hl] at this
    exact this
/-- a node with one user: who leads to it is known -/
theorem st_up1 {h : Nat → Nat} {A a2 a3 : Nat → Int32} (H : st_H h A a2 a3 (fun _ => 0)) {l c p s t : Nat} {x : Int32} (hx : st_ok h l x) (hl : 2 ≤ l) (hc : c < 400) (h1 : a3 c = 1) (ht : t < 4) (e : st_ch A x t = nI c) (hp : p < 402) (h2 : 2 ≤ h p) (hs : s < 4) (ep : A (4 * p + s) = nI c) : x = nI p ∧ t = s := by
  have hr : st_rf h A (fun _ => 0) c = 1 := by
    have r1 := H.1 c hc
    have b := st_rf_bd h A (fun _ => 0) c
    rw [h1] at r1
    exact ((nI_eq (a := 1) (by omega) (by omega)).mp r1).symm
  rcases hx with z | ⟨d, hd, ed, hdl⟩
  · rw [z, st_ch_m] at e
    exact absurd e (st_m1_ne (by omega))
  · rw [ed, st_ch_n A (by omega)] at e
    obtain ⟨q1, q2⟩ := st_rf_uniq (P := fun _ => 0) (Nat.le_of_eq hr) (show d < 402 by omega) (by omega) ht e hp h2 hs ep
    exact ⟨by rw [ed, q1], q2⟩
theorem st_pth_n3 {h : Nat → Nat} {A a3 a7 : Nat → Int32} {key : Nat} (hp : st_pth h A a3 a7 key 3) : ∀ k, k / 4 = key / 4 → st_n3 A 0 k = a7 3 := by
  intro k hk
  obtain ⟨p1, p2, p3⟩ := hp
  obtain ⟨c0, hc0, e0, _⟩ := p3 0 (by omega)
  obtain ⟨c1, hc1, e1, _⟩ := p3 1 (by omega)
  obtain ⟨c2, hc2, e2, _⟩ := p3 2 (by omega)
  have l0 := p2 0 (by omega)
  have l1 := p2 1 (by omega)
  have l2 := p2 2 (by omega)
  rw [e0, nI_clamp (by omega), show 4 ^ (3 - 0) = 64 from rfl, e1] at l0
  rw [e1, nI_clamp (by omega), show 4 ^ (3 - 1) = 16 from rfl, e2] at l1
  rw [e2, nI_clamp (by omega), show 4 ^ (3 - 2) = 4 from rfl] at l2
  unfold st_n3 st_n2 st_n1
  rw [show 1600 + 0 = 1600 from rfl, p1, e0, st_ch_n A (by omega), show k / 64 % 4 = key / 64 % 4 by omega, l0, st_ch_n A (by omega), show k / 16 % 4 = key / 16 % 4 by omega, l1, st_ch_n A (by omega), hk]
  exact l2
theorem st_uniq {h : Nat → Nat} {A a2 a3 a7 : Nat → Int32} (H : st_H h A a2 a3 (fun _ => 0)) {key m k : Nat} (hp : st_pth h A a3 a7 key 3) (hm : m < 8) (hk : k < 256) (hky : key < 256) (e : st_n3 A m k = a7 3) : m = 0 ∧ k / 4 = key / 4 := by
  obtain ⟨p1, p2, p3⟩ := hp
  obtain ⟨c0, hc0, e0, f0, g0⟩ := p3 0 (by omega)
  obtain ⟨c1, hc1, e1, f1, g1⟩ := p3 1 (by omega)
  obtain ⟨c2, hc2, e2, f2, g2⟩ := p3 2 (by omega)
  obtain ⟨c3, hc3, e3, f3, g3⟩ := p3 3 (by omega)
  have l0 := p2 0 (by omega)
  have l1 := p2 1 (by omega)
  have l2 := p2 2 (by omega)
  rw [e0, nI_clamp (by omega), show 4 ^ (3 - 0) = 64 from rfl, e1] at l0
  rw [e1, nI_clamp (by omega), show 4 ^ (3 - 1) = 16 from rfl, e2] at l1
  rw [e2, nI_clamp (by omega), show 4 ^ (3 - 2) = 4 from rfl, e3] at l2
  rw [e3] at e
  obtain ⟨x2, t2⟩ := st_up1 H (st_n2_ok H hm k) (by omega) hc3 g3 (show k / 4 % 4 < 4 by omega) e (by omega) (by omega) (by omega) l2
  obtain ⟨x1, t1⟩ := st_up1 H (st_n1_ok H hm k) (by omega) hc2 g2 (show k / 16 % 4 < 4 by omega) x2 (by omega) (by omega) (by omega) l1
  obtain ⟨x0, t0⟩ := st_up1 H (st_root_ok H hm) (by omega) hc1 g1 (show k / 64 % 4 < 4 by omega) x1 (by omega) (by omega) (by omega) l0
  have hr : st_rf h A (fun _ => 0) c0 = 1 := by
    have r1 := H.1 c0 hc0
    have b := st_rf_bd h A (fun _ => 0) c0
    rw [g0] at r1
    exact ((nI_eq (a := 1) (by omega) (by omega)).mp r1).symm
  have h5 : h (400 + m / 4) = 5 := by
    have : m / 4 = 0 ∨ m / 4 = 1 := by omega
    rcases this with z | z
    · rw [z]; exact H.2.2.2.1.1
    · rw [z]; exact H.2.2.2.1.2
  have h4 := H.2.2.2.1.1
  rw [show 1600 + m = 4 * (400 + m / 4) + m % 4 by omega] at x0
  rw [e0, show 1600 = 4 * 400 + 0 from rfl] at p1
  obtain ⟨q1, q2⟩ := st_rf_uniq (P := fun _ => 0) (Nat.le_of_eq hr) (show 400 + m / 4 < 402 by omega) (by omega) (show m % 4 < 4 by omega) x0 (show 400 < 402 by omega) (by omega) (show 0 < 4 by omega) p1
  exact ⟨by omega, by omega⟩
/-- the working map's own leaf is written: that key alone changes -/
theorem st_ms_leaf {h : Nat → Nat} {A A' a2 a2' a3 a7 : Nat → Int32} (H : st_H h A a2 a3 (fun _ => 0)) {key c : Nat} {o : Option Int32} (hp : st_pth h A a3 a7 key 3) (hky : key < 256) (hc : a7 3 = nI c) (hc4 : c < 400) (hA : ∀ j, j / 4 ≠ c → A' j = A j) (ha : ∀ q, q ≠ c → a2' q = a2 q)
    (ho : st_val A' a2' (nI c) (key % 4) = o) (hn : ∀ b, b < 4 → b ≠ key % 4 → st_val A' a2' (nI c) b = st_val A a2 (nI c) b) (m k : Nat) (hm : m < 8) (hk : k < 256) :
    st_ms A' a2' m k = st_pm (st_ms A a2) 0 key o m k := by
  have hc1 : h c = 1 := by
    obtain ⟨d, hd, ed, el, _⟩ := hp.2.2 3 (by omega)
    have : c = d := (nI_eq (by omega) (by omega)).mp (hc.symm.trans ed)
    rw [this]; exact el
  have hlf : st_n3 A' m k = st_n3 A m k := by
    rw [← st_lf3, ← st_lf3, hA (1600 + m) (by omega)]
    exact st_lf_agree H (fun q w hq hl hw => hA _ (fun z => absurd (show q = c by omega) (fun y => by subst y; omega))) k 3 _ (st_root_ok H hm)
  rw [st_ms3, hlf]
  unfold st_pm
  by_cases e : st_n3 A m k = nI c
  · obtain ⟨u1, u2⟩ := st_uniq H hp hm hk hky (e.trans hc.symm)
    rw [e]
    by_cases ek : k = key
    · subst ek
      rw [if_pos ⟨u1, rfl⟩]
      exact ho
    · rw [if_neg (fun z => ek z.2), st_ms3, e]
      exact hn _ (by omega) (by omega)
  · rw [if_neg, st_ms3]
    · rcases st_lf_ok H k 3 _ (st_root_ok H hm) with z | ⟨d, hd, ed, el⟩
      · rw [st_lf3] at z
        rw [z, st_val_m, st_val_m]
      · rw [st_lf3] at ed
        have hdc : d ≠ c := fun z => e (by rw [ed, z])
        rw [ed, st_val_n _ _ (by omega), st_val_n _ _ (by omega), ha d hdc, hA _ (by omega)]
    · rintro ⟨z1, z2⟩
      refine e ?_
      rw [z1, z2]
      exact (st_pth_n3 hp key rfl).trans hc
theorem st_pm_k {M : Nat → Nat → Option Int32} {s m key k : Nat} {o : Option Int32} (h : k ≠ key) : st_pm M s key o m k = M m k := if_neg (fun z => h z.2)
theorem st_cd_some {M : Nat → Nat → Option Int32} {s key : Nat} (hk : key < 256) (v : Int32) : st_cd (st_pm M s key (some v) s) = st_cd (M s) + (if (M s key).isSome = true then 0 else 1) := by
  have e1 := st_sm_upd (f := fun k => if (st_pm M s key (some v) s k).isSome = true then 1 else 0) (g := fun k => if (M s k).isSome = true then 1 else 0) hk (fun i hi hne => by
    rw [st_pm_k hne])
  have e2 : st_pm M s key (some v) s key = some v := if_pos ⟨rfl, rfl⟩
  simp only [e2, Option.isSome_some, if_true] at e1
  unfold st_cd
  by_cases z : (M s key).isSome = true
  · rw [if_pos z] at e1 ⊢
    omega
  · rw [if_neg z] at e1 ⊢
    omega
theorem st_cd_none {M : Nat → Nat → Option Int32} {s key : Nat} (hk : key < 256) (h : (M s key).isSome = true) : st_cd (st_pm M s key none s) + 1 = st_cd (M s) := by
  have e1 := st_sm_upd (f := fun k => if (st_pm M s key none s k).isSome = true then 1 else 0) (g := fun k => if (M s k).isSome = true then 1 else 0) hk (fun i hi hne => by
    rw [st_pm_k hne])
  have e2 : st_pm M s key none s key = none := if_pos ⟨rfl, rfl⟩
  simp only [e2, h, if_true] at e1
  unfold st_cd
  simpa using e1
theorem st_pm_ne {M : Nat → Nat → Option Int32} {s m key : Nat} {o : Option Int32} (h : m ≠ s) : st_pm M s key o m = M m := by
  funext k
  exact if_neg (fun z => h z.1)
theorem st_orb : ∀ b, b < 16 → ∀ j, j < 4 → ∃ b', b' < 16 ∧ b' ≠ 0 ∧ nI (256 + b) ||| ((1 : Int32) <<< (nI j &&& 31)) = nI (256 + b') ∧ st_bt (nI (256 + b')) j = true ∧ ∀ i, i < 4 → i ≠ j → st_bt (nI (256 + b')) i = st_bt (nI (256 + b)) i := by decide +kernel
theorem st_andb : ∀ b, b < 16 → ∀ j, j < 4 → ∃ b', b' < 16 ∧ nI (256 + b) &&& (((1 : Int32) <<< (nI j &&& 31)) ^^^ (-1)) = nI (256 + b') ∧ st_bt (nI (256 + b')) j = false ∧ ∀ i, i < 4 → i ≠ j → st_bt (nI (256 + b')) i = st_bt (nI (256 + b)) i := by decide +kernel
theorem st_256 {b : Nat} (hb : b < 16) (h : b ≠ 0) : nI (256 + b) ≠ nI 256 := fun z => by
  have := (nI_eq (by omega) (by omega)).mp z
  omega
section PUT
variable {T : Nat → Bool} {M : Nat → Nat → Option Int32} {a1 a2 a3 a4 a5 a6 a7 a8 : Nat → Int32}
theorem st_put37 {post : Int32 → St1 → Prop} {key : Nat} {v x3 : Int32} (I : st_I T M a1 a2 a3 a4 a5 a6) (hk : key < 256) (hr : x3 = if (M 0 key).isSome = true then 1 else 0) (hs : (M 0 key).isSome = true ∨ st_cd (M 0) < 16)
    (K : ∀ r b1 b2 b3 b5 b6 b7, st_I T (st_pm M 0 key (some v)) b1 b2 b3 a4 b5 b6 → post r (b1, b2, b3, a4, b5, b6, b7, a8)) : wX_put_37 post (nI key) v x3 a1 a2 a3 a4 a5 a6 a7 a8 := by
  obtain ⟨h, H, hN, hM, hC, hT, hR, hT0⟩ := I
  unfold wX_put_37
  refine st_ownPath hk H hN (fun m hm => by rw [st_cd_congr (hM m hm)]; exact (hC m hm).2) (fun g b1 b2 b3 b5 b7 G1 G2 G3 G4 G5 => ?_)
  obtain ⟨c, hc, ec, el, _⟩ := G4.2.2 3 (by omega)
  obtain ⟨b, hb, eb⟩ := G1.2.2.2.2.2.2 c hc (by omega)
  obtain ⟨b', hb', hb0, ob, ob1, ob2⟩ := st_orb b hb (key % 4) (by omega)
  have hkb : key % 4 < 4 := by omega
  dsimp only
  rw [ec, st_k3 key hk, st_ix4, nI_clamp (by omega), nI_clamp (by omega), eb, ob]
  refine ⟨vp_in_nI (by omega) (by omega), nm_e ⟨vp_in_nI hc (by omega), vp_in_nI hc (by omega), nm_e ?_⟩⟩
  have hA : ∀ j, j / 4 ≠ c → st_A (upd b1 (4 * c + key % 4) v) b5 j = st_A b1 b5 j := fun j hj => by
    rw [st_A_u1 (by omega), pk_un (by omega)]
  have ha : ∀ q, q ≠ c → upd b2 c (nI (256 + b')) q = b2 q := fun q hq => pk_un hq
  have F1 := st_leafw (A' := st_A (upd b1 (4 * c + key % 4) v) b5) (a2' := upd b2 c (nI (256 + b'))) G1 hc (by omega) hb' hA ha pk_us
  have F2 : ∀ m, m < 8 → ∀ k, k < 256 → st_ms (st_A (upd b1 (4 * c + key % 4) v) b5) (upd b2 c (nI (256 + b'))) m k = st_pm M 0 key (some v) m k := by
    intro m hm k hk'
    rw [st_ms_leaf (o := some v) G1 G4 hk ec hc hA ha ?_ ?_ m k hm hk']
    · unfold st_pm
      rw [G2 m hm k, hM m hm k hk']
    · rw [st_val_n _ _ (by omega), pk_us, ob1, if_pos rfl, st_A_lo (by omega), pk_us]
    · intro i hi hne
      rw [st_val_n _ _ (by omega), st_val_n _ _ (by omega), pk_us, ob2 i hi hne, eb, st_A_lo (by omega), st_A_lo (by omega), pk_un (by omega)]
  have F3 : ∀ q, q < 400 → g q = 1 → upd b2 c (nI (256 + b')) q ≠ nI 256 := by
    intro q hq h1
    by_cases z : q = c
    · subst z
      rw [pk_us]
      exact st_256 hb' hb0
    · rw [pk_un z]
      exact G3 q hq h1 (fun _ y => z ((nI_eq (by omega) (by omega)).mp (y.trans ec)))
  have hR' : ∀ m, m < 8 → T m = false → b5 m = -1 := fun m hm ht => by
    rw [G5 m (fun z => by rw [z, hT0] at ht; exact Bool.noConfusion ht)]
    exact hR m hm ht
  have fin : ∀ x : Int32, x = nI (st_cd (st_pm M 0 key (some v) 0)) → st_cd (st_pm M 0 key (some v) 0) ≤ 16 → ∀ r, post r (upd b1 (4 * c + key % 4) v, upd b2 c (nI (256 + b')), b3, a4, b5, upd a6 0 x, b7, a8) := by
    intro x ex hle r
    refine K r _ _ _ _ _ _ ⟨g, F1, F3, F2, fun m hm => ?_, hT, hR', hT0⟩
    by_cases z : m = 0
    · subst z
      rw [pk_us]
      exact ⟨ex, hle⟩
    · rw [pk_un z, st_pm_ne z]
      exact hC m hm
  have hcs := st_cd_some (M := M) (s := 0) hk v
  have hc0 := hC 0 (by omega)
  by_cases z : (M 0 key).isSome = true
  · rw [if_pos z] at hr hcs
    refine br_f (by rw [hr]; decide) (nm_e (fin _ ?_ (by omega) _))
    rw [hcs, hc0.1]
    exact Int32.add_zero _
  · rw [if_neg z] at hr hcs
    have := hs.resolve_left z
    refine br_t hr (nm_e (fin _ ?_ (by omega) _))
    rw [hcs, hc0.1, nI_1]
theorem st_put {post : Int32 → St1 → Prop} {key : Nat} {v : Int32} (I : st_I T M a1 a2 a3 a4 a5 a6) (hk : key < 256)
    (K1 : ¬ (M 0 key).isSome = true → ¬ st_cd (M 0) < 16 → post (-1) (a1, a2, a3, a4, a5, a6, a7, a8))
    (K2 : (M 0 key).isSome = true ∨ st_cd (M 0) < 16 → ∀ r b1 b2 b3 b5 b6 b7, st_I T (st_pm M 0 key (some v)) b1 b2 b3 a4 b5 b6 → post r (b1, b2, b3, a4, b5, b6, b7, a8)) : wpX_put post (a1, a2, a3, a4, a5, a6, a7, a8) (nI key) v := by
  have I' := I
  obtain ⟨h, H, hN, hM, hC, hT, hR, hT0⟩ := I
  refine br_f (nI_pos (by omega)) (pk_le key 255 (fun _ => ?_) (fun z => absurd z (by omega)))
  refine st_holds (m := 0) H (by omega) hk ?_
  rw [hM 0 (by omega) key hk]
  by_cases z : (M 0 key).isSome = true
  · refine br_f (by rw [if_pos z]; decide) (st_put37 I' hk rfl (Or.inl z) (K2 (Or.inl z)))
  · refine br_t (if_neg z) ?_
    rw [(hC 0 (by omega)).1]
    exact pk_lt (st_cd (M 0)) 16 (fun y => st_put37 I' hk rfl (Or.inr y) (K2 (Or.inr y))) (fun y => K1 z (by omega)) rfl rfl (by have := (hC 0 (by omega)).2; omega)
end PUT
end
section
/-! part 10: leadsOn, prune, remove -/
/-- an empty node at the end of the way is cut off -/
theorem st_cut {h : Nat → Nat} {A a2 a3 : Nat → Int32} {p w c : Nat} (H : st_H h A a2 a3 (fun _ => 0)) (hp : p < 402) (h2 : 2 ≤ h p) (hw : w < 4) (hc : c < 400) (e : A (4 * p + w) = nI c) (h1 : a3 c = 1)
    (hs : ∀ k, st_se A a2 (h p - 2) (nI c) k = none) (hz : 2 ≤ h c → ∀ i, i < 4 → A (4 * c + i) = -1) :
    st_H (st_up h c 0) (upd A (4 * p + w) (-1)) a2 (upd a3 c 0) (fun _ => 0) ∧ ∀ m, m < 8 → ∀ k, st_ms (upd A (4 * p + w) (-1)) a2 m k = st_ms A a2 m k := by
  have hcl : h c = h p - 1 := by
    have := H.2.2.2.2.1 p hp h2 w hw
    rw [e] at this
    exact st_ok_n hc this
  have N1 := st_swap (P := fun _ => 0) (y := -1) (st_H_P H (fun k hk => by rw [st_e_m1 hk])) hp h2 hw st_ok_m
  rw [e] at N1
  have hr := N1.1 c hc
  have bd := st_rf_bd h (upd A (4 * p + w) (-1)) (fun k => st_e (nI c) k + 0) c
  have be := st_e_le (nI c) c
  rw [h1] at hr
  have hr1 := ((nI_eq (a := 1) (by omega) (by omega)).mp hr).symm
  refine ⟨st_relz N1 hc hr1 (fun k hk => ?_), fun m hm k => st_ms_swap H hp h2 hw st_ok_m (fun key => by rw [st_se_m, e, hs key]) k m hm⟩
  by_cases z : 2 ≤ h c
  · rw [if_pos z, Nat.zero_add]
    refine (st_sm_zero (fun i hi => ?_)).symm
    rw [pk_un (fun y => absurd (show c = p by omega) (st_hne hcl (rfl : h p = h p) (by omega))), hz z i hi]
    exact st_e_m1 hk
  · rw [if_neg z]
theorem st_se_e {A a2 : Nat → Int32} {d c : Nat} (hd : 1 ≤ d) (hc : c < 400) (hz : ∀ w, w < 4 → A (4 * c + w) = -1) (k : Nat) : st_se A a2 d (nI c) k = none := by
  obtain ⟨e, rfl⟩ : ∃ e, d = e + 1 := ⟨d - 1, by omega⟩
  rw [st_se_n _ _ _ (by omega), hz _ (Nat.mod_lt _ (by omega)), st_se_m]
theorem st_leads_l {a1 a2 a3 a4 a5 a6 a7 a8 : Nat → Int32} {post : Int32 → Prop} {c : Nat} (hc : c < 400) (ok : ∀ w, w < 4 → a1 (4 * c + w) = -1 ∨ ∃ d, d < 400 ∧ a1 (4 * c + w) = nI d)
    (h0 : (∀ w, w < 4 → a1 (4 * c + w) = -1) → post 0) (h1 : post 1) : ∀ f i, i ≤ 4 → 4 - i < f → (∀ w, w < i → a1 (4 * c + w) = -1) → wX_leadsOn_2 post (nI c) a1 a2 a3 a4 a5 a6 a7 a8 f (nI i) := by
  intro f
  induction f with
  | zero => intro i _ z; omega
  | succ f ih =>
    intro i hi hf hn
    refine pk_le 4 i (fun z => h0 (fun w hw => hn w (by omega))) (fun z => ?_)
    rw [st_ix4, nI_clamp (by omega)]
    refine ⟨vp_in_nI (by omega) (by omega), ?_⟩
    rcases ok i z with e | ⟨d, hd, e⟩
    · refine br_t (by rw [e]; exact st_m1_neg) (nm_r (nI_1 i) (ih (i + 1) (by omega) (by omega) (fun w hw => ?_)))
      by_cases y : w = i
      · rw [y]; exact e
      · exact hn w (by omega)
    · exact br_f (by rw [e]; exact nI_pos (by omega)) h1
theorem st_b15 : ∀ b, b < 16 → (nI (256 + b) &&& 15 = 0 ↔ b = 0) := by decide
section REMOVE
variable {T : Nat → Bool} {M : Nat → Nat → Option Int32} {a1 a2 a3 a4 a5 a6 a7 a8 : Nat → Int32}
theorem st_prune_l {post : St1 → Prop} {key : Nat} (hk : key < 256)
    (K : ∀ h b1 b3 b5, st_H h (st_A b1 b5) a2 b3 (fun _ => 0) → (∀ m, m < 8 → ∀ k, k < 256 → st_ms (st_A b1 b5) a2 m k = M m k) → (∀ q, q < 400 → h q = 1 → a2 q ≠ nI 256) → (∀ m, m ≠ 0 → b5 m = a5 m) → post (b1, a2, b3, a4, b5, a6, a7, a8)) :
    ∀ l, l ≤ 3 → ∀ h b1 b3 c, st_H h (st_A b1 a5) a2 b3 (fun _ => 0) → (∀ m, m < 8 → ∀ k, k < 256 → st_ms (st_A b1 a5) a2 m k = M m k) → (∀ q, q < 400 → h q = 1 → q ≠ c → a2 q ≠ nI 256) → st_pth h (st_A b1 a5) b3 a7 key l → a7 l = nI c → c < 400 →
      (∀ k, st_se (st_A b1 a5) a2 (3 - l) (nI c) k = none) → (2 ≤ h c → ∀ i, i < 4 → st_A b1 a5 (4 * c + i) = -1) → wX_prune_32 post (nI key) (l + 1) (nI l + (-1)) b1 a2 (upd b3 c 0) a4 a5 a6 a7 a8 := by
  intro l
  induction l with
  | zero =>
    intro _ h b1 b3 c H hM hN hp ec hc hs hz
    have h4 := H.2.2.2.1.1
    obtain ⟨d, hd, ed, el, e1⟩ := hp.2.2 0 (by omega)
    have hdc : c = d := (nI_eq (by omega) (by omega)).mp (ec.symm.trans ed)
    rw [← hdc] at e1
    obtain ⟨C1, C2⟩ := st_cut (p := 400) (w := 0) H (by omega) (by omega) (by omega) hc (hp.1.trans ec) e1 (by rw [h4]; exact hs) hz
    have eA : st_A b1 (upd a5 0 (-1)) = upd (st_A b1 a5) (4 * 400 + 0) (-1) := st_A_u5
    refine br_t (by decide) (nm_e (K _ b1 _ _ (by rw [eA]; exact C1) (fun m hm k hk' => by rw [eA, C2 m hm k]; exact hM m hm k hk') (fun q hq h1 => ?_) (fun m hm => pk_un hm)))
    have hqc : q ≠ c := fun z => by
      rw [z, st_ups] at h1
      exact absurd h1 (by decide)
    rw [st_upn hqc] at h1
    exact hN q hq h1 hqc
  | succ l ih =>
    intro hl3 h b1 b3 c H hM hN hp ec hc hs hz
    obtain ⟨d, hd, ed, el, e1⟩ := hp.2.2 (l + 1) (by omega)
    have hdc : c = d := (nI_eq (by omega) (by omega)).mp (ec.symm.trans ed)
    rw [← hdc] at e1 el
    obtain ⟨p, hp4, ep, epl, ep1⟩ := hp.2.2 l (by omega)
    have ht : key / 4 ^ (3 - l) % 4 < 4 := Nat.mod_lt _ (by omega)
    have lk := hp.2.1 l (by omega)
    rw [ep, nI_clamp (by omega), ec] at lk
    obtain ⟨C1, C2⟩ := st_cut (p := p) H (by omega) (by omega) ht hc lk e1 (by rw [epl, show 4 - l - 2 = 3 - (l + 1) by omega]; exact hs) hz
    rw [← st_A_u1 (by omega)] at C1 C2
    rw [pk_m1]
    refine br_f (nI_pos (by omega)) ⟨vp_in_nI (by omega) (by omega), st_wturn hk (by omega) ?_⟩
    rw [nI_clamp (by omega), ep, st_ix4, nI_clamp (by omega), nI_clamp (by omega)]
    refine ⟨vp_in_nI (by omega) (by omega), nm_e ⟨vp_in_nI (by omega) (by omega), ?_⟩⟩
    have hqc : ∀ q, st_up h c 0 q = 1 → q ≠ c := fun q h1 z => by
      rw [z, st_ups] at h1
      exact absurd h1 (by decide)
    have hpc : p ≠ c := st_hne epl el (by omega)
    have hupp : st_up h c 0 p = 4 - l := by rw [st_upn hpc]; exact epl
    have hways := C1.2.2.2.2.1 p (by omega) (by omega)
    have hwy : ∀ w, w < 4 → upd b1 (4 * p + key / 4 ^ (3 - l) % 4) (-1) (4 * p + w) = -1 ∨ ∃ d, d < 400 ∧ upd b1 (4 * p + key / 4 ^ (3 - l) % 4) (-1) (4 * p + w) = nI d := by
      intro w hw
      have := hways w hw
      rw [st_A_lo (by omega)] at this
      rcases this with q | ⟨d, hd, q, _⟩
      · exact Or.inl q
      · exact Or.inr ⟨d, hd, q⟩
    refine ⟨5, st_leads_l hp4 hwy (fun hall => ?_) ?_ 5 0 (by omega) (by omega) (fun w z => absurd z (by omega))⟩
    · have hallA : ∀ w, w < 4 → st_A (upd b1 (4 * p + key / 4 ^ (3 - l) % 4) (-1)) a5 (4 * p + w) = -1 := fun w hw => by
        rw [st_A_lo (by omega)]; exact hall w hw
      refine br_t rfl ⟨vp_in_nI (by omega) (by omega), vp_in_nI hp4 (by omega), nm_e (nm_e (ih (by omega) (st_up h c 0) _ (upd b3 c 0) p C1 (fun m hm k hk' => by rw [C2 m hm k]; exact hM m hm k hk') (fun q hq h1 _ => ?_) ?_ ep hp4 (fun k => ?_) (fun _ => hallA)))⟩
      · have := hqc q h1
        rw [st_upn this] at h1
        exact hN q hq h1 this
      · obtain ⟨p1, p2, p3⟩ := hp
        refine ⟨?_, fun i hi => ?_, fun i hi => ?_⟩
        · rw [st_A_u1 (by omega), pk_un (by omega)]; exact p1
        · obtain ⟨q, hq, eq, eql, _⟩ := p3 i (by omega)
          have hqp : q ≠ p := st_hne eql epl (by omega)
          have := p2 i (by omega)
          have ht' : key / 4 ^ (3 - i) % 4 < 4 := Nat.mod_lt _ (by omega)
          rw [eq, nI_clamp (by omega)] at this ⊢
          rw [st_A_u1 (by omega), pk_un (by omega)]
          exact this
        · obtain ⟨q, hq, eq, eql, eq1⟩ := p3 i (by omega)
          have hqc' : q ≠ c := st_hne eql el (by omega)
          exact ⟨q, hq, eq, by rw [st_upn hqc']; exact eql, by rw [pk_un hqc']; exact eq1⟩
      · exact st_se_e (by omega) hp4 hallA k
    · refine br_f (by decide) (K _ _ _ a5 C1 (fun m hm k hk' => by rw [C2 m hm k]; exact hM m hm k hk') (fun q hq h1 => ?_) (fun _ _ => rfl))
      have := hqc q h1
      rw [st_upn this] at h1
      exact hN q hq h1 this
theorem st_prune {post : St1 → Prop} {key c : Nat} {h : Nat → Nat} (hk : key < 256) (H : st_H h (st_A a1 a5) a2 a3 (fun _ => 0)) (hM : ∀ m, m < 8 → ∀ k, k < 256 → st_ms (st_A a1 a5) a2 m k = M m k) (hN : ∀ q, q < 400 → h q = 1 → q ≠ c → a2 q ≠ nI 256)
    (hp : st_pth h (st_A a1 a5) a3 a7 key 3) (ec : a7 3 = nI c) (hc : c < 400)
    (K : ∀ h b1 b3 b5, st_H h (st_A b1 b5) a2 b3 (fun _ => 0) → (∀ m, m < 8 → ∀ k, k < 256 → st_ms (st_A b1 b5) a2 m k = M m k) → (∀ q, q < 400 → h q = 1 → a2 q ≠ nI 256) → (∀ m, m ≠ 0 → b5 m = a5 m) → post (b1, a2, b3, a4, b5, a6, a7, a8)) :
    wpX_prune post (a1, a2, a3, a4, a5, a6, a7, a8) (nI key) := by
  obtain ⟨d, hd, ed, el, e1⟩ := hp.2.2 3 (by omega)
  have hdc : c = d := (nI_eq (by omega) (by omega)).mp (ec.symm.trans ed)
  rw [← hdc] at el
  obtain ⟨b, hb, eb⟩ := H.2.2.2.2.2.2 c hc el
  unfold wpX_prune
  dsimp only
  rw [ec, nI_clamp (by omega), eb]
  refine ⟨vp_in_nI hc (by omega), ek_if (st_b15 b hb) (fun z => ⟨vp_in_nI hc (by omega), nm_e ⟨4, ?_⟩⟩) (fun z => ?_)⟩
  · refine st_prune_l hk K 3 (by omega) h a1 a3 c H hM hN hp ec hc (fun k => ?_) (fun y => by omega)
    rw [show 3 - 3 = 0 from rfl, st_se_0 _ _ (by omega), eb, z, st_bt256 _ (Nat.mod_lt _ (by omega)), if_neg (by decide)]
  · refine K h a1 a3 a5 H hM (fun q hq h1 => ?_) (fun _ _ => rfl)
    by_cases y : q = c
    · rw [y, eb]
      exact st_256 hb z
    · exact hN q hq h1 y
theorem st_remove {post : Int32 → St1 → Prop} {key : Nat} (I : st_I T M a1 a2 a3 a4 a5 a6) (hk : key < 256)
    (K1 : ¬ (M 0 key).isSome = true → post (-1) (a1, a2, a3, a4, a5, a6, a7, a8))
    (K2 : (M 0 key).isSome = true → ∀ r b1 b2 b3 b5 b6 b7, st_I T (st_pm M 0 key none) b1 b2 b3 a4 b5 b6 → post r (b1, b2, b3, a4, b5, b6, b7, a8)) : wpX_remove post (a1, a2, a3, a4, a5, a6, a7, a8) (nI key) := by
  obtain ⟨h, H, hN, hM, hC, hT, hR, hT0⟩ := I
  refine br_f (nI_pos (by omega)) (pk_lt 255 key (fun z => absurd z (by omega)) (fun _ => ?_))
  refine st_holds (m := 0) H (by omega) hk ?_
  rw [hM 0 (by omega) key hk]
  by_cases z : (M 0 key).isSome = true
  · refine br_f (by rw [if_pos z]; decide) ?_
    refine st_ownPath hk H hN (fun m hm => by rw [st_cd_congr (hM m hm)]; exact (hC m hm).2) (fun g b1 b2 b3 b5 b7 G1 G2 G3 G4 G5 => ?_)
    obtain ⟨c, hc, ec, el, _⟩ := G4.2.2 3 (by omega)
    obtain ⟨b, hb, eb⟩ := G1.2.2.2.2.2.2 c hc (by omega)
    obtain ⟨b', hb', ob, ob1, ob2⟩ := st_andb b hb (key % 4) (by omega)
    have hkb : key % 4 < 4 := by omega
    dsimp only
    rw [ec, st_k3 key hk, nI_clamp (by omega), eb, ob]
    refine ⟨vp_in_nI hc (by omega), vp_in_nI hc (by omega), nm_e ?_⟩
    have ha : ∀ q, q ≠ c → upd b2 c (nI (256 + b')) q = b2 q := fun q hq => pk_un hq
    have F1 := st_leafw (A' := st_A b1 b5) (a2' := upd b2 c (nI (256 + b'))) G1 hc (by omega) hb' (fun _ _ => rfl) ha pk_us
    have F2 : ∀ m, m < 8 → ∀ k, k < 256 → st_ms (st_A b1 b5) (upd b2 c (nI (256 + b'))) m k = st_pm M 0 key none m k := by
      intro m hm k hk'
      rw [st_ms_leaf (o := none) G1 G4 hk ec hc (fun _ _ => rfl) ha ?_ ?_ m k hm hk']
      · unfold st_pm
        rw [G2 m hm k, hM m hm k hk']
      · rw [st_val_n _ _ (by omega), pk_us, ob1, if_neg (by decide)]
      · intro i hi hne
        rw [st_val_n _ _ (by omega), st_val_n _ _ (by omega), pk_us, ob2 i hi hne, eb]
    have F3 : ∀ q, q < 400 → g q = 1 → q ≠ c → upd b2 c (nI (256 + b')) q ≠ nI 256 := by
      intro q hq h1 hqc
      rw [pk_un hqc]
      exact G3 q hq h1 (fun _ y => hqc ((nI_eq (by omega) (by omega)).mp (y.trans ec)))
    refine st_prune hk F1 F2 F3 G4 ec hc (fun h' c1 c3 c5 E1 E2 E3 E4 => ?_)
    dsimp only
    refine nm_e ?_
    refine K2 z _ _ _ _ _ _ _ ⟨h', E1, E3, E2, fun m hm => ?_, hT, fun m hm ht => ?_, hT0⟩
    · have hcn := st_cd_none (M := M) (s := 0) hk z
      have hc0 := hC 0 (by omega)
      by_cases y : m = 0
      · subst y
        rw [pk_us, hc0.1, ← hcn]
        exact ⟨nI_pred _, by omega⟩
      · rw [pk_un y, st_pm_ne y]
        exact hC m hm
    · have hm0 : m ≠ 0 := fun y => by
        rw [y, hT0] at ht
        exact Bool.noConfusion ht
      rw [E4 m hm0, G5 m hm0]
      exact hR m hm ht
  · exact br_t (if_neg z) (K1 z)
end REMOVE
end
section
/-! part 11: giveBack -/
def st_wt : Nat → Nat
  | 0 => 0
  | n + 1 => 1 + 4 * st_wt n
theorem st_wt_s {n : Nat} (h : 1 ≤ n) : st_wt n = 1 + 4 * st_wt (n - 1) := by
  obtain ⟨m, rfl⟩ : ∃ m, n = m + 1 := ⟨n - 1, by omega⟩
  rfl
/-- the stack: nodes that are there, not too far up -/
def st_Q (h : Nat → Nat) (s : Nat → Int32) (d : Nat) : Prop := ∀ j, j < d → ∃ c, c < 400 ∧ s j = nI c ∧ 1 ≤ h c ∧ h c ≤ 4 ∧ j ≤ 3 * (4 - h c)
def st_sw (h : Nat → Nat) (s : Nat → Int32) (d : Nat) : Nat := st_sm (fun j => st_wt (h (s j).toNatClampNeg)) d
def st_se1 (s : Nat → Int32) (d k : Nat) : Nat := st_sm (fun j => st_e (s j) k) d
theorem st_se1_push {s : Nat → Int32} {d k : Nat} {x : Int32} : st_se1 (upd s d x) (d + 1) k = st_se1 s d k + st_e x k := by
  unfold st_se1
  rw [st_sm_s, pk_us, st_sm_congr (g := fun j => st_e (s j) k) (fun j hj => by rw [pk_un (by omega)])]
theorem st_sw_push {h : Nat → Nat} {s : Nat → Int32} {d : Nat} {x : Int32} : st_sw h (upd s d x) (d + 1) = st_sw h s d + st_wt (h x.toNatClampNeg) := by
  unfold st_sw
  rw [st_sm_s, pk_us, st_sm_congr (g := fun j => st_wt (h (s j).toNatClampNeg)) (fun j hj => by rw [pk_un (by omega)])]
theorem st_Q_push {h : Nat → Nat} {s : Nat → Int32} {d q : Nat} (H : st_Q h s d) (hq : q < 400) (h1 : 1 ≤ h q) (h4 : h q ≤ 4) (hd : d ≤ 3 * (4 - h q)) : st_Q h (upd s d (nI q)) (d + 1) := by
  intro j hj
  by_cases e : j = d
  · subst e
    exact ⟨q, hq, pk_us, h1, h4, hd⟩
  · rw [pk_un e]
    exact H j (by omega)
section GIVE
variable {a1 a2 a4 a5 a6 a7 : Nat → Int32}
theorem st_gb76 {post : St1 → Prop} {J : Int32 → Int32 → (Nat → Int32) → (Nat → Int32) → (Nat → Int32) → (Nat → Int32) → (Nat → Int32) → (Nat → Int32) → (Nat → Int32) → (Nat → Int32) → Prop} {a3 : Nat → Int32} {c step W B e0 : Nat} {g P0 : Nat → Nat} (hc : c < 400)
    (hch : ∀ w, w < 4 → a1 (4 * c + w) = -1 ∨ ∃ q, q < 400 ∧ a1 (4 * c + w) = nI q ∧ 1 ≤ g q ∧ g q ≤ 4 ∧ e0 + 3 ≤ 3 * (4 - g q) ∧ st_wt (g q) ≤ B)
    (hJ : ∀ d s, st_Q g s d → (∀ k, k < 400 → st_se1 s d k = P0 k + st_sm (fun w => st_e (a1 (4 * c + w)) k) 4) → st_sw g s d ≤ W + 4 * B → J (nI d) (nI (step + 1)) a1 a2 a3 a4 a5 a6 a7 s) :
    ∀ f i d s, i ≤ 4 → 4 - i < f → d ≤ e0 + i → st_Q g s d → (∀ k, k < 400 → st_se1 s d k = P0 k + st_sm (fun w => st_e (a1 (4 * c + w)) k) i) → st_sw g s d ≤ W + i * B →
      wX_giveBack_76 post J (nI step) (nI c) f (nI d) (nI i) a1 a2 a3 a4 a5 a6 a7 s := by
  intro f
  induction f with
  | zero => intro i d s _ z; omega
  | succ f ih =>
    intro i d s hi hf hd hQ hS hW
    refine pk_le 4 i (fun z => ?_) (fun z => ?_)
    · have : i = 4 := by omega
      subst this
      exact nm_r (nI_1 step) (hJ d s hQ hS hW)
    · rw [st_ix4, nI_clamp (by omega)]
      refine ⟨vp_in_nI (by omega) (by omega), ?_⟩
      have hB : (i + 1) * B = i * B + B := Nat.succ_mul i B
      rcases hch i z with e | ⟨q, hq, e, h1, h4, h3, hw⟩
      · refine br_t (by rw [e]; exact st_m1_neg) (nm_r (nI_1 i) (ih (i + 1) d s (by omega) (by omega) (by omega) hQ (fun k hk => ?_) (by omega)))
        rw [hS k hk, st_sm_s, e, st_e_m1 hk]
        rfl
      · refine br_f (by rw [e]; exact nI_pos (by omega)) ⟨vp_in_nI (by omega) (by omega), vp_in_nI (by omega) (by omega), nm_e (nm_r (nI_1 d) (nm_r (nI_1 i) ?_))⟩
        rw [nI_clamp (by omega), e]
        refine ih (i + 1) (d + 1) _ (by omega) (by omega) (by omega) (st_Q_push hQ hq h1 h4 (by omega)) (fun k hk => ?_) ?_
        · rw [st_se1_push, hS k hk, st_sm_s, e, Nat.add_assoc]
        · rw [st_sw_push, nI_clamp (by omega)]
          omega
theorem st_n256 : ∀ b, b < 16 → ¬ nI (256 + b) &&& 256 = 0 := by decide
theorem st_Q_up {h : Nat → Nat} {s : Nat → Int32} {d c : Nat} (H : st_Q h s d) (hc : c < 400) (hn : st_se1 s d c = 0) : st_Q (st_up h c 0) s d ∧ st_sw (st_up h c 0) s d = st_sw h s d := by
  have ne : ∀ j, j < d → ∀ q, q < 400 → s j = nI q → q ≠ c := by
    intro j hj q hq e z
    subst z
    have h1 := st_sm_ge (f := fun j => st_e (s j) q) hj
    have h2 : st_e (s j) q = 1 := by rw [e]; exact st_e_self q
    simp only [h2] at h1
    unfold st_se1 at hn
    omega
  constructor
  · intro j hj
    obtain ⟨q, hq, e, r⟩ := H j hj
    exact ⟨q, hq, e, by rw [st_upn (ne j hj q hq e)]; exact r⟩
  · unfold st_sw
    refine st_sm_congr (fun j hj => ?_)
    obtain ⟨q, hq, e, r⟩ := H j hj
    rw [e, nI_clamp (by omega), st_upn (ne j hj q hq e)]
theorem st_gb_l {post : St1 → Prop} {rt : Nat → Int32} {h0 : Nat → Nat}
    (K : ∀ h b3 b8, st_H h (st_A a1 rt) a2 b3 (fun _ => 0) → (∀ q, q < 400 → h q = 1 → h0 q = 1) → post (a1, a2, b3, a4, a5, a6, a7, b8)) :
    ∀ f d step h b3 b8, 400 - step < f → step + st_sw h b8 d ≤ 85 → st_H h (st_A a1 rt) a2 b3 (fun k => st_se1 b8 d k) → st_Q h b8 d → (∀ q, q < 400 → h q = 1 → h0 q = 1) →
      wX_giveBack_16 post f (nI d) (nI step) a1 a2 b3 a4 a5 a6 a7 b8 := by
  intro f
  induction f with
  | zero => intro d step h b3 b8 z; omega
  | succ f ih =>
    intro d step h b3 b8 hf hW H hQ h01
    refine pk_le 400 step (fun z => absurd z (by omega)) (fun _ => ?_)
    by_cases hd0 : d = 0
    · subst hd0
      exact br_t (by decide) (K h b3 b8 (st_H_P H (fun k _ => rfl)) h01)
    · obtain ⟨e, rfl⟩ : ∃ e, d = e + 1 := ⟨d - 1, by omega⟩
      obtain ⟨c, hc, ec, hl1, hl4, hpos⟩ := hQ e (by omega)
      have hQe : st_Q h b8 e := fun j hj => hQ j (by omega)
      have hsw : st_sw h b8 (e + 1) = st_sw h b8 e + st_wt (h c) := by
        unfold st_sw
        rw [st_sm_s, ec, nI_clamp (by omega)]
      have hws := st_wt_s hl1
      have H1 : st_H h (st_A a1 rt) a2 b3 (fun k => st_e (nI c) k + st_se1 b8 e k) := st_H_P H (fun k _ => by
        unfold st_se1
        rw [st_sm_s, ec, Nat.add_comm])
      have hPle : st_se1 b8 e c ≤ 1 * e := st_sm_le (fun _ _ => st_e_le _ _)
      have bd := st_rf_bd h (st_A a1 rt) (fun k => st_e (nI c) k + st_se1 b8 e k) c
      have hrf : 1 + st_se1 b8 e c ≤ st_rf h (st_A a1 rt) (fun k => st_e (nI c) k + st_se1 b8 e k) c := by
        unfold st_rf
        dsimp only
        rw [st_e_self]
        omega
      have hb3 := H1.1 c hc
      have b1 := st_e_le (nI c) c
      have hdec : b3 c - 1 = nI (st_rf h (st_A a1 rt) (fun k => st_e (nI c) k + st_se1 b8 e k) c - 1) := by
        rw [hb3]
        exact pk_sub (b := 1) (by omega)
      refine br_f (by rw [← nI_0]; exact nI_ge (by omega) (by omega)) (nm_r (pk_m1 e) ⟨vp_in_nI (by omega) (by omega), ?_⟩)
      rw [nI_clamp (by omega), ec]
      refine nm_e ⟨vp_in_nI hc (by omega), vp_in_nI hc (by omega), nm_e ⟨vp_in_nI hc (by omega), ?_⟩⟩
      rw [nI_clamp (by omega), pk_us]
      by_cases hr1 : st_rf h (st_A a1 rt) (fun k => st_e (nI c) k + st_se1 b8 e k) c = 1
      · have hz : b3 c - 1 = 0 := by rw [hdec, hr1]; rfl
        have hP0 : st_se1 b8 e c = 0 := by omega
        obtain ⟨Q1, Q2⟩ := st_Q_up hQe hc hP0
        refine br_t hz ⟨vp_in_nI hc (by omega), ?_⟩
        rw [hz]
        have h01' : ∀ q, q < 400 → st_up h c 0 q = 1 → h0 q = 1 := by
          intro q hq h1
          have : q ≠ c := fun z => by
            rw [z, st_ups] at h1
            exact absurd h1 (by decide)
          rw [st_upn this] at h1
          exact h01 q hq h1
        by_cases hlf : h c = 1
        · obtain ⟨b, hb, eb⟩ := H1.2.2.2.2.2.2 c hc hlf
          rw [eb]
          refine br_f (st_n256 b hb) (nm_r (nI_1 step) (ih e (step + 1) (st_up h c 0) _ b8 (by omega) (by omega) ?_ Q1 h01'))
          refine st_relz H1 hc hr1 (fun k hk => ?_)
          rw [if_neg (by omega)]
          rfl
        · have e0 := H1.2.2.2.2.2.1 c hc (by omega)
          rw [e0]
          refine br_t (by decide) ⟨5, ?_⟩
          refine st_gb76 (g := st_up h c 0) (P0 := fun k => st_se1 b8 e k) (W := st_sw h b8 e) (B := st_wt (h c - 1)) (e0 := e) hc (fun w hw => ?_) (fun d s hQ' hS' hW' => ?_) 5 0 e b8 (by omega) (by omega) (by omega) Q1 (fun k hk => rfl) (by omega)
          · have hok := H1.2.2.2.2.1 c (by omega) (by omega) w hw
            rw [st_A_lo (by omega)] at hok
            rcases hok with y | ⟨q, hq, eq, hql⟩
            · exact Or.inl y
            · have hqc : st_up h c 0 q = h c - 1 := by
                rw [st_upn (st_hne hql (rfl : h c = h c) (by omega))]
                exact hql
              exact Or.inr ⟨q, hq, eq, by omega, by omega, by omega, by rw [hqc]; exact Nat.le_refl _⟩
          · refine ih d (step + 1) (st_up h c 0) _ s (by omega) (by omega) ?_ hQ' h01'
            refine st_relz H1 hc hr1 (fun k hk => ?_)
            rw [if_pos (by omega), hS' k hk]
            rw [st_sm_congr (f := fun w => st_e (st_A a1 rt (4 * c + w)) k) (g := fun w => st_e (a1 (4 * c + w)) k) (fun w hw => by rw [st_A_lo (by omega)])]
      · refine br_f (fun z => ?_) (nm_r (nI_1 step) (ih e (step + 1) h _ b8 (by omega) (by omega) (st_rel H1 hc (by omega)) hQe h01))
        rw [hdec, ← nI_0] at z
        have := (nI_eq (by omega) (by omega)).mp z
        omega
theorem st_giveBack {post : St1 → Prop} {rt a3 a8 : Nat → Int32} {h : Nat → Nat} {x : Int32} (H : st_H h (st_A a1 rt) a2 a3 (fun k => st_e x k)) (hx : st_ok h 4 x)
    (K : ∀ h' b3 b8, st_H h' (st_A a1 rt) a2 b3 (fun _ => 0) → (∀ q, q < 400 → h' q = 1 → h q = 1) → post (a1, a2, b3, a4, a5, a6, a7, b8)) :
    wpX_giveBack post (a1, a2, a3, a4, a5, a6, a7, a8) x := by
  rcases hx with e | ⟨c, hc, e, hl⟩
  · rw [e] at H ⊢
    exact br_f (by decide) (K h a3 a8 (st_H_P H (fun k hk => st_e_m1 hk)) (fun _ _ z => z))
  · rw [e] at H ⊢
    refine br_t (nI_pos' (by omega)) (nm_e ⟨401, st_gb_l K 401 1 0 h a3 _ (by omega) ?_ (st_H_P H (fun k _ => ?_)) ?_ (fun _ _ z => z)⟩)
    · rw [show (1 : Nat) = 0 + 1 from rfl, st_sw_push, nI_clamp (by omega), hl]
      exact (by decide : 0 + (0 + st_wt 4) ≤ 85)
    · rw [show (1 : Nat) = 0 + 1 from rfl, st_se1_push]
      exact (Nat.zero_add _).symm
    · exact st_Q_push (d := 0) (fun j z => absurd z (by omega)) hc (by omega) (by omega) (by omega)
end GIVE
end
section
/-! part 12: share, commit, restore, drop, the constructor -/
def st_sT (T : Nat → Bool) (s : Nat) (b : Bool) : Nat → Bool := fun j => if j = s then b else T j
def st_sM (M : Nat → Nat → Option Int32) (s : Nat) (f : Nat → Option Int32) : Nat → Nat → Option Int32 := fun m => if m = s then f else M m
theorem st_sT_s {T : Nat → Bool} {s : Nat} {b : Bool} : st_sT T s b s = b := if_pos rfl
theorem st_sT_n {T : Nat → Bool} {s j : Nat} {b : Bool} (h : j ≠ s) : st_sT T s b j = T j := if_neg h
theorem st_sM_s {M : Nat → Nat → Option Int32} {s : Nat} {f : Nat → Option Int32} : st_sM M s f s = f := if_pos rfl
theorem st_sM_n {M : Nat → Nat → Option Int32} {s m : Nat} {f : Nat → Option Int32} (h : m ≠ s) : st_sM M s f m = M m := if_neg h
section MAPS
variable {T : Nat → Bool} {M : Nat → Nat → Option Int32} {a1 a2 a3 a4 a5 a6 a7 a8 : Nat → Int32}
theorem st_h5 {h : Nat → Nat} {A : Nat → Int32} {P : Nat → Nat} (H : st_H h A a2 a3 P) {m : Nat} (hm : m < 8) : h (400 + m / 4) = 5 := by
  have : m / 4 = 0 ∨ m / 4 = 1 := by omega
  rcases this with z | z
  · rw [z]; exact H.2.2.2.1.1
  · rw [z]; exact H.2.2.2.1.2
/-- a root takes a pending reference -/
theorem st_rswap {h : Nat → Nat} {P : Nat → Nat} {y : Int32} {t : Nat} (ht : t < 8) (H : st_H h (st_A a1 a5) a2 a3 (fun k => st_e y k + P k)) (hy : st_ok h 4 y) : st_H h (st_A a1 (upd a5 t y)) a2 a3 (fun k => st_e (a5 t) k + P k) := by
  have h5 := st_h5 H ht
  have := st_swap (p := 400 + t / 4) (w := t % 4) H (by omega) (by omega) (by omega) (by rw [h5]; exact hy)
  rw [show 4 * (400 + t / 4) + t % 4 = 1600 + t by omega, st_A_hi, ← st_A_u5] at this
  exact this
theorem st_share {post : St1 → Prop} {h : Nat → Nat} {f t : Nat} (hf : f < 8) (ht : t < 8) (H : st_H h (st_A a1 a5) a2 a3 (fun _ => 0))
    (K : ∀ b3, st_H h (st_A a1 (upd a5 t (a5 f))) a2 b3 (fun k => st_e (a5 t) k) → post (a1, a2, b3, a4, upd a5 t (a5 f), upd a6 t (a6 f), a7, a8)) : wpX_share post (a1, a2, a3, a4, a5, a6, a7, a8) (nI f) (nI t) := by
  unfold wpX_share
  dsimp only
  rw [nI_clamp (by omega), nI_clamp (by omega)]
  have vf := vp_in_nI hf (show 8 < 2 ^ 31 by omega)
  have vt := vp_in_nI ht (show 8 < 2 ^ 31 by omega)
  refine ⟨vf, vt, nm_e ⟨vf, vt, nm_e ⟨vt, ?_⟩⟩⟩
  rw [pk_us]
  have hr := st_root_ok H hf
  rw [st_A_hi] at hr
  have hr' := hr
  rcases hr with e | ⟨c, hc, e, hl⟩
  · refine br_t (by rw [e]; exact st_m1_neg) (K a3 (st_H_P (st_rswap (P := fun _ => 0) ht (st_H_P H (fun k hk => ?_)) hr') (fun k hk => Nat.add_zero _)))
    rw [e, st_e_m1 hk]
  · have vc : vp_in (a5 f) 400 := by rw [e]; exact vp_in_nI hc (by omega)
    refine br_f (by rw [e]; exact nI_pos (by omega)) ⟨vt, vc, vc, nm_e (K _ ?_)⟩
    have D := st_dup H hc (by omega)
    rw [e, nI_clamp (by omega), ← e]
    exact st_H_P (st_rswap (P := fun _ => 0) ht (st_H_P D (fun k hk => by rw [e])) hr') (fun k hk => Nat.add_zero _)
/-- the picture after a root was replaced by another map's -/
theorem st_ms_sh {h : Nat → Nat} (H : st_H h (st_A a1 a5) a2 a3 (fun _ => 0)) (hM : ∀ m, m < 8 → ∀ k, k < 256 → st_ms (st_A a1 a5) a2 m k = M m k) {f t : Nat} (hf : f < 8) : ∀ m, m < 8 → ∀ k, k < 256 → st_ms (st_A a1 (upd a5 t (a5 f))) a2 m k = st_sM M t (M f) m k := by
  intro m hm k hk
  have hr := st_root_ok H hf
  rw [st_A_hi] at hr
  rw [st_A_u5, st_ms_root H hr k m hm]
  by_cases e : m = t
  · subst e
    rw [if_pos rfl, st_sM_s, ← hM f hf k hk]
    unfold st_ms
    rw [st_A_hi]
  · rw [if_neg e, st_sM_n e]
    exact hM m hm k hk
theorem st_commit_l {post : Int32 → St1 → Prop} (I : st_I T M a1 a2 a3 a4 a5 a6) (K0 : (∀ j, 1 ≤ j → j < 8 → T j = true) → post (-1) (a1, a2, a3, a4, a5, a6, a7, a8))
    (K : ∀ s, 1 ≤ s → s < 8 → T s = false → (∀ j, 1 ≤ j → j < s → T j = true) → ∀ b3 b4 b5 b6, st_I (st_sT T s true) (st_sM M s (M 0)) a1 a2 b3 b4 b5 b6 → post (nI (s - 1)) (a1, a2, b3, b4, b5, b6, a7, a8)) :
    ∀ n s, 1 ≤ s → s ≤ 8 → 8 - s < n → (∀ j, 1 ≤ j → j < s → T j = true) → wX_commit_2 post a1 a2 a3 a4 a5 a6 a7 a8 n (nI s) := by
  obtain ⟨h, H, hN, hM, hC, hT, hR, hT0⟩ := I
  intro n
  induction n with
  | zero => intro s _ _ z; omega
  | succ n ih =>
    intro s h1 h8 hn hj
    refine pk_le 8 s (fun z => K0 (fun j j1 j2 => hj j j1 (by omega))) (fun z => ⟨vp_in_nI z (by omega), ?_⟩)
    rw [nI_clamp (by omega), hT s z]
    cases ht : T s with
    | true =>
      refine br_f (by decide) (nm_r (nI_1 s) (ih (s + 1) (by omega) (by omega) (by omega) (fun j j1 j2 => ?_)))
      by_cases e : j = s
      · rw [e]; exact ht
      · exact hj j j1 (by omega)
    | false =>
      refine br_t (by decide) ⟨vp_in_nI z (by omega), nm_e ?_⟩
      refine st_share (f := 0) (by omega) z H (fun b3 B => ?_)
      rw [hR s z ht] at B
      dsimp only
      rw [show nI s - 1 = nI (s - 1) from pk_sub (b := 1) h1]
      refine K s h1 z ht hj b3 _ _ _ ⟨h, st_H_P B (fun k hk => st_e_m1 hk), hN, st_ms_sh H hM (by omega), fun m hm => ?_, fun m hm => ?_, fun m hm hf => ?_, ?_⟩
      · by_cases e : m = s
        · subst e
          rw [pk_us, st_sM_s]
          exact hC 0 (by omega)
        · rw [pk_un e, st_sM_n e]
          exact hC m hm
      · by_cases e : m = s
        · subst e
          rw [pk_us, st_sT_s]
          rfl
        · rw [pk_un e, st_sT_n e]
          exact hT m hm
      · by_cases e : m = s
        · subst e
          rw [st_sT_s] at hf
          exact Bool.noConfusion hf
        · rw [st_sT_n e] at hf
          rw [pk_un e]
          exact hR m hm hf
      · rw [st_sT_n (by omega)]
        exact hT0
theorem st_commit {post : Int32 → St1 → Prop} (I : st_I T M a1 a2 a3 a4 a5 a6) (K0 : (∀ j, 1 ≤ j → j < 8 → T j = true) → post (-1) (a1, a2, a3, a4, a5, a6, a7, a8))
    (K : ∀ s, 1 ≤ s → s < 8 → T s = false → (∀ j, 1 ≤ j → j < s → T j = true) → ∀ b3 b4 b5 b6, st_I (st_sT T s true) (st_sM M s (M 0)) a1 a2 b3 b4 b5 b6 → post (nI (s - 1)) (a1, a2, b3, b4, b5, b6, a7, a8)) :
    wpX_commit post (a1, a2, a3, a4, a5, a6, a7, a8) :=
  ⟨9, st_commit_l I K0 K 9 1 (by omega) (by omega) (by omega) (fun j j1 j2 => absurd j1 (by omega))⟩
theorem st_restore {post : Int32 → St1 → Prop} {s : Nat} (I : st_I T M a1 a2 a3 a4 a5 a6) (hs : s < 8) (K0 : post (-1) (a1, a2, a3, a4, a5, a6, a7, a8))
    (K : s < 7 → T (s + 1) = true → ∀ r b3 b5 b6 b8, st_I T (st_sM M 0 (M (s + 1))) a1 a2 b3 a4 b5 b6 → post r (a1, a2, b3, a4, b5, b6, a7, b8)) : wpX_restore post (a1, a2, a3, a4, a5, a6, a7, a8) (nI s) := by
  obtain ⟨h, H, hN, hM, hC, hT, hR, hT0⟩ := I
  refine br_f (nI_pos (by omega)) (pk_lt 6 s (fun _ => K0) (fun z => ?_))
  rw [nI_1, nI_clamp (by omega), hT (s + 1) (by omega)]
  refine ⟨vp_in_nI (by omega) (by omega), ?_⟩
  cases ht : T (s + 1) with
  | false => exact br_t (by decide) K0
  | true =>
    refine br_f (by decide) (nm_e ?_)
    refine st_share (f := s + 1) (t := 0) (by omega) (by omega) H (fun b3 B => ?_)
    dsimp only
    have hr := st_root_ok H (show 0 < 8 by omega)
    rw [st_A_hi] at hr
    refine st_giveBack B hr (fun h' c3 b8 C c1 => ?_)
    dsimp only
    refine K (by omega) ht _ _ _ _ _ ⟨h', C, fun q hq h1 => hN q hq (c1 q hq h1), st_ms_sh H hM (by omega), fun m hm => ?_, hT, fun m hm hf => ?_, hT0⟩
    · by_cases e : m = 0
      · subst e
        rw [pk_us, st_sM_s]
        exact hC (s + 1) (by omega)
      · rw [pk_un e, st_sM_n e]
        exact hC m hm
    · have : m ≠ 0 := fun y => by
        rw [y, hT0] at hf
        exact Bool.noConfusion hf
      rw [pk_un this]
      exact hR m hm hf
theorem st_cd_0 : st_cd (fun _ => none) = 0 := st_sm_zero (fun _ _ => rfl)
theorem st_drop {post : Int32 → St1 → Prop} {s : Nat} (I : st_I T M a1 a2 a3 a4 a5 a6) (hs : s < 8) (K0 : (s < 7 → T (s + 1) = false) → post (-1) (a1, a2, a3, a4, a5, a6, a7, a8))
    (K : s < 7 → T (s + 1) = true → ∀ b3 b4 b5 b6 b8, st_I (st_sT T (s + 1) false) (st_sM M (s + 1) (fun _ => none)) a1 a2 b3 b4 b5 b6 → post 0 (a1, a2, b3, b4, b5, b6, a7, b8)) : wpX_drop post (a1, a2, a3, a4, a5, a6, a7, a8) (nI s) := by
  obtain ⟨h, H, hN, hM, hC, hT, hR, hT0⟩ := I
  refine br_f (nI_pos (by omega)) (pk_lt 6 s (fun y => K0 (fun z => absurd z (by omega))) (fun z => ?_))
  rw [nI_1, nI_clamp (by omega), hT (s + 1) (by omega)]
  have vs := vp_in_nI (show s + 1 < 8 by omega) (show 8 < 2 ^ 31 by omega)
  refine ⟨vs, ?_⟩
  cases ht : T (s + 1) with
  | false => exact br_t (by decide) (K0 (fun _ => ht))
  | true =>
    refine br_f (by decide) ⟨vs, nm_e ⟨vs, ?_⟩⟩
    have hr := st_root_ok H (show s + 1 < 8 by omega)
    rw [st_A_hi] at hr
    have B := st_rswap (P := fun _ => 0) (y := -1) (show s + 1 < 8 by omega) (st_H_P H (fun k hk => by rw [st_e_m1 hk])) st_ok_m
    refine st_giveBack (rt := upd a5 (s + 1) (-1)) (st_H_P B (fun k hk => Nat.add_zero _)) hr (fun h' c3 b8 C c1 => ?_)
    dsimp only
    refine ⟨vs, nm_e ⟨vs, nm_e (K (by omega) ht _ _ _ _ _ ⟨h', C, fun q hq h1 => hN q hq (c1 q hq h1), fun m hm k hk => ?_, fun m hm => ?_, fun m hm => ?_, fun m hm hf => ?_, ?_⟩)⟩⟩
    · rw [st_A_u5, st_ms_root H st_ok_m k m hm]
      by_cases e : m = s + 1
      · subst e
        rw [if_pos rfl, st_sM_s, st_se_m]
      · rw [if_neg e, st_sM_n e]
        exact hM m hm k hk
    · by_cases e : m = s + 1
      · subst e
        rw [pk_us, st_sM_s, st_cd_0]
        exact ⟨rfl, by omega⟩
      · rw [pk_un e, st_sM_n e]
        exact hC m hm
    · by_cases e : m = s + 1
      · subst e
        rw [pk_us, st_sT_s]
        rfl
      · rw [pk_un e, st_sT_n e]
        exact hT m hm
    · by_cases e : m = s + 1
      · subst e
        exact pk_us
      · rw [st_sT_n e] at hf
        rw [pk_un e]
        exact hR m hm hf
    · rw [st_sT_n (by omega)]
      exact hT0
end MAPS
def st_T0 : Nat → Bool := fun j => decide (j = 0)
theorem st_I_init {a5 : Nat → Int32} (h5 : ∀ m, m < 8 → a5 m = -1) : st_I st_T0 (fun _ _ => none) (fun _ => 0) (fun _ => 0) (fun _ => 0) (upd (fun _ => 0) 0 1) a5 (fun _ => 0) := by
  have hroot : ∀ p, p < 402 → 2 ≤ (if p < 400 then 0 else 5) → ∀ w, w < 4 → st_A (fun _ => 0) a5 (4 * p + w) = -1 := by
    intro p hp h2 w hw
    by_cases z : p < 400
    · rw [if_pos z] at h2; omega
    · rw [show 4 * p + w = 1600 + (4 * (p - 400) + w) by omega, st_A_hi]
      exact h5 _ (by omega)
  have hr : ∀ k, k < 400 → st_rf (fun p => if p < 400 then 0 else 5) (st_A (fun _ => 0) a5) (fun _ => 0) k = 0 := by
    intro k hk
    unfold st_rf
    refine (Nat.add_zero _).trans (st_sm_zero (fun p hp => ?_))
    unfold st_g
    dsimp only
    by_cases z : 2 ≤ (if p < 400 then 0 else 5)
    · rw [if_pos z]
      exact st_sm_zero (fun w hw => by rw [hroot p hp z w hw]; exact st_e_m1 hk)
    · rw [if_neg z]
  refine ⟨fun p => if p < 400 then 0 else 5, ⟨fun p hp => ?_, fun p hp => ?_, fun p hp => ?_, ⟨rfl, rfl⟩, fun p hp h2 w hw => ?_, fun p hp h2 => rfl, fun p hp h1 => ?_⟩, fun q hq h1 => ?_, fun m hm k hk => ?_, fun m hm => ?_, fun m hm => ?_, fun m hm _ => h5 m hm, rfl⟩
  · rw [hr p hp]; rfl
  · rw [hr p hp]
    dsimp only
    rw [if_pos hp]
  · dsimp only
    rw [if_pos hp]
    omega
  · rw [hroot p hp h2 w hw]
    exact st_ok_m
  · dsimp only at h1
    rw [if_pos hp] at h1
    omega
  · dsimp only at h1
    rw [if_pos hq] at h1
    omega
  · unfold st_ms
    rw [st_A_hi, h5 m hm, st_se_m]
  · rw [st_cd_0]
    exact ⟨rfl, by omega⟩
  · unfold st_T0
    by_cases e : m = 0
    · subst e
      rfl
    · rw [pk_un e, decide_eq_false e]
      rfl
theorem st_init {post : St1 → Prop} (K : ∀ a5, st_I st_T0 (fun _ _ => none) (fun _ => 0) (fun _ => 0) (fun _ => 0) (upd (fun _ => 0) 0 1) a5 (fun _ => 0) → post (fun _ => 0, fun _ => 0, fun _ => 0, upd (fun _ => 0) 0 1, a5, fun _ => 0, fun _ => 0, fun _ => 0)) : wpX_init post 8 2444 () := by
  refine ⟨by omega, by omega, by omega, by omega, by omega, by omega, by omega, by omega, by omega, by omega, by omega, by omega, by omega, by omega, by omega, by omega, nm_e ?_⟩
  refine pk_loop (fun n i s => wX_init_79 post 8 2444 8 2444 n (nI i) (fun _ => 0) (fun _ => 0) (fun _ => 0) (upd (fun _ => 0) 0 1) s (fun _ => 0) (fun _ => 0) (fun _ => 0)) (fun i s => ∀ m, m < i → s m = -1) 8 0 (fun _ => 0) (by omega) (fun m hm => absurd hm (by omega)) ?_ ?_
  · intro n s hI
    exact br_t (by decide) (K s (st_I_init hI))
  · intro n i s hi hI hw
    refine pk_le 8 i (fun z => absurd z (by omega)) (fun _ => ⟨vp_in_nI hi (by omega), nm_e (nm_r (nI_1 i) (hw _ (fun m hm => ?_)))⟩)
    rw [nI_clamp (by omega)]
    by_cases e : m = i
    · rw [e, pk_us]
    · rw [pk_un e]
      exact hI m (by omega)
end
section
/-! part 13: questions in the picture's words; copy -/
theorem st_nx_cg {Q Q' : Nat → Prop} {a r : Nat} (e : ∀ k, k < 256 → (Q k ↔ Q' k)) (h : st_nx Q a r) : st_nx Q' a r := by
  obtain ⟨h1, h2, h3, h4⟩ := h
  exact ⟨h1, h2, fun k k1 k2 z => h3 k k1 k2 ((e k (by omega)).mpr z), fun z => (e r z).mp (h4 z)⟩
theorem st_sm_mono {f g : Nat → Nat} : ∀ {n : Nat}, (∀ i, i < n → f i ≤ g i) → st_sm f n ≤ st_sm g n := by
  intro n
  induction n with
  | zero => intro _; exact Nat.le_refl _
  | succ n ih =>
    intro h
    rw [st_sm_s, st_sm_s]
    exact Nat.add_le_add (ih (fun i hi => h i (by omega))) (h n (by omega))
theorem st_df_cg {f g f' g' : Nat → Option Int32} (e : ∀ k, k < 256 → f k = f' k) (e' : ∀ k, k < 256 → g k = g' k) : st_df f g 256 = st_df f' g' 256 := st_sm_congr (fun k hk => by rw [e k hk, e' k hk])
section ASK
variable {T : Nat → Bool} {M : Nat → Nat → Option Int32} {a1 a2 a3 a4 a5 a6 a7 a8 : Nat → Int32}
theorem st_there (I : st_I T M a1 a2 a3 a4 a5 a6) {m : Nat} (hm : m < 8) (ht : T m = true) : a4 m = 1 := by
  obtain ⟨h, H, hN, hM, hC, hT, hR, hT0⟩ := I
  rw [hT m hm, if_pos ht]
theorem st_nextI (I : st_I T M a1 a2 a3 a4 a5 a6) {post : Int32 → Prop} {p0 : Int32} {m a : Nat} (hx : st_ixm p0 m) (ht : T m = true) (ha : a ≤ 256)
    (hp : ∀ r, st_nx (fun k => (M m k).isSome = true) a r → post (nI r)) : wpX_next post (a1, a2, a3, a4, a5, a6, a7, a8) p0 (nI a) := by
  have h4 := st_there I hx.1 ht
  obtain ⟨h, H, hN, hM, hC, hT, hR, hT0⟩ := I
  exact st_next H hx h4 ha (fun r hr => hp r (st_nx_cg (fun k hk => by rw [hM m hx.1 k hk]) hr))
theorem st_ncI (I : st_I T M a1 a2 a3 a4 a5 a6) {post : Int32 → Prop} {p0 p1 : Int32} {m m' a : Nat} (hx : st_ixm p0 m) (hx' : st_ixm p1 m') (ht : T m = true) (ht' : T m' = true) (ha : a ≤ 256)
    (hp : ∀ r, st_nx (fun k => M m k ≠ M m' k) a r → post (nI r)) : wpX_nextChange post (a1, a2, a3, a4, a5, a6, a7, a8) p0 p1 (nI a) := by
  have h4 := st_there I hx.1 ht
  have h4' := st_there I hx'.1 ht'
  obtain ⟨h, H, hN, hM, hC, hT, hR, hT0⟩ := I
  exact st_nextChange H hx hx' h4 h4' ha (fun r hr => hp r (st_nx_cg (fun k hk => by rw [hM m hx.1 k hk, hM m' hx'.1 k hk]) hr))
theorem st_chI (I : st_I T M a1 a2 a3 a4 a5 a6) {post : Int32 → Prop} {p0 p1 : Int32} {m m' : Nat} (hx : st_ixm p0 m) (hx' : st_ixm p1 m') (ht : T m = true) (ht' : T m' = true)
    (hp : post (nI (st_df (M m) (M m') 256))) : wpX_changes post (a1, a2, a3, a4, a5, a6, a7, a8) p0 p1 := by
  have h4 := st_there I hx.1 ht
  have h4' := st_there I hx'.1 ht'
  obtain ⟨h, H, hN, hM, hC, hT, hR, hT0⟩ := I
  refine st_changes H hx hx' h4 h4' ?_
  rw [st_df_cg (hM m hx.1) (hM m' hx'.1)]
  exact hp
theorem st_getI (I : st_I T M a1 a2 a3 a4 a5 a6) {post : Int32 → Prop} {p0 : Int32} {m key : Nat} (hx : st_ixm p0 m) (ht : T m = true) (hk : key < 256) (hp : post ((M m key).getD 0)) : wpX_get post (a1, a2, a3, a4, a5, a6, a7, a8) p0 (nI key) := by
  have h4 := st_there I hx.1 ht
  obtain ⟨h, H, hN, hM, hC, hT, hR, hT0⟩ := I
  refine st_get H hx h4 hk ?_
  rw [hM m hx.1 key hk]
  exact hp
theorem st_hasI (I : st_I T M a1 a2 a3 a4 a5 a6) {post : Int32 → Prop} {p0 : Int32} {m key : Nat} (hx : st_ixm p0 m) (ht : T m = true) (hk : key < 256) (hp : post (if (M m key).isSome = true then 1 else 0)) : wpX_has post (a1, a2, a3, a4, a5, a6, a7, a8) p0 (nI key) := by
  have h4 := st_there I hx.1 ht
  obtain ⟨h, H, hN, hM, hC, hT, hR, hT0⟩ := I
  refine st_has H hx h4 hk ?_
  rw [hM m hx.1 key hk]
  exact hp
theorem st_sizeI (I : st_I T M a1 a2 a3 a4 a5 a6) {post : Int32 → Prop} {p0 : Int32} {m : Nat} (hx : st_ixm p0 m) (ht : T m = true) (hp : post (nI (st_cd (M m)))) : wpX_size post (a1, a2, a3, a4, a5, a6, a7, a8) p0 := by
  have h4 := st_there I hx.1 ht
  obtain ⟨h, H, hN, hM, hC, hT, hR, hT0⟩ := I
  refine st_size1 hx h4 ?_
  rw [(hC m hx.1).1]
  exact hp
theorem st_size0I (I : st_I T M a1 a2 a3 a4 a5 a6) {post : Int32 → Prop} {s : Nat} (hs : s < 8) (ht : s < 7 → T (s + 1) = false) (hp : post (-1)) : wpX_size post (a1, a2, a3, a4, a5, a6, a7, a8) (nI s) := by
  obtain ⟨h, H, hN, hM, hC, hT, hR, hT0⟩ := I
  unfold wpX_size
  dsimp only
  by_cases e : s = 7
  · subst e
    refine st_isMap7 ?_
    exact br_t rfl hp
  · refine st_isMap0 (st_ixm_s (show s < 7 by omega)) ?_ ?_
    · rw [hT (s + 1) (by omega), ht (by omega)]
      rfl
    · exact br_t rfl hp
theorem st_cd16 (I : st_I T M a1 a2 a3 a4 a5 a6) {m : Nat} (hm : m < 8) : st_cd (M m) ≤ 16 := by
  obtain ⟨h, H, hN, hM, hC, hT, hR, hT0⟩ := I
  exact (hC m hm).2
theorem st_I0 (I : st_I T M a1 a2 a3 a4 a5 a6) : T 0 = true := by
  obtain ⟨h, H, hN, hM, hC, hT, hR, hT0⟩ := I
  exact hT0
end ASK
section COPY
variable {T U : Nat → Bool} {M N : Nat → Nat → Option Int32} {a1 a2 a3 a4 a5 a6 a7 a8 b4 b8 : Nat → Int32}
theorem st_copy48 {post : St2 → Prop} {p1 : Int32} {m : Nat} (I : st_I T M a1 a2 a3 a4 a5 a6) (hx : st_ixm p1 m) (ht : T m = true)
    (K : ∀ N' c1 c2 c3 c5 c6 c7, (∀ m', m' ≠ 0 → N' m' = N m') → (∀ k, k < 256 → N' 0 k = M m k) → st_I U N' c1 c2 c3 b4 c5 c6 → post (a1, a2, a3, a4, a5, a6, a7, a8, c1, c2, c3, b4, c5, c6, c7, b8)) :
    ∀ j, j ≤ 256 → ∀ N' c1 c2 c3 c5 c6 c7, (∀ m', m' ≠ 0 → N' m' = N m') → (∀ k, k < 256 → N' 0 k = if j ≤ k then M m k else none) → st_I U N' c1 c2 c3 b4 c5 c6 →
      wL_copy_48 post p1 (j + 1) (nI j + (-1)) a1 a2 a3 a4 a5 a6 a7 a8 c1 c2 c3 b4 c5 c6 c7 b8 := by
  intro j
  induction j with
  | zero =>
    intro _ N' c1 c2 c3 c5 c6 c7 hN h0 J
    exact br_t (by decide) (K N' c1 c2 c3 c5 c6 c7 hN (fun k hk => by rw [h0 k hk, if_pos (by omega)]) J)
  | succ j ih =>
    intro hj N' c1 c2 c3 c5 c6 c7 hN h0 J
    rw [pk_m1]
    refine br_f (nI_pos (by omega)) ?_
    refine st_hasI I hx ht (by omega) ?_
    cases hv : M m j with
    | none =>
      refine br_f (by decide) (nm_e (ih (by omega) N' c1 c2 c3 c5 c6 c7 hN (fun k hk => ?_) J))
      rw [h0 k hk]
      by_cases e : k = j
      · subst e
        rw [if_neg (by omega), if_pos (by omega), hv]
      · by_cases g : j ≤ k
        · rw [if_pos g, if_pos (by omega)]
        · rw [if_neg g, if_neg (by omega)]
    | some v =>
      refine br_t (if_pos rfl) ?_
      refine st_getI I hx ht (by omega) ?_
      rw [hv]
      have hn0 : N' 0 j = none := by rw [h0 j (by omega), if_neg (by omega)]
      have h0' : ∀ k, k < 256 → st_pm N' 0 j (some v) 0 k = if j ≤ k then M m k else none := by
        intro k hk
        by_cases e : k = j
        · subst e
          rw [if_pos (Nat.le_refl _), hv]
          exact if_pos ⟨rfl, rfl⟩
        · rw [st_pm_k e, h0 k hk]
          by_cases g : j ≤ k
          · rw [if_pos g, if_pos (by omega)]
          · rw [if_neg g, if_neg (by omega)]
      have hle : st_cd (st_pm N' 0 j (some v) 0) ≤ st_cd (M m) := by
        refine st_sm_mono (fun k hk => ?_)
        rw [h0' k hk]
        by_cases g : j ≤ k
        · rw [if_pos g]
          exact Nat.le_refl _
        · rw [if_neg g]
          exact Nat.zero_le _
      have hc := st_cd_some (M := N') (s := 0) (show j < 256 by omega) v
      rw [hn0] at hc
      have h16 := st_cd16 I hx.1
      have hc' : st_cd (st_pm N' 0 j (some v) 0) = st_cd (N' 0) + 1 := hc
      refine st_put J (by omega) (fun _ z => absurd (show st_cd (N' 0) < 16 by omega) z) (fun _ r d1 d2 d3 d5 d6 d7 J' => ?_)
      exact nm_e (ih (by omega) _ d1 d2 d3 d5 d6 d7 (fun m' hm' => by rw [st_pm_ne hm']; exact hN m' hm') h0' J')
theorem st_copy10 {post : St2 → Prop} {p1 : Int32} {m : Nat} (I : st_I T M a1 a2 a3 a4 a5 a6) (hx : st_ixm p1 m) (ht : T m = true)
    (K : ∀ N' c1 c2 c3 c5 c6 c7, (∀ m', m' ≠ 0 → N' m' = N m') → (∀ k, k < 256 → N' 0 k = M m k) → st_I U N' c1 c2 c3 b4 c5 c6 → post (a1, a2, a3, a4, a5, a6, a7, a8, c1, c2, c3, b4, c5, c6, c7, b8)) :
    ∀ f i r N' c1 c2 c3 c5 c6 c7, 17 - i < f → st_cd (N' 0) + i ≤ 16 → st_nx (fun k => (N' 0 k).isSome = true) 0 r → (∀ m', m' ≠ 0 → N' m' = N m') → st_I U N' c1 c2 c3 b4 c5 c6 →
      wL_copy_10 post p1 f (nI r) (nI i) a1 a2 a3 a4 a5 a6 a7 a8 c1 c2 c3 b4 c5 c6 c7 b8 := by
  intro f
  induction f with
  | zero => intro i r N' c1 c2 c3 c5 c6 c7 z; omega
  | succ f ih =>
    intro i r N' c1 c2 c3 c5 c6 c7 hf hc hn hN J
    refine pk_le 17 i (fun z => absurd z (by omega)) (fun _ => pk_le 256 r (fun z => ?_) (fun z => ?_) rfl rfl (by omega) (by have := hn.2.1; omega))
    · refine ⟨257, st_copy48 I hx ht K 256 (by omega) N' c1 c2 c3 c5 c6 c7 hN (fun k hk => ?_) J⟩
      rw [if_neg (by omega)]
      have : ¬ (N' 0 k).isSome = true := hn.2.2.1 k (by omega) (by omega)
      cases hv : N' 0 k with
      | none => rfl
      | some v => rw [hv] at this; exact absurd rfl this
    · have hh := hn.2.2.2 z
      have hcn := st_cd_none (M := N') (s := 0) z hh
      refine st_remove J z (fun y => absurd hh y) (fun _ q d1 d2 d3 d5 d6 d7 J' => ?_)
      dsimp only
      refine st_nextI J' st_ixm_m (st_I0 J') (by omega) (fun r' hr' => ?_)
      refine nm_r (nI_1 i) (ih (i + 1) r' _ d1 d2 d3 d5 d6 d7 (by omega) (by omega) ⟨by omega, hr'.2.1, fun k _ k2 => ?_, hr'.2.2.2⟩ (fun m' hm' => by rw [st_pm_ne hm']; exact hN m' hm') J')
      by_cases g : r ≤ k
      · exact hr'.2.2.1 k g k2
      · show ¬ (st_pm N' 0 r none 0 k).isSome = true
        rw [st_pm_k (by omega)]
        exact hn.2.2.1 k (by omega) (by omega)
theorem st_copy {post : St2 → Prop} {p1 : Int32} {m : Nat} {b1 b2 b3 b5 b6 b7 : Nat → Int32} (I : st_I T M a1 a2 a3 a4 a5 a6) (hx : st_ixm p1 m) (ht : T m = true) (J : st_I U N b1 b2 b3 b4 b5 b6)
    (K : ∀ N' c1 c2 c3 c5 c6 c7, (∀ m', m' ≠ 0 → N' m' = N m') → (∀ k, k < 256 → N' 0 k = M m k) → st_I U N' c1 c2 c3 b4 c5 c6 → post (a1, a2, a3, a4, a5, a6, a7, a8, c1, c2, c3, b4, c5, c6, c7, b8)) :
    wpL_copy post (a1, a2, a3, a4, a5, a6, a7, a8, b1, b2, b3, b4, b5, b6, b7, b8) p1 := by
  unfold wpL_copy
  dsimp only
  refine st_nextI (a := 0) J st_ixm_m (st_I0 J) (by omega) (fun r hr => ?_)
  exact ⟨18, st_copy10 I hx ht K 18 0 r N b1 b2 b3 b5 b6 b7 (by omega) (by have := st_cd16 J (show 0 < 8 by omega); omega) hr (fun _ _ => rfl) J⟩
end COPY
end
section
/-! part 14: alike, the law's turn, the law -/
section LAW
variable {T U : Nat → Bool} {M N : Nat → Nat → Option Int32} {a1 a2 a3 a4 a5 a6 a7 a8 b1 b2 b3 b4 b5 b6 b7 b8 : Nat → Int32}
theorem st_alike {post : Int32 → Prop} {p2 : Int32} {m fr key : Nat} (I : st_I T M a1 a2 a3 a4 a5 a6) (J : st_I U N b1 b2 b3 b4 b5 b6) (hx : st_ixm p2 m) (ht : T m = true) (h1 : U 1 = true) (hf : fr ≤ 256) (hk : key < 256)
    (e0 : ∀ k, k < 256 → N 0 k = M 0 k) (e1 : ∀ k, k < 256 → N 1 k = M m k) (hp : post 1) : wpL_alike post (a1, a2, a3, a4, a5, a6, a7, a8, b1, b2, b3, b4, b5, b6, b7, b8) p2 (nI fr) (nI key) := by
  have t0 := st_I0 I
  have u0 := st_I0 J
  have x1 : st_ixm 0 1 := st_ixm_s (s := 0) (by omega)
  unfold wpL_alike
  dsimp only
  refine st_sizeI I st_ixm_m t0 ?_
  refine st_sizeI J st_ixm_m u0 ?_
  refine br_t (by rw [st_cd_congr e0]) ?_
  refine st_nextI I st_ixm_m t0 hf (fun r4 hr4 => ?_)
  refine st_nextI J st_ixm_m u0 hf (fun r5 hr5 => ?_)
  refine br_t (by rw [st_nx_eq hr4 hr5 (fun k hk => by rw [e0 k hk])]) ?_
  refine st_getI I st_ixm_m t0 hk ?_
  refine st_getI J st_ixm_m u0 hk ?_
  refine br_t (by rw [e0 key hk]) ?_
  refine st_chI I st_ixm_m hx t0 ht ?_
  refine st_chI J st_ixm_m x1 u0 h1 ?_
  refine br_t (by rw [st_df_cg e0 e1]) ?_
  refine st_ncI I st_ixm_m hx t0 ht hf (fun r13 hr13 => ?_)
  refine st_ncI J st_ixm_m x1 u0 h1 hf (fun r14 hr14 => ?_)
  refine br_t (by rw [st_nx_eq hr13 hr14 (fun k hk => by rw [e0 k hk, e1 k hk])]) ?_
  refine st_sizeI I hx ht ?_
  refine st_sizeI J x1 h1 ?_
  refine br_t (by rw [st_cd_congr e1]) ?_
  refine st_nextI I hx ht hf (fun r19 hr19 => ?_)
  refine st_nextI J x1 h1 hf (fun r20 hr20 => ?_)
  refine br_t (by rw [st_nx_eq hr19 hr20 (fun k hk => by rw [e1 k hk])]) ?_
  refine st_getI I hx ht hk ?_
  refine st_getI J x1 h1 hk ?_
  exact br_t (by rw [e1 key hk]) hp
def st_Kx (a1 a2 a3 a4 a5 a6 : Nat → Int32) : Prop := ∃ T M, st_I T M a1 a2 a3 a4 a5 a6
def st_Ky (a1 a2 a3 a4 a5 a6 : Nat → Int32) : Prop := ∃ N, st_I st_T0 N a1 a2 a3 a4 a5 a6
variable {post : Int32 → Prop} {L : Nat} {xs : Nat → Int32} {x3 x4 x5 x6 : Int32} {kc ks av : Nat} {Jn : Int32 → (Nat → Int32) → (Nat → Int32) → (Nat → Int32) → (Nat → Int32) → (Nat → Int32) → (Nat → Int32) → (Nat → Int32) → (Nat → Int32) → (Nat → Int32) → (Nat → Int32) → (Nat → Int32) → (Nat → Int32) → (Nat → Int32) → (Nat → Int32) → (Nat → Int32) → (Nat → Int32) → Prop}
theorem st_T1 : st_sT (st_sT st_T0 1 true) 1 false = st_T0 := by
  funext j
  unfold st_sT st_T0
  by_cases e : j = 1
  · subst e; rfl
  · rw [if_neg e, if_neg e]
theorem st_178 (hJ : ∀ a1 a2 a3 a4 a5 a6 a7 a8 b1 b2 b3 b4 b5 b6 b7 b8, st_Kx a1 a2 a3 a4 a5 a6 → st_Ky b1 b2 b3 b4 b5 b6 → Jn (x3 + 3) a1 a2 a3 a4 a5 a6 a7 a8 b1 b2 b3 b4 b5 b6 b7 b8) (hv : av < 256) (X : st_Kx a1 a2 a3 a4 a5 a6) (Y : st_Ky b1 b2 b3 b4 b5 b6) :
    wL_law_178 post L xs Jn x3 x4 (nI av) x6 kc ks a1 a2 a3 a4 a5 a6 a7 a8 b1 b2 b3 b4 b5 b6 b7 b8 := by
  have done : ∀ x, x = x3 + 3 → Jn x a1 a2 a3 a4 a5 a6 a7 a8 b1 b2 b3 b4 b5 b6 b7 b8 := fun x ex => by
    rw [ex]; exact hJ _ _ _ _ _ _ _ _ _ _ _ _ _ _ _ _ X Y
  unfold wL_law_178
  refine br_c (fun _ => done) (fun _ => ?_)
  obtain ⟨s, hs, es⟩ := pk_andE (nI av) (m := 7) 3 (by decide)
  obtain ⟨fr, hfr, efr⟩ := pk_andE x6 (m := 255) 8 (by decide)
  rw [es]
  obtain ⟨T, M, I⟩ := X
  obtain ⟨N, J⟩ := Y
  by_cases hin : s < 7 ∧ T (s + 1) = true
  · obtain ⟨h7, ht⟩ := hin
    have hx := st_ixm_s h7
    have t0 := st_I0 I
    refine st_sizeI I hx ht ?_
    refine br_f (nI_pos (by have := st_cd16 I hx.1; omega)) (nm_e ?_)
    refine st_copy I hx ht J (fun N1 c1 c2 c3 c5 c6 c7 n1 n2 J1 => ?_)
    dsimp only
    refine st_commit J1 (fun z => absurd (z 1 (by omega) (by omega)) (by decide)) (fun s' s1 s8 hs' hall d3 d4 d5 d6 J2 => ?_)
    have hs1 : s' = 1 := by
      by_cases e : s' = 1
      · exact e
      · exact absurd (hall 1 (by omega) (by omega)) (by decide)
    subst hs1
    dsimp only
    refine br_t rfl ?_
    refine st_copy I st_ixm_m t0 J2 (fun N2 g1 g2 g3 g5 g6 g7 q1 q2 J3 => ?_)
    dsimp only
    rw [efr]
    refine st_alike I J3 hx ht st_sT_s (by omega) hv q2 (fun k hk => ?_) ?_
    · rw [q1 1 (by omega), st_sM_s, n2 k hk]
    · refine br_f (by decide) ?_
      refine st_drop (s := 0) J3 (by omega) (fun z => absurd (z (by omega)) (by decide)) (fun _ _ k3 k4 k5 k6 k8 J4 => ?_)
      dsimp only
      rw [st_T1] at J4
      exact br_t rfl (nm_e (hJ _ _ _ _ _ _ _ _ _ _ _ _ _ _ _ _ ⟨T, M, I⟩ ⟨_, J4⟩))
  · refine st_size0I I hs (fun h7 => ?_) ?_
    · cases ht : T (s + 1) with
      | false => rfl
      | true => exact absurd ⟨h7, ht⟩ hin
    · exact br_t (by decide) done
theorem st_161 (hJ : ∀ a1 a2 a3 a4 a5 a6 a7 a8 b1 b2 b3 b4 b5 b6 b7 b8, st_Kx a1 a2 a3 a4 a5 a6 → st_Ky b1 b2 b3 b4 b5 b6 → Jn (x3 + 3) a1 a2 a3 a4 a5 a6 a7 a8 b1 b2 b3 b4 b5 b6 b7 b8) (hv : av < 256) (X : st_Kx a1 a2 a3 a4 a5 a6) (Y : st_Ky b1 b2 b3 b4 b5 b6) :
    wL_law_161 post L xs Jn x3 x4 (nI av) x6 kc ks a1 a2 a3 a4 a5 a6 a7 a8 b1 b2 b3 b4 b5 b6 b7 b8 := by
  unfold wL_law_161
  refine br_c (fun _ => ?_) (fun _ => st_178 hJ hv X Y)
  obtain ⟨s, hs, es⟩ := pk_andE (nI av) (m := 7) 3 (by decide)
  rw [es]
  have X' := X
  obtain ⟨T, M, I⟩ := X
  exact st_drop I hs (fun _ => st_178 hJ hv X' Y) (fun _ _ c3 c4 c5 c6 c8 I' => st_178 hJ hv ⟨_, _, I'⟩ Y)
theorem st_144 (hJ : ∀ a1 a2 a3 a4 a5 a6 a7 a8 b1 b2 b3 b4 b5 b6 b7 b8, st_Kx a1 a2 a3 a4 a5 a6 → st_Ky b1 b2 b3 b4 b5 b6 → Jn (x3 + 3) a1 a2 a3 a4 a5 a6 a7 a8 b1 b2 b3 b4 b5 b6 b7 b8) (hv : av < 256) (X : st_Kx a1 a2 a3 a4 a5 a6) (Y : st_Ky b1 b2 b3 b4 b5 b6) :
    wL_law_144 post L xs Jn x3 x4 (nI av) x6 kc ks a1 a2 a3 a4 a5 a6 a7 a8 b1 b2 b3 b4 b5 b6 b7 b8 := by
  unfold wL_law_144
  refine br_c (fun _ => ?_) (fun _ => st_161 hJ hv X Y)
  obtain ⟨s, hs, es⟩ := pk_andE (nI av) (m := 7) 3 (by decide)
  rw [es]
  have X' := X
  obtain ⟨T, M, I⟩ := X
  exact st_restore I hs (st_161 hJ hv X' Y) (fun _ _ r c3 c5 c6 c8 I' => st_161 hJ hv ⟨_, _, I'⟩ Y)
theorem st_125 (hJ : ∀ a1 a2 a3 a4 a5 a6 a7 a8 b1 b2 b3 b4 b5 b6 b7 b8, st_Kx a1 a2 a3 a4 a5 a6 → st_Ky b1 b2 b3 b4 b5 b6 → Jn (x3 + 3) a1 a2 a3 a4 a5 a6 a7 a8 b1 b2 b3 b4 b5 b6 b7 b8) (hv : av < 256) (X : st_Kx a1 a2 a3 a4 a5 a6) (Y : st_Ky b1 b2 b3 b4 b5 b6) :
    wL_law_125 post L xs Jn x3 x4 (nI av) x6 kc ks a1 a2 a3 a4 a5 a6 a7 a8 b1 b2 b3 b4 b5 b6 b7 b8 := by
  have cm : wL_law_139 post L xs Jn x3 x4 (nI av) x6 kc ks a1 a2 a3 a4 a5 a6 a7 a8 b1 b2 b3 b4 b5 b6 b7 b8 := by
    unfold wL_law_139
    have X' := X
    obtain ⟨T, M, I⟩ := X
    exact st_commit I (fun _ => st_144 hJ hv X' Y) (fun s _ _ _ _ c3 c4 c5 c6 I' => st_144 hJ hv ⟨_, _, I'⟩ Y)
  unfold wL_law_125
  exact br_c (fun _ => cm) (fun _ => br_c (fun _ => cm) (fun _ => st_144 hJ hv X Y))
theorem st_104 (hJ : ∀ a1 a2 a3 a4 a5 a6 a7 a8 b1 b2 b3 b4 b5 b6 b7 b8, st_Kx a1 a2 a3 a4 a5 a6 → st_Ky b1 b2 b3 b4 b5 b6 → Jn (x3 + 3) a1 a2 a3 a4 a5 a6 a7 a8 b1 b2 b3 b4 b5 b6 b7 b8) (hv : av < 256) (X : st_Kx a1 a2 a3 a4 a5 a6) (Y : st_Ky b1 b2 b3 b4 b5 b6) :
    wL_law_104 post L xs Jn x3 x4 (nI av) x6 kc ks a1 a2 a3 a4 a5 a6 a7 a8 b1 b2 b3 b4 b5 b6 b7 b8 := by
  have rm : wL_law_118 post L xs Jn x3 x4 (nI av) x6 kc ks a1 a2 a3 a4 a5 a6 a7 a8 b1 b2 b3 b4 b5 b6 b7 b8 := by
    unfold wL_law_118
    have X' := X
    obtain ⟨T, M, I⟩ := X
    exact st_remove I hv (fun _ => st_125 hJ hv X' Y) (fun _ r c1 c2 c3 c5 c6 c7 I' => st_125 hJ hv ⟨_, _, I'⟩ Y)
  unfold wL_law_104
  exact br_c (fun _ => rm) (fun _ => br_c (fun _ => rm) (fun _ => st_125 hJ hv X Y))
theorem st_100 {z0 : Int32} (hJ : ∀ a1 a2 a3 a4 a5 a6 a7 a8 b1 b2 b3 b4 b5 b6 b7 b8, st_Kx a1 a2 a3 a4 a5 a6 → st_Ky b1 b2 b3 b4 b5 b6 → Jn (x3 + 3) a1 a2 a3 a4 a5 a6 a7 a8 b1 b2 b3 b4 b5 b6 b7 b8) (hv : av < 256) (X : st_Kx a1 a2 a3 a4 a5 a6) (Y : st_Ky b1 b2 b3 b4 b5 b6) :
    wL_law_100 post L xs Jn x3 x4 (nI av) x6 z0 (nI av) kc ks a1 a2 a3 a4 a5 a6 a7 a8 b1 b2 b3 b4 b5 b6 b7 b8 := by
  unfold wL_law_100
  have X' := X
  obtain ⟨T, M, I⟩ := X
  exact st_put I hv (fun _ _ => st_104 hJ hv X' Y) (fun _ r c1 c2 c3 c5 c6 c7 I' => st_104 hJ hv ⟨_, _, I'⟩ Y)
theorem st_65 {i : Nat} (hi : i + 3 ≤ L) (hL : L ≤ 260) (hJ : ∀ a1 a2 a3 a4 a5 a6 a7 a8 b1 b2 b3 b4 b5 b6 b7 b8, st_Kx a1 a2 a3 a4 a5 a6 → st_Ky b1 b2 b3 b4 b5 b6 → Jn (nI i + 3) a1 a2 a3 a4 a5 a6 a7 a8 b1 b2 b3 b4 b5 b6 b7 b8) (hv : av < 256) (X : st_Kx a1 a2 a3 a4 a5 a6) (Y : st_Ky b1 b2 b3 b4 b5 b6) :
    wL_law_65 post L xs Jn (nI i) x4 (nI av) kc ks a1 a2 a3 a4 a5 a6 a7 a8 b1 b2 b3 b4 b5 b6 b7 b8 := by
  unfold wL_law_65
  refine ⟨?_, nm_e (br_c (fun _ => st_104 hJ hv X Y) (fun _ => br_c (fun _ => st_100 hJ hv X Y) (fun _ => st_100 hJ hv X Y)))⟩
  rw [show nI i + 2 = nI (i + 2) from nI_add i 2]
  exact vp_in_nI (by omega) (by omega)
end LAW
theorem st_df_self (f : Nat → Option Int32) : st_df f f 256 = 0 := st_sm_zero (fun _ _ => if_pos rfl)
theorem st_18 {L : Nat} {xs : Nat → Int32} {kc ks : Nat} (hL : L ≤ 260) : ∀ f i a1 a2 a3 a4 a5 a6 a7 a8 b1 b2 b3 b4 b5 b6 b7 b8, i ≤ 260 → 263 - i < f → st_Kx a1 a2 a3 a4 a5 a6 → st_Ky b1 b2 b3 b4 b5 b6 →
    wL_law_18 (fun r => r = 1) L xs kc ks f (nI i) a1 a2 a3 a4 a5 a6 a7 a8 b1 b2 b3 b4 b5 b6 b7 b8 := by
  intro f
  induction f with
  | zero => intro i a1 a2 a3 a4 a5 a6 a7 a8 b1 b2 b3 b4 b5 b6 b7 b8 _ z; omega
  | succ f ih =>
    intro i a1 a2 a3 a4 a5 a6 a7 a8 b1 b2 b3 b4 b5 b6 b7 b8 hi hf X Y
    refine pk_lt L (i + 3) (fun z => ?_) (fun z => ?_) rfl (nI_add i 3)
    · obtain ⟨T, M, I⟩ := X
      obtain ⟨N, J⟩ := Y
      have t0 := st_I0 I
      refine st_copy I st_ixm_m t0 J (fun N' c1 c2 c3 c5 c6 c7 n1 n2 J' => ?_)
      have u0 := st_I0 J'
      dsimp only
      refine st_sizeI I st_ixm_m t0 ?_
      refine st_sizeI J' st_ixm_m u0 ?_
      refine br_t (by rw [st_cd_congr n2]) ?_
      refine st_nextI (a := 0) I st_ixm_m t0 (by omega) (fun r hr => ?_)
      refine st_nextI (a := 0) J' st_ixm_m u0 (by omega) (fun r' hr' => ?_)
      refine br_t (by rw [st_nx_eq hr hr' (fun k hk => by rw [n2 k hk])]) ?_
      refine st_chI I st_ixm_m st_ixm_m t0 t0 ?_
      exact br_t (by rw [st_df_self]; rfl) rfl
    · have hJ : ∀ a1 a2 a3 a4 a5 a6 a7 a8 b1 b2 b3 b4 b5 b6 b7 b8, st_Kx a1 a2 a3 a4 a5 a6 → st_Ky b1 b2 b3 b4 b5 b6 → wL_law_18 (fun r => r = 1) L xs kc ks f (nI i + 3) a1 a2 a3 a4 a5 a6 a7 a8 b1 b2 b3 b4 b5 b6 b7 b8 := by
        intro a1 a2 a3 a4 a5 a6 a7 a8 b1 b2 b3 b4 b5 b6 b7 b8 X' Y'
        rw [show nI i + 3 = nI (i + 3) from nI_add i 3]
        exact ih (i + 3) _ _ _ _ _ _ _ _ _ _ _ _ _ _ _ _ (by omega) (by omega) X' Y'
      have v1 : vp_in (nI i + 1) L := by rw [nI_1]; exact vp_in_nI (by omega) (by omega)
      refine ⟨vp_in_nI (by omega) (by omega), nm_e ⟨v1, br_c (fun _ => ⟨v1, ?_⟩) (fun _ => ⟨v1, ?_⟩)⟩⟩
      · obtain ⟨v, hv, ev⟩ := pk_andE (xs (nI i + 1).toNatClampNeg) (m := 7) 3 (by decide)
        rw [ev]
        exact st_65 z hL hJ (by omega) X Y
      · obtain ⟨v, hv, ev⟩ := pk_andE (xs (nI i + 1).toNatClampNeg) (m := 255) 8 (by decide)
        rw [ev]
        exact st_65 z hL hJ (by omega) X Y
theorem i_vc (xs : Nat → Int32) (L : Nat) (hL : L ≤ 260) : wpL_law (fun r => r = 1) L xs := by
  refine ⟨8, 2444, by omega, by omega, ?_⟩
  refine st_init (fun a5 I => ?_)
  dsimp only
  refine ⟨by omega, by omega, 8, 2444, by omega, by omega, ?_⟩
  refine st_init (fun b5 J => ?_)
  exact ⟨264, st_18 hL 264 0 _ _ _ _ _ _ _ _ _ _ _ _ _ _ _ _ (by omega) (by omega) ⟨_, _, I⟩ ⟨_, J⟩⟩
end
