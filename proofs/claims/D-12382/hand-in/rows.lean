section
/-- a fold: its score, and for each place of its stretch (place, partner); partner = place where it is free -/
abbrev qf_F : Type := Int × List (Nat × Nat)
/-- the weights: a pair's own score, stacked, not stacked, two or more within -/
abbrev qf_W : Type := (Nat → Nat → Int) × Int × Int × Int
def qf_fl {α : Type} (g : Nat → List α) (a : Nat) : Nat → List α
  | 0 => []
  | n + 1 => qf_fl g a n ++ g (a + n)
def qf_fr (a : Nat) : Nat → List (Nat × Nat)
  | 0 => []
  | n + 1 => qf_fr a n ++ [(a + n, a + n)]
def qf_pr (X Y : List qf_F) : List qf_F := X.flatMap (fun x => Y.map (fun y => (x.1 + y.1, x.2 ++ y.2)))
def qf_sm (X Y : List Int) : List Int := X.flatMap (fun x => Y.map (fun y => x + y))
def qf_sc (X : List qf_F) : List Int := X.map (fun x => x.1)
def qf_ft (c : Nat × Nat → Bool) (X : List qf_F) : List qf_F := X.filter (fun f => f.2.all c)
/-- one pair directly within (i, j) -/
def qf_ex (w : qf_W) (i j k l : Nat) : Int := if k = i + 1 ∧ l + 1 = j then w.2.1 else - w.2.2.1
def qf_in (w : qf_W) (i j k l : Nat) (x : qf_F) : qf_F := (w.1 i j + qf_ex w i j k l + x.1, (i, j) :: ((qf_fr (i + 1) (k - (i + 1)) ++ (x.2 ++ qf_fr (l + 1) (j - (l + 1)))) ++ [(j, i)]))
def qf_mu (w : qf_W) (i j : Nat) (x : qf_F) : qf_F := (w.1 i j - w.2.2.2 + x.1, (i, j) :: (x.2 ++ [(j, i)]))
def qf_0 (w : qf_W) (i j : Nat) : qf_F := (w.1 i j, (i, j) :: (qf_fr (i + 1) (j - (i + 1)) ++ [(j, i)]))
def qf_fi (i : Nat) (x : qf_F) : qf_F := (x.1, (i, i) :: x.2)
/-- all folds: t = 3: places i .. j, these two a pair; else places i .. j - 1, at least t pairs at the top -/
def qf_U (w : qf_W) (t i j : Nat) : List qf_F :=
  if _ht : t = 3 then
    if _h : i < j then
      [qf_0 w i j] ++ qf_fl (fun k => qf_fl (fun l => if _g : i < k ∧ k < l ∧ l < j then (qf_U w 3 k l).map (qf_in w i j k l) else []) (k + 1) (j - (k + 1))) (i + 1) (j - (i + 1)) ++ (qf_U w 2 (i + 1) j).map (qf_mu w i j)
    else []
  else
    if _h : i < j then
      (qf_U w t (i + 1) j).map (qf_fi i) ++ qf_fl (fun k => if _g : i < k ∧ k < j then qf_pr (qf_U w 3 i k) (qf_U w (t - 1) (k + 1) j) else []) (i + 1) (j - (i + 1))
    else if t = 0 then [(0, [])] else []
termination_by 2 * (j - i) + t / 3
decreasing_by all_goals omega

theorem qf_U_A (w : qf_W) {t i j : Nat} (ht : t ≠ 3) (h : i < j) : qf_U w t i j = (qf_U w t (i + 1) j).map (qf_fi i) ++ qf_fl (fun k => if i < k ∧ k < j then qf_pr (qf_U w 3 i k) (qf_U w (t - 1) (k + 1) j) else []) (i + 1) (j - (i + 1)) := by
  rw [qf_U, dif_neg ht, dif_pos h]
  rfl
theorem qf_U_A0 (w : qf_W) {t i j : Nat} (ht : t ≠ 3) (h : ¬ i < j) : qf_U w t i j = if t = 0 then [(0, [])] else [] := by
  rw [qf_U, dif_neg ht, dif_neg h]
theorem qf_U_P (w : qf_W) {i j : Nat} (h : i < j) : qf_U w 3 i j = [qf_0 w i j] ++ qf_fl (fun k => qf_fl (fun l => if i < k ∧ k < l ∧ l < j then (qf_U w 3 k l).map (qf_in w i j k l) else []) (k + 1) (j - (k + 1))) (i + 1) (j - (i + 1)) ++ (qf_U w 2 (i + 1) j).map (qf_mu w i j) := by
  rw [qf_U, dif_pos rfl, dif_pos h]
  rfl
theorem qf_U_P0 (w : qf_W) {i j : Nat} (h : ¬ i < j) : qf_U w 3 i j = [] := by
  rw [qf_U, dif_pos rfl, dif_neg h]

theorem qf_fl_filter {α : Type} (p : α → Bool) (g : Nat → List α) (a n : Nat) : (qf_fl g a n).filter p = qf_fl (fun k => (g k).filter p) a n := by
  induction n with
  | zero => rfl
  | succ n ih => simp only [qf_fl, List.filter_append, ih]
theorem qf_fl_map {α β : Type} (f : α → β) (g : Nat → List α) (a n : Nat) : (qf_fl g a n).map f = qf_fl (fun k => (g k).map f) a n := by
  induction n with
  | zero => rfl
  | succ n ih => simp only [qf_fl, List.map_append, ih]
theorem qf_fl_congr {α : Type} {g g' : Nat → List α} {a n : Nat} (h : ∀ k, k < n → g (a + k) = g' (a + k)) : qf_fl g a n = qf_fl g' a n := by
  induction n with
  | zero => rfl
  | succ n ih =>
    simp only [qf_fl]
    rw [ih (fun k hk => h k (by omega)), h n (by omega)]
theorem qf_fl_nil {α : Type} (a n : Nat) : qf_fl (fun _ => ([] : List α)) a n = [] := by
  induction n with
  | zero => rfl
  | succ n ih => simp only [qf_fl, ih, List.append_nil]
theorem qf_fl_mem {α : Type} {g : Nat → List α} {a n : Nat} {x : α} : x ∈ qf_fl g a n ↔ ∃ k, k < n ∧ x ∈ g (a + k) := by
  induction n with
  | zero => simp [qf_fl]
  | succ n ih =>
    simp only [qf_fl, List.mem_append, ih]
    constructor
    · rintro (⟨k, hk, hx⟩ | hx)
      · exact ⟨k, by omega, hx⟩
      · exact ⟨n, by omega, hx⟩
    · rintro ⟨k, hk, hx⟩
      by_cases e : k = n
      · right
        rw [← e]
        exact hx
      · left
        exact ⟨k, by omega, hx⟩
theorem qf_fl_sub {α : Type} (g : Nat → List α) (a : Nat) {m n : Nat} (h : m ≤ n) : (qf_fl g a m).Sublist (qf_fl g a n) := by
  induction n with
  | zero =>
    have e : m = 0 := by omega
    rw [e]
    exact List.Sublist.refl _
  | succ n ih =>
    by_cases e : m = n + 1
    · rw [e]
      exact List.Sublist.refl _
    · exact (ih (by omega)).trans (List.sublist_append_left _ _)

theorem qf_pr_cons (x : qf_F) (X Y : List qf_F) : qf_pr (x :: X) Y = Y.map (fun y => (x.1 + y.1, x.2 ++ y.2)) ++ qf_pr X Y := List.flatMap_cons
theorem qf_sm_cons (x : Int) (X Y : List Int) : qf_sm (x :: X) Y = Y.map (fun y => x + y) ++ qf_sm X Y := List.flatMap_cons
theorem qf_ft_map (c : Nat × Nat → Bool) (X : List qf_F) (g : qf_F → qf_F) (b : Bool) (h : ∀ x, (g x).2.all c = (b && x.2.all c)) : qf_ft c (X.map g) = if b = true then (qf_ft c X).map g else [] := by
  unfold qf_ft
  rw [List.filter_map]
  cases b with
  | true =>
    rw [if_pos rfl]
    congr 1
    apply List.filter_congr
    intro x _
    show (g x).2.all c = _
    rw [h x, Bool.true_and]
  | false =>
    rw [if_neg (by decide), List.map_eq_nil_iff, List.filter_eq_nil_iff]
    intro x _
    show ¬ (g x).2.all c = true
    rw [h x, Bool.false_and]
    decide
theorem qf_ft_cons (c : Nat × Nat → Bool) (x : qf_F) (X : List qf_F) : qf_ft c (x :: X) = if x.2.all c = true then x :: qf_ft c X else qf_ft c X := by
  unfold qf_ft
  by_cases h : x.2.all c = true
  · rw [if_pos h]
    exact List.filter_cons_of_pos (p := fun f : qf_F => f.2.all c) h
  · rw [if_neg h]
    exact List.filter_cons_of_neg (p := fun f : qf_F => f.2.all c) h
theorem qf_ft_app (c : Nat × Nat → Bool) (X Y : List qf_F) : qf_ft c (X ++ Y) = qf_ft c X ++ qf_ft c Y := List.filter_append X Y
theorem qf_ft_fl (c : Nat × Nat → Bool) (g : Nat → List qf_F) (a n : Nat) : qf_ft c (qf_fl g a n) = qf_fl (fun k => qf_ft c (g k)) a n := qf_fl_filter _ g a n
theorem qf_sc_app (X Y : List qf_F) : qf_sc (X ++ Y) = qf_sc X ++ qf_sc Y := List.map_append
theorem qf_sc_fl (g : Nat → List qf_F) (a n : Nat) : qf_sc (qf_fl g a n) = qf_fl (fun k => qf_sc (g k)) a n := qf_fl_map _ g a n
theorem qf_sc_pr (X Y : List qf_F) : qf_sc (qf_pr X Y) = qf_sm (qf_sc X) (qf_sc Y) := by
  induction X with
  | nil => rfl
  | cons x X ih =>
    rw [qf_pr_cons, qf_sc_app, ih]
    show _ = qf_sm (x.1 :: qf_sc X) (qf_sc Y)
    rw [qf_sm_cons]
    congr 1
    unfold qf_sc
    rw [List.map_map, List.map_map]
    rfl
theorem qf_ft_pr (c : Nat × Nat → Bool) (X Y : List qf_F) : qf_ft c (qf_pr X Y) = qf_pr (qf_ft c X) (qf_ft c Y) := by
  induction X with
  | nil => rfl
  | cons x X ih =>
    rw [qf_pr_cons, qf_ft_app, ih, qf_ft_map c Y _ (x.2.all c) (fun y => by rw [List.all_append]), qf_ft_cons]
    by_cases h : x.2.all c = true
    · rw [if_pos h, if_pos h, qf_pr_cons]
    · rw [if_neg h, if_neg h, List.nil_append]

/-- the scores of the folds that meet c -/
def qf_S (w : qf_W) (c : Nat × Nat → Bool) (t i j : Nat) : List Int := qf_sc (qf_ft c (qf_U w t i j))
theorem qf_sc_if {b : Prop} [Decidable b] (X : List qf_F) : qf_sc (if b then X else []) = if b then qf_sc X else [] := by
  by_cases h : b
  · rw [if_pos h, if_pos h]
  · rw [if_neg h, if_neg h]
    rfl
theorem qf_ft_if {b : Prop} [Decidable b] (c : Nat × Nat → Bool) (X : List qf_F) : qf_ft c (if b then X else []) = if b then qf_ft c X else [] := by
  by_cases h : b
  · rw [if_pos h, if_pos h]
  · rw [if_neg h, if_neg h]
    rfl
theorem qf_S_A0 (w : qf_W) (c : Nat × Nat → Bool) {t i j : Nat} (ht : t ≠ 3) (h : ¬ i < j) : qf_S w c t i j = if t = 0 then [0] else [] := by
  unfold qf_S
  rw [qf_U_A0 w ht h, qf_ft_if, qf_sc_if]
  rfl
theorem qf_S_P0 (w : qf_W) (c : Nat × Nat → Bool) {i j : Nat} (h : ¬ i < j) : qf_S w c 3 i j = [] := by
  unfold qf_S
  rw [qf_U_P0 w h]
  rfl
theorem qf_S_A (w : qf_W) (c : Nat × Nat → Bool) {t i j : Nat} (ht : t ≠ 3) (h : i < j) : qf_S w c t i j = (if c (i, i) = true then qf_S w c t (i + 1) j else []) ++ qf_fl (fun k => if i < k ∧ k < j then qf_sm (qf_S w c 3 i k) (qf_S w c (t - 1) (k + 1) j) else []) (i + 1) (j - (i + 1)) := by
  unfold qf_S
  rw [qf_U_A w ht h, qf_ft_app, qf_sc_app, qf_ft_map c _ (qf_fi i) (c (i, i)) (fun x => rfl), qf_sc_if, qf_ft_fl, qf_sc_fl]
  congr 1
  · congr 1
    unfold qf_sc
    rw [List.map_map]
    rfl
  · apply qf_fl_congr
    intro k _
    show qf_sc (qf_ft c (if _ then _ else _)) = _
    rw [qf_ft_if, qf_sc_if, qf_ft_pr, qf_sc_pr]
def qf_fa (c : Nat × Nat → Bool) (a b : Nat) : Bool := (qf_fr a (b - a)).all c
theorem qf_S_P (w : qf_W) (c : Nat × Nat → Bool) {i j : Nat} (h : i < j) : qf_S w c 3 i j = if (c (i, j) && c (j, i)) = true then (if qf_fa c (i + 1) j = true then [w.1 i j] else []) ++ qf_fl (fun k => qf_fl (fun l => if i < k ∧ k < l ∧ l < j then (if (qf_fa c (i + 1) k && qf_fa c (l + 1) j) = true then (qf_S w c 3 k l).map (fun x => w.1 i j + qf_ex w i j k l + x) else []) else []) (k + 1) (j - (k + 1))) (i + 1) (j - (i + 1)) ++ (qf_S w c 2 (i + 1) j).map (fun x => w.1 i j - w.2.2.2 + x) else [] := by
  unfold qf_S
  have e0 : ∀ e : List (Nat × Nat), ((i, j) :: (e ++ [(j, i)])).all c = ((c (i, j) && c (j, i)) && e.all c) := by
    intro e
    rw [List.all_cons, List.all_append, List.all_cons, List.all_nil, Bool.and_true, Bool.and_comm (e.all c), Bool.and_assoc]
  rw [qf_U_P w h, qf_ft_app, qf_ft_app, qf_sc_app, qf_sc_app, qf_ft_map c _ (qf_mu w i j) (c (i, j) && c (j, i)) (fun x => e0 x.2), qf_ft_fl, qf_sc_fl]
  have e1 : ∀ k l, k - (i + 1) = k - (i + 1) → (qf_ft c ((qf_U w 3 k l).map (qf_in w i j k l))) = if ((c (i, j) && c (j, i)) && (qf_fa c (i + 1) k && qf_fa c (l + 1) j)) = true then (qf_ft c (qf_U w 3 k l)).map (qf_in w i j k l) else [] := by
    intro k l _
    refine qf_ft_map c _ _ _ (fun x => ?_)
    show ((i, j) :: ((qf_fr (i + 1) (k - (i + 1)) ++ (x.2 ++ qf_fr (l + 1) (j - (l + 1)))) ++ [(j, i)])).all c = _
    rw [e0, List.all_append, List.all_append]
    unfold qf_fa
    generalize (c (i, j) && c (j, i)) = b1
    generalize (qf_fr (i + 1) (k - (i + 1))).all c = b2
    generalize (qf_fr (l + 1) (j - (l + 1))).all c = b3
    generalize x.2.all c = b4
    revert b1 b2 b3 b4
    decide
  have e2 : qf_ft c [qf_0 w i j] = if ((c (i, j) && c (j, i)) && qf_fa c (i + 1) j) = true then [qf_0 w i j] else [] := by
    rw [qf_ft_cons]
    show (if ((i, j) :: (qf_fr (i + 1) (j - (i + 1)) ++ [(j, i)])).all c = true then _ else _) = _
    rw [e0]
    rfl
  rw [e2]
  by_cases hb : (c (i, j) && c (j, i)) = true
  · rw [if_pos hb, if_pos hb, hb]
    congr 1
    · congr 1
      · rw [Bool.true_and, qf_sc_if]
        rfl
      · apply qf_fl_congr
        intro k _
        show qf_sc (qf_ft c (qf_fl _ _ _)) = _
        rw [qf_ft_fl, qf_sc_fl]
        apply qf_fl_congr
        intro l _
        show qf_sc (qf_ft c (if _ then _ else _)) = _
        rw [qf_ft_if, qf_sc_if, e1 _ _ rfl, hb, Bool.true_and, qf_sc_if]
        congr 1
        congr 1
        unfold qf_sc
        rw [List.map_map, List.map_map]
        rfl
    · unfold qf_sc
      rw [List.map_map, List.map_map]
      rfl
  · rw [if_neg hb, if_neg hb]
    have hf : (c (i, j) && c (j, i)) = false := by
      revert hb
      generalize (c (i, j) && c (j, i)) = b1
      revert b1
      decide
    rw [hf, Bool.false_and, if_neg (by decide)]
    have e3 : qf_fl (fun k => qf_sc (qf_ft c (qf_fl (fun l => if i < k ∧ k < l ∧ l < j then (qf_U w 3 k l).map (qf_in w i j k l) else []) (k + 1) (j - (k + 1))))) (i + 1) (j - (i + 1)) = [] := by
      rw [← qf_fl_nil (α := Int) (i + 1) (j - (i + 1))]
      apply qf_fl_congr
      intro k _
      show qf_sc (qf_ft c (qf_fl _ _ _)) = []
      rw [qf_ft_fl, qf_sc_fl, ← qf_fl_nil (α := Int) (i + 1 + k + 1) (j - (i + 1 + k + 1))]
      apply qf_fl_congr
      intro l _
      show qf_sc (qf_ft c (if _ then _ else _)) = []
      rw [qf_ft_if, qf_sc_if, e1 _ _ rfl, hf, Bool.false_and, if_neg (show ¬ false = true by decide)]
      exact ite_self _
    rw [e3]
    rfl
end
section
/-! bounds of lengths and of scores -/
def qf_sum (b : Nat → Nat) : Nat → Nat
  | 0 => 0
  | n + 1 => qf_sum b n + b n
def qf_bA (d : Nat) : Nat := [1, 1, 3, 7, 21, 61, 187, 575, 1801, 5689, 18163, 58455].getD d 0
def qf_bP (d : Nat) : Nat := [0, 2, 2, 6, 14, 38, 102, 290, 842, 2522, 7706, 23998].getD d 0
theorem qf_tA : ∀ d, d < 11 → qf_bA d + qf_sum (fun m => qf_bP (m + 1) * qf_bA (d - 1 - m)) d ≤ qf_bA (d + 1) := by decide +kernel
theorem qf_tP : ∀ d, d < 11 → 1 + qf_sum (fun m => qf_sum (fun m' => qf_bP (m' + 1)) (d - 1 - m)) d + qf_bA d ≤ qf_bP (d + 1) := by decide +kernel
theorem qf_tA2 : ∀ d, d < 12 → qf_bA d < 2 ^ 30 := by decide +kernel
theorem qf_tP2 : ∀ d, d < 12 → qf_bP d < 2 ^ 30 := by decide +kernel
theorem qf_len_fl {α : Type} {g : Nat → List α} {b : Nat → Nat} {a n : Nat} (h : ∀ m, m < n → (g (a + m)).length ≤ b m) : (qf_fl g a n).length ≤ qf_sum b n := by
  induction n with
  | zero => exact Nat.le_refl 0
  | succ n ih =>
    simp only [qf_fl, qf_sum, List.length_append]
    have h1 := ih (fun m hm => h m (by omega))
    have h2 := h n (by omega)
    omega
theorem qf_pr_len (X Y : List qf_F) : (qf_pr X Y).length = X.length * Y.length := by
  induction X with
  | nil => simp [qf_pr]
  | cons x X ih =>
    rw [qf_pr_cons, List.length_append, List.length_map, ih, List.length_cons, Nat.succ_mul]
    omega
theorem qf_len (w : qf_W) : ∀ d i j, j - i = d → d ≤ 11 → (qf_U w 3 i j).length ≤ qf_bP d ∧ ∀ t, t ≤ 2 → (qf_U w t i j).length ≤ qf_bA d := by
  intro d
  induction d using Nat.strongRecOn with
  | ind d ih =>
    intro i j hd h11
    by_cases h : i < j
    · obtain ⟨e, he⟩ : ∃ e, d = e + 1 := ⟨d - 1, by omega⟩
      subst he
      have ej : j - (i + 1) = e := by omega
      constructor
      · rw [qf_U_P w h, List.length_append, List.length_append, List.length_singleton, List.length_map, ej]
        have h1 := (ih e (by omega) (i + 1) j ej (by omega)).2 2 (by omega)
        have h2 : (qf_fl (fun k => qf_fl (fun l => if i < k ∧ k < l ∧ l < j then (qf_U w 3 k l).map (qf_in w i j k l) else []) (k + 1) (j - (k + 1))) (i + 1) e).length ≤ qf_sum (fun m => qf_sum (fun m' => qf_bP (m' + 1)) (e - 1 - m)) e := by
          apply qf_len_fl
          intro m hm
          show (qf_fl (fun l => if i < i + 1 + m ∧ i + 1 + m < l ∧ l < j then (qf_U w 3 (i + 1 + m) l).map (qf_in w i j (i + 1 + m) l) else []) (i + 1 + m + 1) (j - (i + 1 + m + 1))).length ≤ qf_sum (fun m' => qf_bP (m' + 1)) (e - 1 - m)
          rw [show j - (i + 1 + m + 1) = e - 1 - m by omega]
          apply qf_len_fl
          intro m' hm'
          show (if i < i + 1 + m ∧ i + 1 + m < i + 1 + m + 1 + m' ∧ i + 1 + m + 1 + m' < j then (qf_U w 3 (i + 1 + m) (i + 1 + m + 1 + m')).map (qf_in w i j (i + 1 + m) (i + 1 + m + 1 + m')) else []).length ≤ qf_bP (m' + 1)
          rw [if_pos ⟨by omega, by omega, by omega⟩, List.length_map]
          exact (ih (m' + 1) (by omega) _ _ (by omega) (by omega)).1
        have h3 := qf_tP e (by omega)
        omega
      · intro t ht
        rw [qf_U_A w (by omega) h, List.length_append, List.length_map, ej]
        have h1 := (ih e (by omega) (i + 1) j ej (by omega)).2 t ht
        have h2 : (qf_fl (fun k => if i < k ∧ k < j then qf_pr (qf_U w 3 i k) (qf_U w (t - 1) (k + 1) j) else []) (i + 1) e).length ≤ qf_sum (fun m => qf_bP (m + 1) * qf_bA (e - 1 - m)) e := by
          apply qf_len_fl
          intro m hm
          show (if i < i + 1 + m ∧ i + 1 + m < j then qf_pr (qf_U w 3 i (i + 1 + m)) (qf_U w (t - 1) (i + 1 + m + 1) j) else []).length ≤ qf_bP (m + 1) * qf_bA (e - 1 - m)
          rw [if_pos ⟨by omega, by omega⟩, qf_pr_len]
          exact Nat.mul_le_mul (ih (m + 1) (by omega) _ _ (by omega) (by omega)).1 ((ih (e - 1 - m) (by omega) _ _ (by omega) (by omega)).2 (t - 1) (by omega))
        have h3 := qf_tA e (by omega)
        omega
    · have e0 : d = 0 := by omega
      subst e0
      constructor
      · rw [qf_U_P0 w h]
        exact Nat.zero_le _
      · intro t ht
        rw [qf_U_A0 w (by omega) h]
        by_cases t0 : t = 0
        · rw [if_pos t0]
          decide
        · rw [if_neg t0]
          exact Nat.zero_le _
def qf_wb (w : qf_W) : Prop := (∀ i j, 0 ≤ w.1 i j ∧ w.1 i j ≤ 20) ∧ (0 ≤ w.2.1 ∧ w.2.1 ≤ 20) ∧ (0 ≤ w.2.2.1 ∧ w.2.2.1 ≤ 20) ∧ (0 ≤ w.2.2.2 ∧ w.2.2.2 ≤ 20)
theorem qf_pr_mem {X Y : List qf_F} {z : qf_F} : z ∈ qf_pr X Y ↔ ∃ x, x ∈ X ∧ ∃ y, y ∈ Y ∧ z = (x.1 + y.1, x.2 ++ y.2) := by
  unfold qf_pr
  rw [List.mem_flatMap]
  constructor
  · rintro ⟨x, hx, hz⟩
    obtain ⟨y, hy, e⟩ := List.mem_map.mp hz
    exact ⟨x, hx, y, hy, e.symm⟩
  · rintro ⟨x, hx, y, hy, e⟩
    exact ⟨x, hx, List.mem_map.mpr ⟨y, hy, e.symm⟩⟩
/-- what a member of U is: one level -/
theorem qf_memP (w : qf_W) {i j : Nat} {z : qf_F} (hz : z ∈ qf_U w 3 i j) : i < j ∧ (z = qf_0 w i j ∨ (∃ k l x, i < k ∧ k < l ∧ l < j ∧ x ∈ qf_U w 3 k l ∧ z = qf_in w i j k l x) ∨ (∃ x, x ∈ qf_U w 2 (i + 1) j ∧ z = qf_mu w i j x)) := by
  by_cases h : i < j
  · refine ⟨h, ?_⟩
    rw [qf_U_P w h, List.mem_append, List.mem_append] at hz
    rcases hz with (hz | hz) | hz
    · exact Or.inl (List.mem_singleton.mp hz)
    · right
      left
      obtain ⟨m, hm, hz⟩ := qf_fl_mem.mp hz
      obtain ⟨m', hm', hz⟩ := qf_fl_mem.mp hz
      by_cases g : i < i + 1 + m ∧ i + 1 + m < i + 1 + m + 1 + m' ∧ i + 1 + m + 1 + m' < j
      · rw [if_pos g] at hz
        obtain ⟨x, hx, e⟩ := List.mem_map.mp hz
        exact ⟨_, _, x, g.1, g.2.1, g.2.2, hx, e.symm⟩
      · rw [if_neg g] at hz
        exact absurd hz List.not_mem_nil
    · right
      right
      obtain ⟨x, hx, e⟩ := List.mem_map.mp hz
      exact ⟨x, hx, e.symm⟩
  · rw [qf_U_P0 w h] at hz
    exact absurd hz List.not_mem_nil
theorem qf_memA (w : qf_W) {t i j : Nat} {z : qf_F} (ht : t ≠ 3) (hz : z ∈ qf_U w t i j) : (¬ i < j ∧ z = (0, [])) ∨ (i < j ∧ ((∃ x, x ∈ qf_U w t (i + 1) j ∧ z = qf_fi i x) ∨ (∃ k x y, i < k ∧ k < j ∧ x ∈ qf_U w 3 i k ∧ y ∈ qf_U w (t - 1) (k + 1) j ∧ z = (x.1 + y.1, x.2 ++ y.2)))) := by
  by_cases h : i < j
  · right
    refine ⟨h, ?_⟩
    rw [qf_U_A w ht h, List.mem_append] at hz
    rcases hz with hz | hz
    · left
      obtain ⟨x, hx, e⟩ := List.mem_map.mp hz
      exact ⟨x, hx, e.symm⟩
    · right
      obtain ⟨m, hm, hz⟩ := qf_fl_mem.mp hz
      by_cases g : i < i + 1 + m ∧ i + 1 + m < j
      · rw [if_pos g] at hz
        obtain ⟨x, hx, y, hy, e⟩ := qf_pr_mem.mp hz
        exact ⟨_, x, y, g.1, g.2, hx, hy, e⟩
      · rw [if_neg g] at hz
        exact absurd hz List.not_mem_nil
  · left
    refine ⟨h, ?_⟩
    rw [qf_U_A0 w ht h] at hz
    by_cases t0 : t = 0
    · rw [if_pos t0] at hz
      exact List.mem_singleton.mp hz
    · rw [if_neg t0] at hz
      exact absurd hz List.not_mem_nil
theorem qf_ex_bd {w : qf_W} (hw : qf_wb w) (i j k l : Nat) : -20 ≤ qf_ex w i j k l ∧ qf_ex w i j k l ≤ 20 := by
  obtain ⟨_, h1, h2, _⟩ := hw
  unfold qf_ex
  by_cases h : k = i + 1 ∧ l + 1 = j
  · rw [if_pos h]
    omega
  · rw [if_neg h]
    omega
theorem qf_scb {w : qf_W} (hw : qf_wb w) : ∀ d i j : Nat, j - i = d → (∀ x, x ∈ qf_U w 3 i j → -20 * (d : Int) ≤ x.1 ∧ x.1 ≤ 40 * (d : Int)) ∧ (∀ t x, t ≤ 2 → x ∈ qf_U w t i j → -20 * (d : Int) ≤ x.1 ∧ x.1 ≤ 40 * (d : Int)) := by
  intro d
  induction d using Nat.strongRecOn with
  | ind d ih =>
    intro i j hd
    have ho := hw.1 i j
    have hm := hw.2.2.2
    constructor
    · intro z hz
      obtain ⟨h, e | ⟨k, l, x, h1, h2, h3, hx, e⟩ | ⟨x, hx, e⟩⟩ := qf_memP w hz
      · subst e
        show -20 * (d : Int) ≤ w.1 i j ∧ w.1 i j ≤ 40 * (d : Int)
        omega
      · subst e
        show -20 * (d : Int) ≤ w.1 i j + qf_ex w i j k l + x.1 ∧ w.1 i j + qf_ex w i j k l + x.1 ≤ 40 * (d : Int)
        have h4 := (ih (l - k) (by omega) k l rfl).1 x hx
        have h5 := qf_ex_bd hw i j k l
        omega
      · subst e
        show -20 * (d : Int) ≤ w.1 i j - w.2.2.2 + x.1 ∧ w.1 i j - w.2.2.2 + x.1 ≤ 40 * (d : Int)
        have h4 := (ih (j - (i + 1)) (by omega) (i + 1) j rfl).2 2 x (by omega) hx
        omega
    · intro t z ht hz
      rcases qf_memA w (by omega) hz with ⟨h, e⟩ | ⟨h, ⟨x, hx, e⟩ | ⟨k, x, y, h1, h2, hx, hy, e⟩⟩
      · subst e
        show -20 * (d : Int) ≤ 0 ∧ 0 ≤ 40 * (d : Int)
        omega
      · subst e
        show -20 * (d : Int) ≤ x.1 ∧ x.1 ≤ 40 * (d : Int)
        have h4 := (ih (j - (i + 1)) (by omega) (i + 1) j rfl).2 t x ht hx
        omega
      · subst e
        show -20 * (d : Int) ≤ x.1 + y.1 ∧ x.1 + y.1 ≤ 40 * (d : Int)
        have h4 := (ih (k - i) (by omega) i k rfl).1 x hx
        have h5 := (ih (j - (k + 1)) (by omega) (k + 1) j rfl).2 (t - 1) y (by omega) hy
        omega
def qf_bd (L : List Int) : Prop := L.length < 2 ^ 30 ∧ ∀ x, x ∈ L → -1000 < x ∧ x < 1000
theorem qf_bd_sub {L M : List Int} (h : L.Sublist M) (hM : qf_bd M) : qf_bd L := ⟨Nat.lt_of_le_of_lt h.length_le hM.1, fun x hx => hM.2 x (h.subset hx)⟩
theorem qf_S_mem {w : qf_W} {c : Nat × Nat → Bool} {t i j : Nat} {s : Int} : s ∈ qf_S w c t i j ↔ ∃ x, x ∈ qf_U w t i j ∧ x.2.all c = true ∧ x.1 = s := by
  unfold qf_S qf_sc qf_ft
  rw [List.mem_map]
  constructor
  · rintro ⟨x, hx, e⟩
    obtain ⟨h1, h2⟩ := List.mem_filter.mp hx
    exact ⟨x, h1, h2, e⟩
  · rintro ⟨x, h1, h2, e⟩
    exact ⟨x, List.mem_filter.mpr ⟨h1, h2⟩, e⟩
theorem qf_S_bd {w : qf_W} (hw : qf_wb w) (c : Nat × Nat → Bool) {t i j : Nat} (ht : t ≤ 3) (hj : j - i ≤ 11) : qf_bd (qf_S w c t i j) := by
  have h1 := qf_len w (j - i) i j rfl hj
  have h2 := qf_scb hw (j - i) i j rfl
  have h3 : (qf_S w c t i j).length ≤ (qf_U w t i j).length := by
    unfold qf_S qf_sc qf_ft
    rw [List.length_map]
    exact List.length_filter_le _ _
  have h4 := qf_tA2 (j - i) (by omega)
  have h5 := qf_tP2 (j - i) (by omega)
  constructor
  · by_cases e : t = 3
    · subst e
      have h6 := h1.1
      omega
    · have h6 := h1.2 t (by omega)
      omega
  · intro s hs
    obtain ⟨x, hx, _, e⟩ := qf_S_mem.mp hs
    subst e
    by_cases e : t = 3
    · subst e
      have h6 := h2.1 x hx
      omega
    · have h6 := h2.2 t x (by omega) hx
      omega

/-! the entries of a fold -/
def qf_dg (p q : Nat) : Nat := if p = q then 1 else if p < q then 2 else 3
def qf_vl (p q : Nat) : Int := if p = q then -2 else (q : Int)
def qf_pu (f : Nat → Int) (k : Nat) (x : Int) : Nat → Int := fun j => if j = k then x else f j
theorem qf_pu_s (f : Nat → Int) (k : Nat) (x : Int) : qf_pu f k x k = x := if_pos rfl
theorem qf_pu_n (f : Nat → Int) {k j : Nat} (x : Int) (h : j ≠ k) : qf_pu f k x j = f j := if_neg h
/-- partner()'s machine -/
def qf_pop {α : Type} (S : List Nat) (k : Nat → List Nat → Option α) : Option α := match S with
  | [] => none
  | t :: S' => k t S'
def qf_run : List (Nat × Nat) → List Nat → (Nat → Int) → Option (List Nat × (Nat → Int))
  | [], S, f => some (S, f)
  | e :: r, S, f => if qf_dg e.1 e.2 = 1 then qf_run r S (qf_pu f e.1 (-2)) else if qf_dg e.1 e.2 = 2 then qf_run r (e.1 :: S) (qf_pu f e.1 (-2)) else qf_pop S (fun t S' => qf_run r S' (qf_pu (qf_pu (qf_pu f e.1 (-2)) e.1 t) t e.1))
theorem qf_dg1 (p : Nat) : qf_dg p p = 1 := if_pos rfl
theorem qf_dg2 {p q : Nat} (h : p < q) : qf_dg p q = 2 := by
  unfold qf_dg
  rw [if_neg (by omega), if_pos h]
theorem qf_dg3 {p q : Nat} (h : q < p) : qf_dg p q = 3 := by
  unfold qf_dg
  rw [if_neg (by omega), if_neg (by omega)]
theorem qf_run1 (p : Nat) (r : List (Nat × Nat)) (S : List Nat) (f : Nat → Int) : qf_run ((p, p) :: r) S f = qf_run r S (qf_pu f p (-2)) := by
  rw [qf_run]
  exact if_pos (qf_dg1 p)
theorem qf_run2 {p q : Nat} (h : p < q) (r : List (Nat × Nat)) (S : List Nat) (f : Nat → Int) : qf_run ((p, q) :: r) S f = qf_run r (p :: S) (qf_pu f p (-2)) := by
  rw [qf_run]
  have e : qf_dg (p, q).1 (p, q).2 = 2 := qf_dg2 h
  rw [e, if_neg (by decide), if_pos rfl]
theorem qf_run3 {p q : Nat} (h : q < p) (r : List (Nat × Nat)) (t : Nat) (S : List Nat) (f : Nat → Int) : qf_run ((p, q) :: r) (t :: S) f = qf_run r S (qf_pu (qf_pu (qf_pu f p (-2)) p t) t p) := by
  rw [qf_run]
  have e : qf_dg (p, q).1 (p, q).2 = 3 := qf_dg3 h
  rw [e, if_neg (by decide), if_neg (by decide)]
  rfl
theorem qf_run3n {p q : Nat} (h : q < p) (r : List (Nat × Nat)) (f : Nat → Int) : qf_run ((p, q) :: r) [] f = none := by
  rw [qf_run]
  have e : qf_dg (p, q).1 (p, q).2 = 3 := qf_dg3 h
  rw [e, if_neg (by decide), if_neg (by decide)]
  rfl
def qf_bal (e : List (Nat × Nat)) : Prop := ∀ r S f, ∃ f', qf_run (e ++ r) S f = qf_run r S f' ∧ (∀ x, x ∈ e → f' x.1 = qf_vl x.1 x.2) ∧ (∀ p, (∀ x, x ∈ e → x.1 ≠ p) → f' p = f p)
def qf_wf (i n : Nat) (e : List (Nat × Nat)) : Prop := e.map (fun x => x.1) = List.range' i n ∧ (∀ p q, (p, q) ∈ e → (q, p) ∈ e) ∧ qf_bal e
theorem qf_wf_mem {i n : Nat} {e : List (Nat × Nat)} (h : qf_wf i n e) {x : Nat × Nat} (hx : x ∈ e) : i ≤ x.1 ∧ x.1 < i + n := by
  have h1 : x.1 ∈ e.map (fun x => x.1) := List.mem_map.mpr ⟨x, hx, rfl⟩
  rw [h.1] at h1
  exact List.mem_range'_1.mp h1
theorem qf_wf_nil (i : Nat) : qf_wf i 0 [] := ⟨rfl, fun p q h => absurd h List.not_mem_nil, fun r S f => ⟨f, rfl, fun x h => absurd h List.not_mem_nil, fun _ _ => rfl⟩⟩
theorem qf_wf_one (p : Nat) : qf_wf p 1 [(p, p)] := by
  refine ⟨rfl, ?_, ?_⟩
  · intro a b h
    have e := List.mem_singleton.mp h
    injection e with e1 e2
    subst e1
    subst e2
    exact h
  · intro r S f
    refine ⟨qf_pu f p (-2), qf_run1 p r S f, ?_, ?_⟩
    · intro x hx
      have e := List.mem_singleton.mp hx
      subst e
      rw [qf_pu_s]
      exact (if_pos rfl).symm
    · intro a ha
      exact qf_pu_n f _ (fun e => ha (p, p) (List.mem_singleton.mpr rfl) e.symm)
theorem qf_wf_app {i a k b m : Nat} {e f : List (Nat × Nat)} (h1 : qf_wf i a e) (h2 : qf_wf k b f) (hk : k = i + a) (hm : m = a + b) : qf_wf i m (e ++ f) := by
  subst hk
  subst hm
  refine ⟨?_, ?_, ?_⟩
  · rw [List.map_append, h1.1, h2.1, List.range'_append_1]
  · intro p q h
    rcases List.mem_append.mp h with h | h
    · exact List.mem_append.mpr (Or.inl (h1.2.1 p q h))
    · exact List.mem_append.mpr (Or.inr (h2.2.1 p q h))
  · intro r S g
    obtain ⟨g1, a1, a2, a3⟩ := h1.2.2 (f ++ r) S g
    obtain ⟨g2, b1, b2, b3⟩ := h2.2.2 r S g1
    refine ⟨g2, by rw [List.append_assoc, a1, b1], ?_, ?_⟩
    · intro x hx
      rcases List.mem_append.mp hx with hx | hx
      · rw [b3 x.1 (fun y hy ey => by
          have h3 := qf_wf_mem h1 hx
          have h4 := qf_wf_mem h2 hy
          omega)]
        exact a2 x hx
      · exact b2 x hx
    · intro p hp
      rw [b3 p (fun x hx => hp x (List.mem_append.mpr (Or.inr hx))), a3 p (fun x hx => hp x (List.mem_append.mpr (Or.inl hx)))]
theorem qf_wf_wrap {i j n m : Nat} {e : List (Nat × Nat)} (h : qf_wf (i + 1) n e) (hj : j = i + 1 + n) (hm : m = n + 2) : qf_wf i m ((i, j) :: (e ++ [(j, i)])) := by
  subst hm
  refine ⟨?_, ?_, ?_⟩
  · rw [List.map_cons, List.map_append, h.1, List.range'_succ, List.range'_1_concat, hj]
    rfl
  · intro p q hp
    rcases List.mem_cons.mp hp with e1 | hp
    · injection e1 with e1 e2
      subst e1
      subst e2
      exact List.mem_cons.mpr (Or.inr (List.mem_append.mpr (Or.inr (List.mem_singleton.mpr rfl))))
    · rcases List.mem_append.mp hp with hp | hp
      · exact List.mem_cons.mpr (Or.inr (List.mem_append.mpr (Or.inl (h.2.1 p q hp))))
      · have e1 := List.mem_singleton.mp hp
        injection e1 with e1 e2
        subst e1
        subst e2
        exact List.mem_cons.mpr (Or.inl rfl)
  · intro r S f
    obtain ⟨g, a1, a2, a3⟩ := h.2.2 ([(j, i)] ++ r) (i :: S) (qf_pu f i (-2))
    refine ⟨qf_pu (qf_pu (qf_pu g j (-2)) j i) i j, ?_, ?_, ?_⟩
    · show qf_run ((i, j) :: ((e ++ [(j, i)]) ++ r)) S f = _
      rw [qf_run2 (by omega), List.append_assoc, a1]
      exact qf_run3 (by omega) r i S g
    · intro x hx
      rcases List.mem_cons.mp hx with e1 | hx
      · subst e1
        show qf_pu _ i j i = _
        rw [qf_pu_s]
        exact (if_neg (show ¬ i = j by omega)).symm
      · rcases List.mem_append.mp hx with hx | hx
        · have h3 := qf_wf_mem h hx
          rw [qf_pu_n _ _ (by omega), qf_pu_n _ _ (by omega), qf_pu_n _ _ (by omega)]
          exact a2 x hx
        · have e1 := List.mem_singleton.mp hx
          subst e1
          show qf_pu _ i j j = _
          rw [qf_pu_n _ _ (by omega), qf_pu_s]
          exact (if_neg (show ¬ j = i by omega)).symm
    · intro p hp
      have p1 : i ≠ p := hp (i, j) (List.mem_cons.mpr (Or.inl rfl))
      have p2 : j ≠ p := hp (j, i) (List.mem_cons.mpr (Or.inr (List.mem_append.mpr (Or.inr (List.mem_singleton.mpr rfl)))))
      rw [qf_pu_n _ _ (by omega), qf_pu_n _ _ (by omega), qf_pu_n _ _ (by omega), a3 p (fun x hx => hp x (List.mem_cons.mpr (Or.inr (List.mem_append.mpr (Or.inl hx))))), qf_pu_n _ _ (by omega)]
theorem qf_wf_fr (a n : Nat) : qf_wf a n (qf_fr a n) := by
  induction n with
  | zero => exact qf_wf_nil a
  | succ n ih => exact qf_wf_app ih (qf_wf_one (a + n)) rfl rfl
theorem qf_wf_U (w : qf_W) : ∀ d i j, j - i = d → (∀ x, x ∈ qf_U w 3 i j → qf_wf i (j + 1 - i) x.2) ∧ (∀ t x, t ≤ 2 → x ∈ qf_U w t i j → qf_wf i (j - i) x.2) := by
  intro d
  induction d using Nat.strongRecOn with
  | ind d ih =>
    intro i j hd
    constructor
    · intro z hz
      obtain ⟨h, e | ⟨k, l, x, h1, h2, h3, hx, e⟩ | ⟨x, hx, e⟩⟩ := qf_memP w hz
      · subst e
        exact qf_wf_wrap (qf_wf_fr (i + 1) (j - (i + 1))) (by omega) (by omega)
      · subst e
        have h4 := (ih (l - k) (by omega) k l rfl).1 x hx
        have h5 : qf_wf (i + 1) (j - (i + 1)) (qf_fr (i + 1) (k - (i + 1)) ++ (x.2 ++ qf_fr (l + 1) (j - (l + 1)))) := qf_wf_app (qf_wf_fr _ _) (qf_wf_app h4 (qf_wf_fr _ _) (by omega) rfl) (by omega) (by omega)
        exact qf_wf_wrap h5 (by omega) (by omega)
      · subst e
        have h4 := (ih (j - (i + 1)) (by omega) (i + 1) j rfl).2 2 x (by omega) hx
        exact qf_wf_wrap h4 (by omega) (by omega)
    · intro t z ht hz
      rcases qf_memA w (by omega) hz with ⟨h, e⟩ | ⟨h, ⟨x, hx, e⟩ | ⟨k, x, y, h1, h2, hx, hy, e⟩⟩
      · subst e
        rw [show j - i = 0 by omega]
        exact qf_wf_nil i
      · subst e
        have h4 := (ih (j - (i + 1)) (by omega) (i + 1) j rfl).2 t x ht hx
        exact qf_wf_app (qf_wf_one i) h4 rfl (by omega)
      · subst e
        have h4 := (ih (k - i) (by omega) i k rfl).1 x hx
        have h5 := (ih (j - (k + 1)) (by omega) (k + 1) j rfl).2 (t - 1) y (by omega) hy
        exact qf_wf_app h4 h5 (by omega) (by omega)
end
section
/-! whole numbers as Int32 -/
def qf_i (s : Int) : Int32 := Int32.ofInt s
theorem qf_i_add (a b : Int) : qf_i a + qf_i b = qf_i (a + b) := (Int32.ofInt_add a b).symm
theorem qf_i_sub (a b : Int) : qf_i a - qf_i b = qf_i (a - b) := (Int32.ofInt_sub a b).symm
theorem qf_i_neg (a : Int) : - qf_i a = qf_i (- a) := (Int32.ofInt_neg a).symm
theorem qf_i_of (x : Int32) : qf_i x.toInt = x := Int32.ofInt_toInt x
theorem qf_i_nat (n : Nat) : qf_i (n : Int) = nI n := Int32.ofInt_eq_ofNat
theorem qf_i_toInt {s : Int} (h : -10000 < s) (h' : s < 10000) : (qf_i s).toInt = s := Int32.toInt_ofInt_of_le (by omega) (by omega)
theorem qf_i_le {a b : Int} (ha : -10000 < a) (ha' : a < 10000) (hb : -10000 < b) (hb' : b < 10000) : qf_i a ≤ qf_i b ↔ a ≤ b := by
  rw [Int32.le_iff_toInt_le, qf_i_toInt ha ha', qf_i_toInt hb hb']
theorem qf_i_lt {a b : Int} (ha : -10000 < a) (ha' : a < 10000) (hb : -10000 < b) (hb' : b < 10000) : qf_i a < qf_i b ↔ a < b := by
  rw [Int32.lt_iff_toInt_lt, qf_i_toInt ha ha', qf_i_toInt hb hb']
theorem qf_i_eq {a b : Int} (ha : -10000 < a) (ha' : a < 10000) (hb : -10000 < b) (hb' : b < 10000) : qf_i a = qf_i b ↔ a = b := by
  constructor
  · intro h
    rw [← qf_i_toInt ha ha', ← qf_i_toInt hb hb', h]
  · intro h
    rw [h]

/-! a triple that stands for a list of scores -/
def qf_of (X : List Int) (v b a : Int32) : Prop := a = nI X.length ∧ ∃ k, b = nI k ∧ k ≤ X.length ∧ (X ≠ [] → 1 ≤ k ∧ ∃ m, v = qf_i m ∧ m ∈ X ∧ ∀ x, x ∈ X → x ≤ m)
def qf_rp (X : List Int) (v b a : Int32) : Prop := qf_of X v b a ∧ (X = [] → v = -1000)
theorem qf_of_nil (v : Int32) : qf_of [] v 0 0 := ⟨rfl, 0, rfl, Nat.le_refl 0, fun h => absurd rfl h⟩
theorem qf_rp_nil : qf_rp [] (-1000) 0 0 := ⟨qf_of_nil _, fun _ => rfl⟩
theorem qf_of_one (s : Int) : qf_of [s] (qf_i s) 1 1 := ⟨rfl, 1, rfl, Nat.le_refl 1, fun _ => ⟨Nat.le_refl 1, s, rfl, List.mem_singleton.mpr rfl, fun x hx => by
  rw [List.mem_singleton.mp hx]
  exact Int.le_refl s⟩⟩
theorem qf_of_map {X : List Int} {v b a : Int32} (c : Int) (h : qf_of X v b a) : qf_of (X.map (fun x => c + x)) (qf_i c + v) b a := by
  obtain ⟨h1, k, h2, h3, h4⟩ := h
  refine ⟨by rw [List.length_map]; exact h1, k, h2, by rw [List.length_map]; exact h3, fun hn => ?_⟩
  have hX : X ≠ [] := fun e => hn (by rw [e]; rfl)
  obtain ⟨h5, m, h6, h7, h8⟩ := h4 hX
  refine ⟨h5, c + m, by rw [h6, qf_i_add], List.mem_map.mpr ⟨m, h7, rfl⟩, fun x hx => ?_⟩
  obtain ⟨y, hy, e⟩ := List.mem_map.mp hx
  have h9 := h8 y hy
  have e' : c + y = x := e
  omega
theorem qf_sm_len (X Y : List Int) : (qf_sm X Y).length = X.length * Y.length := by
  induction X with
  | nil => simp [qf_sm]
  | cons x X ih =>
    rw [qf_sm_cons, List.length_append, List.length_map, ih, List.length_cons, Nat.succ_mul]
    omega
theorem qf_sm_mem {X Y : List Int} {z : Int} : z ∈ qf_sm X Y ↔ ∃ x, x ∈ X ∧ ∃ y, y ∈ Y ∧ x + y = z := by
  unfold qf_sm
  rw [List.mem_flatMap]
  constructor
  · rintro ⟨x, hx, hz⟩
    obtain ⟨y, hy, e⟩ := List.mem_map.mp hz
    exact ⟨x, hx, y, hy, e⟩
  · rintro ⟨x, hx, y, hy, e⟩
    exact ⟨x, hx, List.mem_map.mpr ⟨y, hy, e⟩⟩
theorem qf_of_sm {X Y : List Int} {v b a v' b' a' : Int32} (h : qf_of X v b a) (h' : qf_of Y v' b' a') : qf_of (qf_sm X Y) (v + v') (b * b') (a * a') := by
  obtain ⟨h1, k, h2, h3, h4⟩ := h
  obtain ⟨h1', k', h2', h3', h4'⟩ := h'
  refine ⟨by rw [qf_sm_len, h1, h1', pk_mul], k * k', by rw [h2, h2', pk_mul], by rw [qf_sm_len]; exact Nat.mul_le_mul h3 h3', fun hn => ?_⟩
  have hX : X ≠ [] := fun e => hn (by rw [e]; rfl)
  have hY : Y ≠ [] := fun e => hn (by
    rw [← List.length_eq_zero_iff, qf_sm_len, e]
    exact Nat.mul_zero _)
  obtain ⟨h5, m, h6, h7, h8⟩ := h4 hX
  obtain ⟨h5', m', h6', h7', h8'⟩ := h4' hY
  refine ⟨Nat.mul_le_mul h5 h5', m + m', by rw [h6, h6', qf_i_add], qf_sm_mem.mpr ⟨m, h7, m', h7', rfl⟩, fun z hz => ?_⟩
  obtain ⟨x, hx, y, hy, e⟩ := qf_sm_mem.mp hz
  have h9 := h8 x hx
  have h10 := h8' y hy
  omega
theorem qf_of_b0 {X : List Int} {v b a : Int32} (h : qf_of X v b a) (hl : X.length < 2 ^ 30) : b = 0 ↔ X = [] := by
  obtain ⟨h1, k, h2, h3, h4⟩ := h
  constructor
  · intro e
    rw [h2, ← nI_0, nI_eq (by omega) (by omega)] at e
    apply Classical.byContradiction
    intro hn
    have h5 := (h4 hn).1
    omega
  · intro e
    rw [e] at h3
    have e0 : k = 0 := Nat.le_zero.mp h3
    rw [h2, e0]
    rfl
theorem qf_of_a0 {X : List Int} {v b a : Int32} (h : qf_of X v b a) (hl : X.length < 2 ^ 30) : a = 0 ↔ X = [] := by
  rw [h.1, ← nI_0, nI_eq (by omega) (by omega), List.length_eq_zero_iff]
theorem qf_of_ale {X : List Int} {v b a : Int32} (h : qf_of X v b a) (hl : X.length < 2 ^ 30) : a ≤ 0 ↔ X = [] := by
  rw [h.1, ← nI_0, nI_leI (by omega) (by omega), Nat.le_zero, List.length_eq_zero_iff]
/-- offer: nothing is offered -/
theorem qf_app0 {Y X : List Int} {v b a v' b' a' : Int32} (h : qf_rp Y v b a) (h' : qf_of X v' b' a') (e : X = []) : qf_rp (Y ++ X) v b (a + a') := by
  rw [e] at h'
  have e' : a' = 0 := h'.1
  rw [e, List.append_nil, e']
  have e2 : a + 0 = a := by
    rw [h.1.1, ← nI_0, nI_add]
    rfl
  rw [e2]
  exact h
theorem qf_app1 {Y X : List Int} {v b a v' b' a' : Int32} (h : qf_rp Y v b a) (h' : qf_of X v' b' a') (e : X ≠ []) (g : Y = [] ∨ ∀ m m', v = qf_i m → v' = qf_i m' → m ∈ Y → m' ∈ X → m < m') : qf_rp (Y ++ X) v' b' (a + a') := by
  obtain ⟨⟨h1, k, h2, h3, h4⟩, _⟩ := h
  obtain ⟨h1', k', h2', h3', h4'⟩ := h'
  obtain ⟨h5', m', h6', h7', h8'⟩ := h4' e
  refine ⟨⟨by rw [h1, h1', nI_add, List.length_append], k', h2', by rw [List.length_append]; omega, fun _ => ⟨h5', m', h6', List.mem_append.mpr (Or.inr h7'), fun x hx => ?_⟩⟩, fun e2 => absurd (List.append_eq_nil_iff.mp e2).2 e⟩
  rcases List.mem_append.mp hx with hx | hx
  · rcases g with g | g
    · rw [g] at hx
      exact absurd hx List.not_mem_nil
    · obtain ⟨_, m, h6, h7, h8⟩ := h4 (List.ne_nil_of_mem hx)
      have h9 := g m m' h6 h6' h7 h7'
      have h10 := h8 x hx
      omega
  · exact h8' x hx
theorem qf_app2 {Y X : List Int} {v b a v' b' a' : Int32} (h : qf_rp Y v b a) (h' : qf_of X v' b' a') (e : Y ≠ []) (g : ∀ m m', v = qf_i m → v' = qf_i m' → m ∈ Y → m' ∈ X → m' < m) : qf_rp (Y ++ X) v b (a + a') := by
  obtain ⟨⟨h1, k, h2, h3, h4⟩, _⟩ := h
  obtain ⟨h1', k', h2', h3', h4'⟩ := h'
  obtain ⟨h5, m, h6, h7, h8⟩ := h4 e
  refine ⟨⟨by rw [h1, h1', nI_add, List.length_append], k, h2, by rw [List.length_append]; omega, fun _ => ⟨h5, m, h6, List.mem_append.mpr (Or.inl h7), fun x hx => ?_⟩⟩, fun e2 => absurd (List.append_eq_nil_iff.mp e2).1 e⟩
  rcases List.mem_append.mp hx with hx | hx
  · exact h8 x hx
  · obtain ⟨_, m', h6', h7', h8'⟩ := h4' (List.ne_nil_of_mem hx)
    have h9 := g m m' h6 h6' h7 h7'
    have h10 := h8' x hx
    omega
theorem qf_app3 {Y X : List Int} {v b a v' b' a' : Int32} (h : qf_rp Y v b a) (h' : qf_of X v' b' a') (e : Y ≠ []) (g : ∀ m m', v = qf_i m → v' = qf_i m' → m ∈ Y → m' ∈ X → m' = m) : qf_rp (Y ++ X) v (b + b') (a + a') := by
  obtain ⟨⟨h1, k, h2, h3, h4⟩, _⟩ := h
  obtain ⟨h1', k', h2', h3', h4'⟩ := h'
  obtain ⟨h5, m, h6, h7, h8⟩ := h4 e
  refine ⟨⟨by rw [h1, h1', nI_add, List.length_append], k + k', by rw [h2, h2', nI_add], by rw [List.length_append]; omega, fun _ => ⟨by omega, m, h6, List.mem_append.mpr (Or.inl h7), fun x hx => ?_⟩⟩, fun e2 => absurd (List.append_eq_nil_iff.mp e2).1 e⟩
  rcases List.mem_append.mp hx with hx | hx
  · exact h8 x hx
  · obtain ⟨_, m', h6', h7', h8'⟩ := h4' (List.ne_nil_of_mem hx)
    have h9 := g m m' h6 h6' h7 h7'
    have h10 := h8' x hx
    omega

/-! constraints: what is asked of a place (0: nothing, 1 free, 2 opens, 3 shuts), and which pairs are kept -/
def qf_ck (ak : Nat → Nat) (kp : Nat → Nat → Bool) (e : Nat × Nat) : Bool := (decide (ak e.1 = 0) || decide (ak e.1 = qf_dg e.1 e.2)) && (decide (¬ e.1 < e.2) || kp e.1 e.2)
theorem qf_ck_iff {ak : Nat → Nat} {kp : Nat → Nat → Bool} {p q : Nat} : qf_ck ak kp (p, q) = true ↔ (ak p = 0 ∨ ak p = qf_dg p q) ∧ (p < q → kp p q = true) := by
  unfold qf_ck
  rw [Bool.and_eq_true, Bool.or_eq_true, Bool.or_eq_true, decide_eq_true_iff, decide_eq_true_iff, decide_eq_true_iff]
  constructor
  · rintro ⟨h1, h2⟩
    exact ⟨h1, fun g => h2.elim (fun g' => absurd g g') id⟩
  · rintro ⟨h1, h2⟩
    refine ⟨h1, ?_⟩
    by_cases g : p < q
    · exact Or.inr (h2 g)
    · exact Or.inl g
def qf_V (w : qf_W) (n : Nat) (ak : Nat → Nat) (kp : Nat → Nat → Bool) : List Int := qf_S w (qf_ck ak kp) 0 0 n
theorem qf_V_mem {w : qf_W} {n : Nat} {ak : Nat → Nat} {kp : Nat → Nat → Bool} {s : Int} : s ∈ qf_V w n ak kp ↔ ∃ x, x ∈ qf_U w 0 0 n ∧ (∀ p q, (p, q) ∈ x.2 → qf_ck ak kp (p, q) = true) ∧ x.1 = s := by
  unfold qf_V
  rw [qf_S_mem]
  constructor
  · rintro ⟨x, h1, h2, h3⟩
    exact ⟨x, h1, fun p q h => List.all_eq_true.mp h2 (p, q) h, h3⟩
  · rintro ⟨x, h1, h2, h3⟩
    exact ⟨x, h1, List.all_eq_true.mpr (fun e he => h2 e.1 e.2 he), h3⟩
theorem qf_Uwf {w : qf_W} {n : Nat} {x : qf_F} (hx : x ∈ qf_U w 0 0 n) : qf_wf 0 n x.2 := (qf_wf_U w n 0 n rfl).2 0 x (by omega) hx
theorem qf_wf_pq {n : Nat} {e : List (Nat × Nat)} (h : qf_wf 0 n e) {p q : Nat} (hp : (p, q) ∈ e) : p < n ∧ q < n := by
  have h1 := qf_wf_mem h hp
  have h2 := qf_wf_mem h (h.2.1 p q hp)
  have h1' : 0 ≤ p ∧ p < 0 + n := h1
  have h2' : 0 ≤ q ∧ q < 0 + n := h2
  omega
theorem qf_wf_ex {n : Nat} {e : List (Nat × Nat)} (h : qf_wf 0 n e) {p : Nat} (hp : p < n) : ∃ q, (p, q) ∈ e := by
  have h1 : p ∈ e.map (fun x => x.1) := by
    rw [h.1]
    exact List.mem_range'_1.mpr ⟨Nat.zero_le p, by omega⟩
  obtain ⟨x, hx, e1⟩ := List.mem_map.mp h1
  refine ⟨x.2, ?_⟩
  have e2 : x.1 = p := e1
  rw [← e2]
  exact hx
theorem qf_nd : ∀ (e : List (Nat × Nat)), (e.map (fun x => x.1)).Nodup → ∀ p q q', (p, q) ∈ e → (p, q') ∈ e → q = q' := by
  intro e
  induction e with
  | nil => exact fun _ p q q' h => absurd h List.not_mem_nil
  | cons x e ih =>
    intro hn p q q' h1 h2
    rw [List.map_cons, List.nodup_cons] at hn
    have hm : ∀ q, (p, q) ∈ e → p ∈ e.map (fun x => x.1) := fun q h => List.mem_map.mpr ⟨(p, q), h, rfl⟩
    rcases List.mem_cons.mp h1 with e1 | h1
    · rcases List.mem_cons.mp h2 with e2 | h2
      · have e3 := e1.trans e2.symm
        injection e3
      · rw [← e1] at hn
        exact absurd (hm _ h2) hn.1
    · rcases List.mem_cons.mp h2 with e2 | h2
      · rw [← e2] at hn
        exact absurd (hm _ h1) hn.1
      · exact ih hn.2 p q q' h1 h2
theorem qf_wf_fun {i n : Nat} {e : List (Nat × Nat)} (h : qf_wf i n e) {p q q' : Nat} (h1 : (p, q) ∈ e) (h2 : (p, q') ∈ e) : q = q' := qf_nd e (by rw [h.1]; exact List.nodup_range') p q q' h1 h2
theorem qf_V_mono {w : qf_W} {n : Nat} {ak ak' : Nat → Nat} {kp kp' : Nat → Nat → Bool} (h : ∀ p q, p < n → q < n → qf_ck ak' kp' (p, q) = true → qf_ck ak kp (p, q) = true) : (qf_V w n ak' kp').length ≤ (qf_V w n ak kp).length ∧ ∀ s, s ∈ qf_V w n ak' kp' → s ∈ qf_V w n ak kp := by
  constructor
  · unfold qf_V qf_S qf_sc qf_ft
    rw [List.length_map, List.length_map, ← List.countP_eq_length_filter, ← List.countP_eq_length_filter]
    apply List.countP_mono_left
    intro x hx hc
    have hw := qf_Uwf hx
    exact List.all_eq_true.mpr (fun e he => h e.1 e.2 (qf_wf_pq hw he).1 (qf_wf_pq hw he).2 (List.all_eq_true.mp hc e he))
  · intro s hs
    obtain ⟨x, h1, h2, h3⟩ := qf_V_mem.mp hs
    have hw := qf_Uwf h1
    exact qf_V_mem.mpr ⟨x, h1, fun p q hp => h p q (qf_wf_pq hw hp).1 (qf_wf_pq hw hp).2 (h2 p q hp), h3⟩

/-! decide(): the places one after the other -/
def qf_up (f : Nat → Nat) (k v : Nat) : Nat → Nat := fun j => if j = k then v else f j
theorem qf_up_s (f : Nat → Nat) (k v : Nat) : qf_up f k v k = v := if_pos rfl
theorem qf_up_n (f : Nat → Nat) {k j : Nat} (v : Nat) (h : j ≠ k) : qf_up f k v j = f j := if_neg h
theorem qf_dg_in (p q : Nat) : qf_dg p q = 1 ∨ qf_dg p q = 2 ∨ qf_dg p q = 3 := by
  unfold qf_dg
  by_cases h : p = q
  · rw [if_pos h]
    omega
  · rw [if_neg h]
    by_cases h' : p < q
    · rw [if_pos h']
      omega
    · rw [if_neg h']
      omega
theorem qf_split {w : qf_W} {n : Nat} {A : Nat → Nat} {kp : Nat → Nat → Bool} {goal : Int} {k : Nat} (hk : k < n) (hg : goal ∈ qf_V w n A kp) : goal ∈ qf_V w n (qf_up A k 1) kp ∨ goal ∈ qf_V w n (qf_up A k 2) kp ∨ goal ∈ qf_V w n (qf_up A k 3) kp := by
  obtain ⟨x, h1, h2, h3⟩ := qf_V_mem.mp hg
  have hw := qf_Uwf h1
  obtain ⟨q, hq⟩ := qf_wf_ex hw hk
  have key : goal ∈ qf_V w n (qf_up A k (qf_dg k q)) kp := by
    refine qf_V_mem.mpr ⟨x, h1, fun p q' hp => ?_, h3⟩
    have h4 := qf_ck_iff.mp (h2 p q' hp)
    refine qf_ck_iff.mpr ⟨?_, h4.2⟩
    by_cases e : p = k
    · subst e
      rw [qf_up_s, qf_wf_fun hw hq hp]
      exact Or.inr rfl
    · rw [qf_up_n _ _ e]
      exact h4.1
  rcases qf_dg_in k q with e | e | e
  · rw [e] at key
    exact Or.inl key
  · rw [e] at key
    exact Or.inr (Or.inl key)
  · rw [e] at key
    exact Or.inr (Or.inr key)
def qf_hw (w : qf_W) (n : Nat) (kp : Nat → Nat → Bool) (goal : Int) (A : Nat → Nat) (k : Nat) : Nat := if goal ∈ qf_V w n (qf_up A k 1) kp then 1 else if goal ∈ qf_V w n (qf_up A k 2) kp then 2 else 3
def qf_dc (w : qf_W) (n : Nat) (kp : Nat → Nat → Bool) (goal : Int) (hd : Nat → Nat) : Nat → Nat → Nat
  | 0 => hd
  | k + 1 => if qf_dc w n kp goal hd k k = 0 then qf_up (qf_dc w n kp goal hd k) k (qf_hw w n kp goal (qf_dc w n kp goal hd k) k) else qf_dc w n kp goal hd k
theorem qf_hw_in (w : qf_W) (n : Nat) (kp : Nat → Nat → Bool) (goal : Int) (A : Nat → Nat) (k : Nat) : 1 ≤ qf_hw w n kp goal A k ∧ qf_hw w n kp goal A k ≤ 3 := by
  unfold qf_hw
  by_cases h : goal ∈ qf_V w n (qf_up A k 1) kp
  · rw [if_pos h]
    omega
  · rw [if_neg h]
    by_cases h' : goal ∈ qf_V w n (qf_up A k 2) kp
    · rw [if_pos h']
      omega
    · rw [if_neg h']
      omega
theorem qf_hw_ok {w : qf_W} {n : Nat} {A : Nat → Nat} {kp : Nat → Nat → Bool} {goal : Int} {k : Nat} (hk : k < n) (hg : goal ∈ qf_V w n A kp) : goal ∈ qf_V w n (qf_up A k (qf_hw w n kp goal A k)) kp := by
  unfold qf_hw
  by_cases h : goal ∈ qf_V w n (qf_up A k 1) kp
  · rw [if_pos h]
    exact h
  · rw [if_neg h]
    by_cases h' : goal ∈ qf_V w n (qf_up A k 2) kp
    · rw [if_pos h']
      exact h'
    · rw [if_neg h']
      rcases qf_split hk hg with g | g | g
      · exact absurd g h
      · exact absurd g h'
      · exact g
theorem qf_dc_inv {w : qf_W} {n : Nat} {kp : Nat → Nat → Bool} {goal : Int} {hd : Nat → Nat} (hg : goal ∈ qf_V w n hd kp) (h3 : ∀ j, j < n → hd j ≤ 3) : ∀ k, k ≤ n → goal ∈ qf_V w n (qf_dc w n kp goal hd k) kp ∧ (∀ j, k ≤ j → qf_dc w n kp goal hd k j = hd j) ∧ (∀ j, j < k → 1 ≤ qf_dc w n kp goal hd k j ∧ qf_dc w n kp goal hd k j ≤ 3) ∧ (∀ j, hd j = 0 ∨ qf_dc w n kp goal hd k j = hd j) := by
  intro k
  induction k with
  | zero => exact fun _ => ⟨hg, fun j _ => rfl, fun j hj => absurd hj (by omega), fun j => Or.inr rfl⟩
  | succ k ih =>
    intro hk
    obtain ⟨a1, a2, a3, a4⟩ := ih (by omega)
    have e0 : qf_dc w n kp goal hd (k + 1) = if qf_dc w n kp goal hd k k = 0 then qf_up (qf_dc w n kp goal hd k) k (qf_hw w n kp goal (qf_dc w n kp goal hd k) k) else qf_dc w n kp goal hd k := rfl
    rw [e0]
    by_cases z : qf_dc w n kp goal hd k k = 0
    · rw [if_pos z]
      refine ⟨qf_hw_ok (by omega) a1, fun j hj => ?_, fun j hj => ?_, fun j => ?_⟩
      · rw [qf_up_n _ _ (by omega)]
        exact a2 j (by omega)
      · by_cases e : j = k
        · rw [e, qf_up_s]
          exact qf_hw_in _ _ _ _ _ _
        · rw [qf_up_n _ _ e]
          exact a3 j (by omega)
      · by_cases e : j = k
        · left
          rw [e, ← a2 k (by omega)]
          exact z
        · rw [qf_up_n _ _ e]
          exact a4 j
    · rw [if_neg z]
      refine ⟨a1, fun j hj => a2 j (by omega), fun j hj => ?_, a4⟩
      by_cases e : j = k
      · rw [e]
        have h5 := a2 k (by omega)
        have h6 := h3 k (by omega)
        omega
      · exact a3 j (by omega)
/-- the decided fold -/
theorem qf_dc_fold {w : qf_W} {n : Nat} {kp : Nat → Nat → Bool} {goal : Int} {hd : Nat → Nat} (hg : goal ∈ qf_V w n hd kp) (h3 : ∀ j, j < n → hd j ≤ 3) : ∃ x, x ∈ qf_U w 0 0 n ∧ x.1 = goal ∧ qf_wf 0 n x.2 ∧ (∀ p q, (p, q) ∈ x.2 → qf_dc w n kp goal hd n p = qf_dg p q ∧ (hd p = 0 ∨ hd p = qf_dg p q) ∧ (p < q → kp p q = true)) := by
  obtain ⟨a1, a2, a3, a4⟩ := qf_dc_inv hg h3 n (Nat.le_refl n)
  obtain ⟨x, h1, h2, h3⟩ := qf_V_mem.mp a1
  have hw := qf_Uwf h1
  refine ⟨x, h1, h3, hw, fun p q hp => ?_⟩
  have h4 := qf_ck_iff.mp (h2 p q hp)
  have h5 := a3 p (qf_wf_pq hw hp).1
  have h6 : qf_dc w n kp goal hd n p = qf_dg p q := by
    rcases h4.1 with e | e
    · omega
    · exact e
  refine ⟨h6, ?_, h4.2⟩
  rcases a4 p with e | e
  · exact Or.inl e
  · right
    rw [← e]
    exact h6
/-- a pair is asked for -/
def qf_wa (hd : Nat → Nat) (i j : Nat) : Nat → Nat := qf_up (qf_up hd i 2) j 3
def qf_wk (ft : Nat → Nat → Bool) (i j : Nat) (p q : Nat) : Bool := decide (p = i ↔ q = j) && ft p q
theorem qf_wk_iff {ft : Nat → Nat → Bool} {i j p q : Nat} : qf_wk ft i j p q = true ↔ (p = i ↔ q = j) ∧ ft p q = true := by
  unfold qf_wk
  rw [Bool.and_eq_true, decide_eq_true_iff]
theorem qf_W_mono {w : qf_W} {n : Nat} {hd : Nat → Nat} {ft : Nat → Nat → Bool} {i j : Nat} (hij : i < j) (hi : hd i = 0 ∨ hd i = 2) (hj : hd j = 0 ∨ hd j = 3) : (qf_V w n (qf_wa hd i j) (qf_wk ft i j)).length ≤ (qf_V w n hd ft).length ∧ ∀ s, s ∈ qf_V w n (qf_wa hd i j) (qf_wk ft i j) → s ∈ qf_V w n hd ft := by
  refine qf_V_mono (fun p q _ _ h => ?_)
  obtain ⟨h1, h2⟩ := qf_ck_iff.mp h
  refine qf_ck_iff.mpr ⟨?_, fun g => (qf_wk_iff.mp (h2 g)).2⟩
  unfold qf_wa at h1
  by_cases e : p = j
  · rw [e, qf_up_s] at h1
    rw [e]
    omega
  · rw [qf_up_n _ _ e] at h1
    by_cases e' : p = i
    · rw [e', qf_up_s] at h1
      rw [e']
      omega
    · rw [qf_up_n _ _ e'] at h1
      exact h1
theorem qf_W_fit {w : qf_W} {n : Nat} {hd : Nat → Nat} {ft : Nat → Nat → Bool} {i j : Nat} (hij : i < j) (hn : j < n) {s : Int} (h : s ∈ qf_V w n (qf_wa hd i j) (qf_wk ft i j)) : ft i j = true := by
  obtain ⟨x, h1, h2, h3⟩ := qf_V_mem.mp h
  have hw := qf_Uwf h1
  obtain ⟨q, hq⟩ := qf_wf_ex hw (show i < n by omega)
  obtain ⟨a1, a2⟩ := qf_ck_iff.mp (h2 i q hq)
  have e1 : qf_wa hd i j i = 2 := by
    unfold qf_wa
    rw [qf_up_n _ _ (by omega), qf_up_s]
  rw [e1] at a1
  have hiq : i < q := by
    apply Classical.byContradiction
    intro g
    unfold qf_dg at a1
    by_cases g' : i = q
    · rw [if_pos g'] at a1
      omega
    · rw [if_neg g', if_neg g] at a1
      omega
  obtain ⟨b1, b2⟩ := qf_wk_iff.mp (a2 hiq)
  rw [← b1.mp rfl]
  exact b2
theorem qf_W_goal {w : qf_W} {n : Nat} {hd : Nat → Nat} {ft : Nat → Nat → Bool} {goal : Int} {x : qf_F} (h1 : x ∈ qf_U w 0 0 n) (h2 : x.1 = goal) (h3 : ∀ p q, (p, q) ∈ x.2 → (hd p = 0 ∨ hd p = qf_dg p q) ∧ (p < q → ft p q = true)) {i j : Nat} (hij : i < j) (hm : (i, j) ∈ x.2) : (hd i = 0 ∨ hd i = 2) ∧ (hd j = 0 ∨ hd j = 3) ∧ ft i j = true ∧ goal ∈ qf_V w n (qf_wa hd i j) (qf_wk ft i j) := by
  have hw := qf_Uwf h1
  have hm' := hw.2.1 i j hm
  have a1 := h3 i j hm
  have a2 := h3 j i hm'
  rw [qf_dg2 hij] at a1
  rw [qf_dg3 hij] at a2
  refine ⟨a1.1, a2.1, a1.2 hij, qf_V_mem.mpr ⟨x, h1, fun p q hp => qf_ck_iff.mpr ⟨?_, fun g => qf_wk_iff.mpr ⟨?_, (h3 p q hp).2 g⟩⟩, h2⟩⟩
  · unfold qf_wa
    by_cases e : p = j
    · subst e
      rw [qf_up_s, ← qf_wf_fun hw hm' hp, qf_dg3 hij]
      exact Or.inr rfl
    · rw [qf_up_n _ _ e]
      by_cases e' : p = i
      · subst e'
        rw [qf_up_s, ← qf_wf_fun hw hm hp, qf_dg2 hij]
        exact Or.inr rfl
      · rw [qf_up_n _ _ e']
        exact (h3 p q hp).1
  · constructor
    · intro e
      subst e
      exact (qf_wf_fun hw hm hp).symm
    · intro e
      subst e
      exact (qf_wf_fun hw hm' (hw.2.1 p q hp)).symm
end
section
section
variable {g sz fo fs sc bc ac : Int32} {a1 a2 a3 a4 a5 a6 a7 a8 a9 a10 a11 a12 : Nat → Int32} {n : Nat}
theorem qf_w_offer {post : St1 → Prop} {Y X : List Int} {v b a : Int32} (h : qf_rp Y sc bc ac) (h' : qf_of X v b a) (hb : qf_bd (Y ++ X))
    (H : ∀ sc' bc' ac', qf_rp (Y ++ X) sc' bc' ac' → post (g, sz, fo, fs, sc', bc', ac', a1, a2, a3, a4, a5, a6, a7, a8, a9, a10, a11, a12)) : wpX_offer post (g, sz, fo, fs, sc, bc, ac, a1, a2, a3, a4, a5, a6, a7, a8, a9, a10, a11, a12) v b a := by
  have hl := hb.1
  rw [List.length_append] at hl
  have hY : Y.length < 2 ^ 30 := by omega
  have hX : X.length < 2 ^ 30 := by omega
  have bY : ∀ m, m ∈ Y → -1000 < m ∧ m < 1000 := fun m hm => hb.2 m (List.mem_append.mpr (Or.inl hm))
  have bX : ∀ m, m ∈ X → -1000 < m ∧ m < 1000 := fun m hm => hb.2 m (List.mem_append.mpr (Or.inr hm))
  refine nm_e (ek_if (qf_of_b0 h' hX) (fun e => H _ _ _ (qf_app0 h h' e)) (fun e => ek_if (qf_of_b0 h.1 hY) (fun e2 => H _ _ _ (qf_app1 h h' e (Or.inl e2))) (fun e2 => br_c (fun z => br_c (fun z2 => nm_e (H _ _ _ (qf_app3 h h' e2 ?_))) (fun z2 => H _ _ _ (qf_app2 h h' e2 ?_))) (fun z => H _ _ _ (qf_app1 h h' e (Or.inr ?_))))))
  · intro m m' em em' hm hm'
    have q1 := bY m hm
    have q2 := bX m' hm'
    rw [em, em', qf_i_eq (by omega) (by omega) (by omega) (by omega)] at z2
    exact z2
  · intro m m' em em' hm hm'
    have q1 := bY m hm
    have q2 := bX m' hm'
    rw [em, em', qf_i_eq (by omega) (by omega) (by omega) (by omega)] at z2
    rw [em, em', qf_i_le (by omega) (by omega) (by omega) (by omega)] at z
    omega
  · intro m m' em em' hm hm'
    have q1 := bY m hm
    have q2 := bX m' hm'
    rw [em, em', qf_i_le (by omega) (by omega) (by omega) (by omega)] at z
    omega
/-! kindOf, doFit -/
def qf_kd4 (x z : Int32) : Int32 := if x = 2 ∧ z = 3 then 2 else -1
def qf_kd3 (x z : Int32) : Int32 := if x = 1 ∧ z = 2 then 1 else qf_kd4 x z
def qf_kd2 (x z : Int32) : Int32 := if x = 0 ∧ z = 3 then 0 else qf_kd3 x z
def qf_kd (x y : Int32) : Int32 := if y ≤ x then qf_kd2 y x else qf_kd2 x y
theorem qf_w_kd4 {post : Int32 → Prop} {x z : Int32} (H : post (qf_kd4 x z)) : wX_kindOf_45 post x z := by
  unfold qf_kd4 at H
  refine br_c (fun e => br_c (fun e2 => ?_) (fun e2 => ?_)) (fun e => ?_)
  · rw [if_pos ⟨e, e2⟩] at H
    exact H
  · rw [if_neg (fun t => e2 t.2)] at H
    exact H
  · rw [if_neg (fun t => e t.1)] at H
    exact H
theorem qf_w_kd3 {post : Int32 → Prop} {x z : Int32} (H : post (qf_kd3 x z)) : wX_kindOf_33 post x z := by
  unfold qf_kd3 at H
  refine br_c (fun e => br_c (fun e2 => ?_) (fun e2 => qf_w_kd4 ?_)) (fun e => qf_w_kd4 ?_)
  · rw [if_pos ⟨e, e2⟩] at H
    exact H
  · rw [if_neg (fun t => e2 t.2)] at H
    exact H
  · rw [if_neg (fun t => e t.1)] at H
    exact H
theorem qf_w_kd2 {post : Int32 → Prop} {x z : Int32} (H : post (qf_kd2 x z)) : wX_kindOf_21 post x z := by
  unfold qf_kd2 at H
  refine br_c (fun e => br_c (fun e2 => ?_) (fun e2 => qf_w_kd3 ?_)) (fun e => qf_w_kd3 ?_)
  · rw [if_pos ⟨e, e2⟩] at H
    exact H
  · rw [if_neg (fun t => e2 t.2)] at H
    exact H
  · rw [if_neg (fun t => e t.1)] at H
    exact H
theorem qf_w_kindOf {post : Int32 → Prop} {x y : Int32} (H : post (qf_kd x y)) : wpX_kindOf post () x y := by
  unfold qf_kd at H
  refine br_c (fun e => br_t e (qf_w_kd2 ?_)) (fun e => br_f e (qf_w_kd2 ?_))
  · rw [if_pos e] at H
    exact H
  · rw [if_neg e] at H
    exact H
theorem qf_kd_in (x y : Int32) : qf_kd x y = -1 ∨ qf_kd x y = 0 ∨ qf_kd x y = 1 ∨ qf_kd x y = 2 := by
  have h : ∀ a b : Int32, qf_kd2 a b = -1 ∨ qf_kd2 a b = 0 ∨ qf_kd2 a b = 1 ∨ qf_kd2 a b = 2 := by
    intro a b
    unfold qf_kd2 qf_kd3 qf_kd4
    by_cases h1 : a = 0 ∧ b = 3
    · rw [if_pos h1]
      exact Or.inr (Or.inl rfl)
    · rw [if_neg h1]
      by_cases h2 : a = 1 ∧ b = 2
      · rw [if_pos h2]
        exact Or.inr (Or.inr (Or.inl rfl))
      · rw [if_neg h2]
        by_cases h3 : a = 2 ∧ b = 3
        · rw [if_pos h3]
          exact Or.inr (Or.inr (Or.inr rfl))
        · rw [if_neg h3]
          exact Or.inl rfl
  unfold qf_kd
  by_cases e : y ≤ x
  · rw [if_pos e]
    exact h y x
  · rw [if_neg e]
    exact h x y
def qf_fit (g : Int32) (a1 : Nat → Int32) (p q : Nat) : Bool := decide (¬ (nI q - nI p ≤ g)) && decide (¬ qf_kd (a1 p) (a1 q) < 0)
theorem qf_fit_iff {p q : Nat} : qf_fit g a1 p q = true ↔ (¬ (nI q - nI p ≤ g)) ∧ ¬ qf_kd (a1 p) (a1 q) < 0 := by
  unfold qf_fit
  rw [Bool.and_eq_true, decide_eq_true_iff, decide_eq_true_iff]
theorem qf_fit_no {p q : Nat} (h : ¬ ((¬ (nI q - nI p ≤ g)) ∧ ¬ qf_kd (a1 p) (a1 q) < 0)) : qf_fit g a1 p q = false := by
  cases e : qf_fit g a1 p q with
  | false => rfl
  | true => exact absurd (qf_fit_iff.mp e) h
theorem qf_w_doFit {post : Int32 → Prop} {i j : Nat} (hi : i < 11) (hj : j < 11) (H1 : qf_fit g a1 i j = true → post 1) (H0 : qf_fit g a1 i j = false → post 0) : wpX_doFit post (g, sz, fo, fs, sc, bc, ac, a1, a2, a3, a4, a5, a6, a7, a8, a9, a10, a11, a12) (nI i) (nI j) := by
  refine br_c (fun z => H0 (qf_fit_no (fun t => t.1 z))) (fun z => ⟨pk_in i 11 hi, pk_in j 11 hj, ?_⟩)
  rw [nI_clamp (show i < 2 ^ 31 by omega), nI_clamp (show j < 2 ^ 31 by omega)]
  refine qf_w_kindOf ?_
  exact br_c (fun y => H0 (qf_fit_no (fun t => t.2 y))) (fun y => H1 (qf_fit_iff.mpr ⟨z, y⟩))
/-! mayPair -/
def qf_b : Bool → Int32
  | true => 1
  | false => 0
theorem qf_b0 (b : Bool) : qf_b b = 0 ↔ b = false := by
  revert b
  decide
theorem qf_w_mp92 {post : Int32 → Prop} {i j : Nat} (hi : i < 11) (hj : j < 11) (b1 b2 b3 : Bool) (H1 : (b1 && b2 && b3 && qf_fit g a1 i j) = true → post 1) (H0 : (b1 && b2 && b3 && qf_fit g a1 i j) = false → post 0) : wX_mayPair_92 post (nI i) (nI j) (qf_b b1) (qf_b b2) (qf_b b3) g sz fo fs sc bc ac a1 a2 a3 a4 a5 a6 a7 a8 a9 a10 a11 a12 := by
  refine ek_if (qf_b0 b1) (fun e => H0 ?_) (fun e => ek_if (qf_b0 b2) (fun e2 => H0 ?_) (fun e2 => ek_if (qf_b0 b3) (fun e3 => H0 ?_) (fun e3 => qf_w_doFit hi hj (fun e4 => br_f (by decide) (H1 ?_)) (fun e4 => br_t rfl (H0 ?_)))))
  · rw [e]
    rfl
  · rw [e2, Bool.and_false]
    rfl
  · rw [e3, Bool.and_false]
    rfl
  · rw [Bool.of_not_eq_false e, Bool.of_not_eq_false e2, Bool.of_not_eq_false e3, e4]
    rfl
  · rw [e4, Bool.and_false]
def qf_kt (fo fs : Int32) (p q : Nat) : Bool := decide (fo < 0 ∨ (nI p = fo ↔ nI q = fs))
theorem qf_kt_t {p q : Nat} (h : fo < 0 ∨ (nI p = fo ↔ nI q = fs)) : qf_kt fo fs p q = true := decide_eq_true h
theorem qf_kt_f {p q : Nat} (h : ¬ (fo < 0 ∨ (nI p = fo ↔ nI q = fs))) : qf_kt fo fs p q = false := decide_eq_false h
theorem qf_w_mp49 {post : Int32 → Prop} {i j : Nat} (hi : i < 11) (hj : j < 11) (b1 b2 : Bool) (H1 : (b1 && b2 && qf_kt fo fs i j && qf_fit g a1 i j) = true → post 1) (H0 : (b1 && b2 && qf_kt fo fs i j && qf_fit g a1 i j) = false → post 0) : wX_mayPair_49 post (nI i) (nI j) (qf_b b1) (qf_b b2) g sz fo fs sc bc ac a1 a2 a3 a4 a5 a6 a7 a8 a9 a10 a11 a12 := by
  have T : (fo < 0 ∨ (nI i = fo ↔ nI j = fs)) → wX_mayPair_87 post (nI i) (nI j) (qf_b b1) (qf_b b2) g sz fo fs sc bc ac a1 a2 a3 a4 a5 a6 a7 a8 a9 a10 a11 a12 := fun h => by
    rw [qf_kt_t h] at H1 H0
    exact qf_w_mp92 hi hj b1 b2 true H1 H0
  have F : ¬ (fo < 0 ∨ (nI i = fo ↔ nI j = fs)) → wX_mayPair_92 post (nI i) (nI j) (qf_b b1) (qf_b b2) 0 g sz fo fs sc bc ac a1 a2 a3 a4 a5 a6 a7 a8 a9 a10 a11 a12 := fun h => by
    rw [qf_kt_f h] at H1 H0
    exact qf_w_mp92 hi hj b1 b2 false H1 H0
  refine br_c (fun z => T (Or.inl z)) (fun z => br_c (fun y => br_c (fun x => br_t rfl (T (Or.inr ⟨fun _ => x, fun _ => y⟩))) (fun x => br_f (by decide) (F ?_))) (fun y => br_c (fun x => br_f (by decide) (F ?_)) (fun x => br_t rfl (T (Or.inr ⟨fun t => absurd t y, fun t => absurd t x⟩)))))
  · rintro (t | t)
    · exact z t
    · exact x (t.mp y)
  · rintro (t | t)
    · exact z t
    · exact y (t.mpr x)
theorem qf_w_mp24 {post : Int32 → Prop} {i j : Nat} {ak : Nat → Nat} (hi : i < 11) (hj : j < 11) (h3 : a3 j = nI (ak j)) (h4 : ak j ≤ 3) (b1 : Bool) (H1 : (b1 && decide (ak j = 0 ∨ ak j = 3) && qf_kt fo fs i j && qf_fit g a1 i j) = true → post 1) (H0 : (b1 && decide (ak j = 0 ∨ ak j = 3) && qf_kt fo fs i j && qf_fit g a1 i j) = false → post 0) : wX_mayPair_24 post (nI i) (nI j) (qf_b b1) g sz fo fs sc bc ac a1 a2 a3 a4 a5 a6 a7 a8 a9 a10 a11 a12 := by
  refine ⟨pk_in j 11 hj, ?_⟩
  rw [nI_clamp (show j < 2 ^ 31 by omega), h3]
  have T : (ak j = 0 ∨ ak j = 3) → wX_mayPair_44 post (nI i) (nI j) (qf_b b1) g sz fo fs sc bc ac a1 a2 a3 a4 a5 a6 a7 a8 a9 a10 a11 a12 := fun h => by
    rw [decide_eq_true h] at H1 H0
    exact qf_w_mp49 hi hj b1 true H1 H0
  refine pk_eq (ak j) 0 (fun z => T (Or.inl z)) (fun z => ⟨pk_in j 11 hj, pk_eq (ak j) 3 (fun y => T (Or.inr y)) (fun y => ?_)⟩)
  rw [decide_eq_false (show ¬ (ak j = 0 ∨ ak j = 3) by omega)] at H1 H0
  exact qf_w_mp49 hi hj b1 false H1 H0
def qf_mp (g fo fs : Int32) (a1 : Nat → Int32) (ak : Nat → Nat) (i j : Nat) : Bool := decide (ak i = 0 ∨ ak i = 2) && decide (ak j = 0 ∨ ak j = 3) && qf_kt fo fs i j && qf_fit g a1 i j
theorem qf_w_mayPair {post : Int32 → Prop} {i j : Nat} {ak : Nat → Nat} (hi : i < 11) (hj : j < 11) (i3 : a3 i = nI (ak i)) (i4 : ak i ≤ 3) (h3 : a3 j = nI (ak j)) (h4 : ak j ≤ 3) (H1 : qf_mp g fo fs a1 ak i j = true → post 1) (H0 : qf_mp g fo fs a1 ak i j = false → post 0) : wpX_mayPair post (g, sz, fo, fs, sc, bc, ac, a1, a2, a3, a4, a5, a6, a7, a8, a9, a10, a11, a12) (nI i) (nI j) := by
  unfold qf_mp at H1 H0
  refine ⟨pk_in i 11 hi, ?_⟩
  rw [nI_clamp (show i < 2 ^ 31 by omega), i3]
  have T : (ak i = 0 ∨ ak i = 2) → wX_mayPair_19 post (nI i) (nI j) g sz fo fs sc bc ac a1 a2 a3 a4 a5 a6 a7 a8 a9 a10 a11 a12 := fun h => by
    rw [decide_eq_true h] at H1 H0
    exact qf_w_mp24 hi hj h3 h4 true H1 H0
  refine pk_eq (ak i) 0 (fun z => T (Or.inl z)) (fun z => ⟨pk_in i 11 hi, pk_eq (ak i) 2 (fun y => T (Or.inr y)) (fun y => ?_)⟩)
  rw [decide_eq_false (show ¬ (ak i = 0 ∨ ak i = 2) by omega)] at H1 H0
  exact qf_w_mp24 hi hj h3 h4 false H1 H0
theorem qf_mp_ck {ak : Nat → Nat} {kp : Nat → Nat → Bool} {i j : Nat} (hij : i < j) (hk : kp i j = (qf_kt fo fs i j && qf_fit g a1 i j)) : qf_mp g fo fs a1 ak i j = (qf_ck ak kp (i, j) && qf_ck ak kp (j, i)) := by
  unfold qf_mp qf_ck
  show _ = (((decide (ak i = 0) || decide (ak i = qf_dg i j)) && (decide (¬ i < j) || kp i j)) && ((decide (ak j = 0) || decide (ak j = qf_dg j i)) && (decide (¬ j < i) || kp j i)))
  rw [qf_dg2 hij, qf_dg3 hij, hk, decide_eq_false (show ¬ ¬ i < j by omega), decide_eq_true (show ¬ j < i by omega), Bool.decide_or, Bool.decide_or]
  generalize (decide (ak i = 0) || decide (ak i = 2)) = b1
  generalize (decide (ak j = 0) || decide (ak j = 3)) = b2
  generalize qf_kt fo fs i j = b3
  generalize qf_fit g a1 i j = b4
  revert b1 b2 b3 b4
  generalize kp j i = b5
  revert b5
  decide
/-! mayBeFree, isFree -/
theorem qf_ck_free {ak : Nat → Nat} {kp : Nat → Nat → Bool} {p : Nat} : qf_ck ak kp (p, p) = true ↔ ak p ≤ 1 := by
  rw [qf_ck_iff, qf_dg1]
  constructor
  · rintro ⟨h, _⟩
    omega
  · intro h
    exact ⟨by omega, fun t => absurd t (by omega)⟩
theorem qf_w_mayBeFree {post : Int32 → Prop} {i : Nat} {ak : Nat → Nat} (kp : Nat → Nat → Bool) (hi : i < 11) (i3 : a3 i = nI (ak i)) (i4 : ak i ≤ 3) (H1 : qf_ck ak kp (i, i) = true → post 1) (H0 : ¬ qf_ck ak kp (i, i) = true → post 0) : wpX_mayBeFree post (g, sz, fo, fs, sc, bc, ac, a1, a2, a3, a4, a5, a6, a7, a8, a9, a10, a11, a12) (nI i) := by
  refine ⟨pk_in i 11 hi, ?_⟩
  rw [nI_clamp (show i < 2 ^ 31 by omega), i3]
  exact pk_lt 1 (ak i) (fun z => H0 (fun t => absurd (qf_ck_free.mp t) (by omega))) (fun z => H1 (qf_ck_free.mpr z))
theorem qf_fr_mem {a m : Nat} {e : Nat × Nat} : e ∈ qf_fr a m ↔ a ≤ e.1 ∧ e.1 < a + m ∧ e.2 = e.1 := by
  induction m with
  | zero =>
    constructor
    · intro h
      exact absurd h List.not_mem_nil
    · rintro ⟨h1, h2, _⟩
      omega
  | succ m ih =>
    show e ∈ qf_fr a m ++ [(a + m, a + m)] ↔ _
    rw [List.mem_append, ih, List.mem_singleton]
    constructor
    · rintro (⟨h1, h2, h3⟩ | h)
      · exact ⟨h1, by omega, h3⟩
      · rw [h]
        exact ⟨Nat.le_add_right a m, Nat.lt_succ_self _, rfl⟩
    · rintro ⟨h1, h2, h3⟩
      by_cases e1 : e.1 = a + m
      · right
        exact Prod.ext e1 (h3.trans e1)
      · left
        exact ⟨h1, by omega, h3⟩
theorem qf_fa_iff {c : Nat × Nat → Bool} {a b : Nat} : qf_fa c a b = true ↔ ∀ p, a ≤ p → p < b → c (p, p) = true := by
  unfold qf_fa
  rw [List.all_eq_true]
  constructor
  · intro h p h1 h2
    exact h (p, p) (qf_fr_mem.mpr ⟨h1, by omega, rfl⟩)
  · intro h e he
    obtain ⟨h1, h2, h3⟩ := qf_fr_mem.mp he
    have h4 := h e.1 h1 (by omega)
    have e1 : e = (e.1, e.1) := Prod.ext rfl h3
    rw [e1]
    exact h4
theorem qf_w_isFree {post : Int32 → Prop} {i j : Nat} {ak : Nat → Nat} (kp : Nat → Nat → Bool) (hn : n ≤ 11) (hij : i ≤ j) (hj : j ≤ n) (hk : ∀ p, p < n → a3 p = nI (ak p) ∧ ak p ≤ 3) (H1 : qf_fa (qf_ck ak kp) i j = true → post 1) (H0 : qf_fa (qf_ck ak kp) i j = false → post 0) : wpX_isFree post (g, nI n, fo, fs, sc, bc, ac, a1, a2, a3, a4, a5, a6, a7, a8, a9, a10, a11, a12) (nI i) (nI j) := by
  refine pk_loop (σ := Unit) (fun m k _ => wX_isFree_2 post (nI j) g (nI n) fo fs sc bc ac a1 a2 a3 a4 a5 a6 a7 a8 a9 a10 a11 a12 m (nI k)) (fun k _ => i ≤ k ∧ ∀ p, i ≤ p → p < k → qf_ck ak kp (p, p) = true) j i () hij ⟨Nat.le_refl i, fun p h1 h2 => absurd h2 (by omega)⟩
    (fun m _ h => pk_le j j (fun _ => H1 (qf_fa_iff.mpr h.2)) (fun z => absurd z (by omega))) ?_
  intro m k _ hk2 h hw
  refine pk_le j k (fun z => absurd z (by omega)) (fun _ => qf_w_mayBeFree kp (by omega) (hk k (by omega)).1 (hk k (by omega)).2 (fun e => br_f (by decide) (nm_r (nI_1 k) (hw () ⟨Nat.le_succ_of_le h.1, fun p h1 h2 => ?_⟩))) (fun e => br_t rfl (H0 ?_)))
  · by_cases e1 : p = k
    · rw [e1]
      exact e
    · exact h.2 p h1 (by omega)
  · cases e2 : qf_fa (qf_ck ak kp) i j with
    | false => rfl
    | true => exact absurd (qf_fa_iff.mp e2 k h.1 hk2) e
end
end
section
/-- the weights of a state -/
def qf_w (a1 a4 : Nat → Int32) : qf_W := (fun i j => (a4 (qf_kd (a1 i) (a1 j)).toNatClampNeg).toInt, (a4 3).toInt, (a4 4).toInt, (a4 5).toInt)
def qf_tn (a4 : Nat → Int32) : Prop := ∀ k, k < 6 → 0 ≤ (a4 k).toInt ∧ (a4 k).toInt ≤ 20
theorem qf_wb_w {a1 a4 : Nat → Int32} (h : qf_tn a4) : qf_wb (qf_w a1 a4) := by
  refine ⟨fun i j => ?_, h 3 (by omega), h 4 (by omega), h 5 (by omega)⟩
  show 0 ≤ (a4 (qf_kd (a1 i) (a1 j)).toNatClampNeg).toInt ∧ (a4 (qf_kd (a1 i) (a1 j)).toNatClampNeg).toInt ≤ 20
  refine h _ ?_
  rcases qf_kd_in (a1 i) (a1 j) with e | e | e | e
  · rw [e]
    decide
  · rw [e]
    decide
  · rw [e]
    decide
  · rw [e]
    decide
/-- what a state's fields say: asked, kept pairs, tuned -/
def qf_H (g fo fs : Int32) (n : Nat) (a1 a3 a4 : Nat → Int32) (ak : Nat → Nat) (kp : Nat → Nat → Bool) : Prop := n ≤ 11 ∧ (∀ p, p < n → a3 p = nI (ak p) ∧ ak p ≤ 3) ∧ (∀ p q, p < q → q < n → kp p q = (qf_kt fo fs p q && qf_fit g a1 p q)) ∧ qf_tn a4
def qf_TP (w : qf_W) (c : Nat × Nat → Bool) (a5 a6 a7 : Nat → Int32) (i j : Nat) : Prop := qf_rp (qf_S w c 3 i j) (a5 (12 * i + j)) (a6 (12 * i + j)) (a7 (12 * i + j))
def qf_TA (w : qf_W) (c : Nat × Nat → Bool) (a8 a9 a10 : Nat → Int32) (t i j : Nat) : Prop := qf_rp (qf_S w c t i j) (a8 (144 * t + 12 * i + j)) (a9 (144 * t + 12 * i + j)) (a10 (144 * t + 12 * i + j))
theorem qf_ixP (i j : Nat) : 12 * nI i + nI j = nI (12 * i + j) := by
  rw [show (12 : Int32) = nI 12 from rfl, pk_mul, nI_add]
theorem qf_ixA (t i j : Nat) : (144 * nI t + 12 * nI i) + nI j = nI (144 * t + 12 * i + j) := by
  rw [show (144 : Int32) = nI 144 from rfl, show (12 : Int32) = nI 12 from rfl, pk_mul, pk_mul, nI_add, nI_add]
theorem qf_ix2 (i j : Nat) : (288 + 12 * nI i) + nI j = nI (144 * 2 + 12 * i + j) := by
  rw [show (288 : Int32) = nI 288 from rfl, show (12 : Int32) = nI 12 from rfl, pk_mul, nI_add, nI_add]
section
variable {g sz fo fs sc bc ac : Int32} {a1 a2 a3 a4 a5 a6 a7 a8 a9 a10 a11 a12 : Nat → Int32} {n : Nat} {ak : Nat → Nat} {kp : Nat → Nat → Bool} {w : qf_W} {c : Nat × Nat → Bool}
theorem qf_w_sa191 {post : St1 → Prop} {i j t : Nat} (hi : i ≤ 11) (hj : j ≤ 11) (ht : t ≤ 2) (H : post (g, nI n, fo, fs, sc, bc, ac, a1, a2, a3, a4, a5, a6, a7, upd a8 (144 * t + 12 * i + j) sc, upd a9 (144 * t + 12 * i + j) bc, upd a10 (144 * t + 12 * i + j) ac, a11, a12)) : wX_solveAny_191 post (nI i) (nI j) (nI t) g (nI n) fo fs sc bc ac a1 a2 a3 a4 a5 a6 a7 a8 a9 a10 a11 a12 := by
  have e : (nI (144 * t + 12 * i + j)).toNatClampNeg = 144 * t + 12 * i + j := nI_clamp (by omega)
  have b : vp_in (nI (144 * t + 12 * i + j)) 432 := vp_in_nI (by omega) (by omega)
  refine nm_r (qf_ixA t i j) ⟨b, nm_r (by rw [e]) ⟨b, nm_r (by rw [e]) ⟨b, nm_r (by rw [e]) H⟩⟩⟩
/-- the ways with the first place paired -/
def qf_GA (w : qf_W) (c : Nat × Nat → Bool) (t i j k : Nat) : List Int := if i < k ∧ k < j then qf_sm (qf_S w c 3 i k) (qf_S w c (t - 1) (k + 1) j) else []
theorem qf_w_sa99 {post : St1 → Prop} {i j t : Nat} {Y0 : List Int} (hw : qf_wb w) (hn : n ≤ 11) (hij : i < j) (hj : j ≤ n) (ht : t ≤ 2) (hP : ∀ k, i < k → k < j → qf_TP w c a5 a6 a7 i k) (hA : ∀ k, i < k → k < j → qf_TA w c a8 a9 a10 (t - 1) (k + 1) j)
    (hY : qf_S w c t i j = Y0 ++ qf_fl (qf_GA w c t i j) (i + 1) (j - (i + 1))) (h0 : qf_rp Y0 sc bc ac)
    (H : ∀ sc' bc' ac', qf_rp (qf_S w c t i j) sc' bc' ac' → post (g, nI n, fo, fs, sc', bc', ac', a1, a2, a3, a4, a5, a6, a7, upd a8 (144 * t + 12 * i + j) sc', upd a9 (144 * t + 12 * i + j) bc', upd a10 (144 * t + 12 * i + j) ac', a11, a12)) :
    ∃ f, wX_solveAny_99 post (nI i) (nI j) (nI t) (nI (t - 1)) f (nI (i + 1)) g (nI n) fo fs sc bc ac a1 a2 a3 a4 a5 a6 a7 a8 a9 a10 a11 a12 := by
  have hb := qf_S_bd hw c (show t ≤ 3 by omega) (show j - i ≤ 11 by omega)
  refine pk_loop (σ := Int32 × Int32 × Int32) (fun f m s => wX_solveAny_99 post (nI i) (nI j) (nI t) (nI (t - 1)) f (nI (i + 1 + m)) g (nI n) fo fs s.1 s.2.1 s.2.2 a1 a2 a3 a4 a5 a6 a7 a8 a9 a10 a11 a12) (fun m s => qf_rp (Y0 ++ qf_fl (qf_GA w c t i j) (i + 1) m) s.1 s.2.1 s.2.2) (j - (i + 1)) 0 (sc, bc, ac) (by omega) (by
      show qf_rp (Y0 ++ []) sc bc ac
      rw [List.append_nil]
      exact h0) ?_ ?_
  · intro f s h
    refine pk_le j (i + 1 + (j - (i + 1))) (fun _ => qf_w_sa191 (by omega) (by omega) ht (H _ _ _ ?_)) (fun z => absurd z (by omega))
    rw [hY]
    exact h
  · intro f m s hm h hw2
    refine pk_le j (i + 1 + m) (fun z => absurd z (by omega)) (fun _ => nm_r (qf_ixP i (i + 1 + m)) (nm_r (e' := nI (144 * (t - 1) + 12 * (i + 1 + m + 1) + j)) (by rw [nI_1]; exact qf_ixA (t - 1) (i + 1 + m + 1) j) ?_))
    have b1 : vp_in (nI (12 * i + (i + 1 + m))) 144 := vp_in_nI (by omega) (by omega)
    have b2 : vp_in (nI (144 * (t - 1) + 12 * (i + 1 + m + 1) + j)) 432 := vp_in_nI (by omega) (by omega)
    refine ⟨b1, b2, nm_e ⟨b1, b2, b1, b2, ?_⟩⟩
    rw [nI_clamp (show 12 * i + (i + 1 + m) < 2 ^ 31 by omega), nI_clamp (show 144 * (t - 1) + 12 * (i + 1 + m + 1) + j < 2 ^ 31 by omega)]
    have eG : qf_GA w c t i j (i + 1 + m) = qf_sm (qf_S w c 3 i (i + 1 + m)) (qf_S w c (t - 1) (i + 1 + m + 1) j) := if_pos ⟨by omega, by omega⟩
    have eY : Y0 ++ qf_fl (qf_GA w c t i j) (i + 1) (m + 1) = (Y0 ++ qf_fl (qf_GA w c t i j) (i + 1) m) ++ qf_sm (qf_S w c 3 i (i + 1 + m)) (qf_S w c (t - 1) (i + 1 + m + 1) j) := by
      rw [← eG, List.append_assoc]
      rfl
    refine qf_w_offer h (qf_of_sm (hP (i + 1 + m) (by omega) (by omega)).1 (hA (i + 1 + m) (by omega) (by omega)).1) ?_ (fun sc' bc' ac' h' => nm_r (nI_1 (i + 1 + m)) (hw2 (sc', bc', ac') ?_))
    · rw [← eY]
      refine qf_bd_sub ?_ hb
      rw [hY]
      exact (List.Sublist.refl Y0).append (qf_fl_sub _ _ (by omega))
    · show qf_rp (Y0 ++ qf_fl (qf_GA w c t i j) (i + 1) (m + 1)) sc' bc' ac'
      rw [eY]
      exact h'
theorem qf_w_sa81 {post : St1 → Prop} {i j t : Nat} {Y0 : List Int} (hw : qf_wb w) (hn : n ≤ 11) (hij : i < j) (hj : j ≤ n) (ht : t ≤ 2) (hP : ∀ k, i < k → k < j → qf_TP w c a5 a6 a7 i k) (hA : ∀ k, i < k → k < j → qf_TA w c a8 a9 a10 (t - 1) (k + 1) j)
    (hY : qf_S w c t i j = Y0 ++ qf_fl (qf_GA w c t i j) (i + 1) (j - (i + 1))) (h0 : qf_rp Y0 sc bc ac)
    (H : ∀ sc' bc' ac', qf_rp (qf_S w c t i j) sc' bc' ac' → post (g, nI n, fo, fs, sc', bc', ac', a1, a2, a3, a4, a5, a6, a7, upd a8 (144 * t + 12 * i + j) sc', upd a9 (144 * t + 12 * i + j) bc', upd a10 (144 * t + 12 * i + j) ac', a11, a12)) :
    wX_solveAny_81 post (nI i) (nI j) (nI t) g (nI n) fo fs sc bc ac a1 a2 a3 a4 a5 a6 a7 a8 a9 a10 a11 a12 := by
  have key := qf_w_sa99 (post := post) (g := g) (fo := fo) (fs := fs) (a1 := a1) (a2 := a2) (a3 := a3) (a4 := a4) (a11 := a11) (a12 := a12) hw hn hij hj ht hP hA hY h0 H
  refine pk_le t 0 (fun z => nm_r (nI_1 i) ?_) (fun z => nm_r (e' := nI (t - 1)) ?_ (nm_r (nI_1 i) key))
  · have e : t - 1 = 0 := by omega
    rw [e] at key
    exact key
  · exact pk_sub (a := t) (b := 1) (by omega)
theorem qf_w_solveAny {post : St1 → Prop} {i j t : Nat} {x y : Int32} (hx : x = nI i) (hy : y = nI j) (hH : qf_H g fo fs n a1 a3 a4 ak kp) (hij : i ≤ j) (hj : j ≤ n) (ht : t ≤ 2)
    (hP : ∀ k, i < k → k < j → qf_TP (qf_w a1 a4) (qf_ck ak kp) a5 a6 a7 i k) (hA : ∀ k, i < k → k < j → qf_TA (qf_w a1 a4) (qf_ck ak kp) a8 a9 a10 (t - 1) (k + 1) j) (hA1 : i < j → qf_TA (qf_w a1 a4) (qf_ck ak kp) a8 a9 a10 t (i + 1) j)
    (H : ∀ sc' bc' ac', qf_rp (qf_S (qf_w a1 a4) (qf_ck ak kp) t i j) sc' bc' ac' → post (g, nI n, fo, fs, sc', bc', ac', a1, a2, a3, a4, a5, a6, a7, upd a8 (144 * t + 12 * i + j) sc', upd a9 (144 * t + 12 * i + j) bc', upd a10 (144 * t + 12 * i + j) ac', a11, a12)) :
    wpX_solveAny post (g, nI n, fo, fs, sc, bc, ac, a1, a2, a3, a4, a5, a6, a7, a8, a9, a10, a11, a12) x y (nI t) := by
  subst hx
  subst hy
  obtain ⟨hn, hk, hkp, ht4⟩ := hH
  have hw := qf_wb_w (a1 := a1) ht4
  refine pk_eq i j (fun z => ?_) (fun z => ?_)
  · have e0 := qf_S_A0 (qf_w a1 a4) (qf_ck ak kp) (show t ≠ 3 by omega) (show ¬ i < j by omega)
    refine pk_eq t 0 (fun z2 => qf_w_offer (Y := []) (X := [0]) qf_rp_nil (qf_of_one 0) ?_ (fun sc' bc' ac' h => qf_w_sa191 (by omega) (by omega) ht (H _ _ _ ?_))) (fun z2 => qf_w_offer (Y := []) (X := []) qf_rp_nil (qf_of_nil 0) ?_ (fun sc' bc' ac' h => qf_w_sa191 (by omega) (by omega) ht (H _ _ _ ?_)))
    · exact ⟨by decide, fun x hx => by
        have e := List.mem_singleton.mp hx
        omega⟩
    · rw [e0, if_pos z2]
      exact h
    · exact ⟨by decide, fun x hx => absurd hx List.not_mem_nil⟩
    · rw [e0, if_neg z2]
      exact h
  · have hij' : i < j := by omega
    have e0 : qf_S (qf_w a1 a4) (qf_ck ak kp) t i j = (if qf_ck ak kp (i, i) = true then qf_S (qf_w a1 a4) (qf_ck ak kp) t (i + 1) j else []) ++ qf_fl (qf_GA (qf_w a1 a4) (qf_ck ak kp) t i j) (i + 1) (j - (i + 1)) := qf_S_A (qf_w a1 a4) (qf_ck ak kp) (show t ≠ 3 by omega) hij'
    refine qf_w_mayBeFree kp (by omega) (hk i (by omega)).1 (hk i (by omega)).2 (fun e => br_f (by decide) ?_) (fun e => br_t rfl ?_)
    · rw [if_pos e] at e0
      refine nm_r (e' := nI (144 * t + 12 * (i + 1) + j)) (by rw [nI_1]; exact qf_ixA t (i + 1) j) ?_
      have b1 : vp_in (nI (144 * t + 12 * (i + 1) + j)) 432 := vp_in_nI (by omega) (by omega)
      refine ⟨b1, b1, b1, ?_⟩
      rw [nI_clamp (show 144 * t + 12 * (i + 1) + j < 2 ^ 31 by omega)]
      refine qf_w_offer (Y := []) qf_rp_nil (hA1 hij').1 ?_ (fun sc' bc' ac' h => qf_w_sa81 hw hn hij' hj ht hP hA e0 h H)
      rw [List.nil_append]
      exact qf_S_bd hw _ (by omega) (by omega)
    · rw [if_neg e] at e0
      exact qf_w_sa81 hw hn hij' hj ht hP hA e0 qf_rp_nil H
end
end
section
section
variable {g sz fo fs sc bc ac : Int32} {a1 a2 a3 a4 a5 a6 a7 a8 a9 a10 a11 a12 : Nat → Int32} {n : Nat} {ak : Nat → Nat} {kp : Nat → Nat → Bool} {w : qf_W} {c : Nat × Nat → Bool}
/-- the pairs (k, l) directly within (i, j) -/
def qf_GI (w : qf_W) (c : Nat × Nat → Bool) (i j k l : Nat) : List Int := if i < k ∧ k < l ∧ l < j then (if (qf_fa c (i + 1) k && qf_fa c (l + 1) j) = true then (qf_S w c 3 k l).map (fun x => w.1 i j + qf_ex w i j k l + x) else []) else []
def qf_GK (w : qf_W) (c : Nat × Nat → Bool) (i j k : Nat) : List Int := qf_fl (qf_GI w c i j k) (k + 1) (j - (k + 1))
theorem qf_w_isFree' {post : Int32 → Prop} {i j : Nat} {x y : Int32} (hx : x = nI i) (hy : y = nI j) (hH : qf_H g fo fs n a1 a3 a4 ak kp) (hij : i ≤ j) (hj : j ≤ n) (H1 : qf_fa (qf_ck ak kp) i j = true → post 1) (H0 : qf_fa (qf_ck ak kp) i j = false → post 0) : wpX_isFree post (g, nI n, fo, fs, sc, bc, ac, a1, a2, a3, a4, a5, a6, a7, a8, a9, a10, a11, a12) x y := by
  subst hx
  subst hy
  exact qf_w_isFree kp hH.1 hij hj hH.2.1 H1 H0
theorem qf_w_oi97 {post : St1 → Prop} {J : Int32 → Int32 → Int32 → Int32 → Int32 → Int32 → Int32 → Int32 → (Nat → Int32) → (Nat → Int32) → (Nat → Int32) → (Nat → Int32) → (Nat → Int32) → (Nat → Int32) → (Nat → Int32) → (Nat → Int32) → (Nat → Int32) → (Nat → Int32) → (Nat → Int32) → (Nat → Int32) → Prop}
    {k l : Nat} {x1 x2 x3 z0 : Int32} {Y : List Int} {co ce : Int} (hk : k ≤ 10) (hl : l ≤ 10) (hz : z0 = qf_i ce) (hT : qf_TP w c a5 a6 a7 k l) (hY : qf_rp Y sc bc ac) (hb : qf_bd (Y ++ (qf_S w c 3 k l).map (fun x => co + ce + x)))
    (H : ∀ sc' bc' ac', qf_rp (Y ++ (qf_S w c 3 k l).map (fun x => co + ce + x)) sc' bc' ac' → J (nI (l + 1)) g (nI n) fo fs sc' bc' ac' a1 a2 a3 a4 a5 a6 a7 a8 a9 a10 a11 a12) :
    wX_offerInner_97 post J x1 x2 x3 (qf_i co) (nI l) (nI (12 * k + l)) z0 g (nI n) fo fs sc bc ac a1 a2 a3 a4 a5 a6 a7 a8 a9 a10 a11 a12 := by
  have b1 : vp_in (nI (12 * k + l)) 144 := vp_in_nI (by omega) (by omega)
  refine ⟨b1, b1, b1, ?_⟩
  rw [nI_clamp (show 12 * k + l < 2 ^ 31 by omega), hz, qf_i_add]
  exact qf_w_offer hY (qf_of_map (co + ce) hT.1) hb (fun sc' bc' ac' h => nm_r (nI_1 l) (H _ _ _ h))
theorem qf_w_oi17 {post : St1 → Prop} {i j k : Nat} {Y : List Int} (hH : qf_H g fo fs n a1 a3 a4 ak kp) (hik : i < k) (hkj : k < j) (hj : j < n) (hT : ∀ l, k < l → l < j → qf_TP (qf_w a1 a4) (qf_ck ak kp) a5 a6 a7 k l) (hf : qf_fa (qf_ck ak kp) (i + 1) k = true)
    (hY : qf_rp Y sc bc ac) (hb : qf_bd (Y ++ qf_GK (qf_w a1 a4) (qf_ck ak kp) i j k))
    (H : ∀ sc' bc' ac', qf_rp (Y ++ qf_GK (qf_w a1 a4) (qf_ck ak kp) i j k) sc' bc' ac' → post (g, nI n, fo, fs, sc', bc', ac', a1, a2, a3, a4, a5, a6, a7, a8, a9, a10, a11, a12)) :
    ∃ f, wX_offerInner_17 post (nI i) (nI j) (nI k) (qf_i ((qf_w a1 a4).1 i j)) f (nI (k + 1)) g (nI n) fo fs sc bc ac a1 a2 a3 a4 a5 a6 a7 a8 a9 a10 a11 a12 := by
  have hn := hH.1
  refine pk_loop (σ := Int32 × Int32 × Int32) (fun f m s => wX_offerInner_17 post (nI i) (nI j) (nI k) (qf_i ((qf_w a1 a4).1 i j)) f (nI (k + 1 + m)) g (nI n) fo fs s.1 s.2.1 s.2.2 a1 a2 a3 a4 a5 a6 a7 a8 a9 a10 a11 a12) (fun m s => qf_rp (Y ++ qf_fl (qf_GI (qf_w a1 a4) (qf_ck ak kp) i j k) (k + 1) m) s.1 s.2.1 s.2.2) (j - (k + 1)) 0 (sc, bc, ac) (by omega) (by
      show qf_rp (Y ++ []) sc bc ac
      rw [List.append_nil]
      exact hY) ?_ ?_
  · intro f s h
    exact pk_le j (k + 1 + (j - (k + 1))) (fun _ => H _ _ _ h) (fun z => absurd z (by omega))
  · intro f m s hm h hw2
    have hT1 := hT (k + 1 + m) (by omega) (by omega)
    have hl1 : (qf_S (qf_w a1 a4) (qf_ck ak kp) 3 k (k + 1 + m)).length < 2 ^ 30 := (qf_S_bd (qf_wb_w (a1 := a1) hH.2.2.2) (qf_ck ak kp) (show 3 ≤ 3 by omega) (show k + 1 + m - k ≤ 11 by omega)).1
    have eG : qf_GI (qf_w a1 a4) (qf_ck ak kp) i j k (k + 1 + m) = if qf_fa (qf_ck ak kp) (k + 1 + m + 1) j = true then (qf_S (qf_w a1 a4) (qf_ck ak kp) 3 k (k + 1 + m)).map (fun x => (qf_w a1 a4).1 i j + qf_ex (qf_w a1 a4) i j k (k + 1 + m) + x) else [] := by
      unfold qf_GI
      rw [if_pos ⟨hik, by omega, by omega⟩, hf, Bool.true_and]
    have eY : Y ++ qf_fl (qf_GI (qf_w a1 a4) (qf_ck ak kp) i j k) (k + 1) (m + 1) = (Y ++ qf_fl (qf_GI (qf_w a1 a4) (qf_ck ak kp) i j k) (k + 1) m) ++ qf_GI (qf_w a1 a4) (qf_ck ak kp) i j k (k + 1 + m) := by
      rw [List.append_assoc]
      rfl
    have skip : qf_GI (qf_w a1 a4) (qf_ck ak kp) i j k (k + 1 + m) = [] → wX_offerInner_17 post (nI i) (nI j) (nI k) (qf_i ((qf_w a1 a4).1 i j)) f (nI (k + 1 + (m + 1))) g (nI n) fo fs s.1 s.2.1 s.2.2 a1 a2 a3 a4 a5 a6 a7 a8 a9 a10 a11 a12 := by
      intro e
      refine hw2 s ?_
      show qf_rp (Y ++ qf_fl (qf_GI (qf_w a1 a4) (qf_ck ak kp) i j k) (k + 1) (m + 1)) s.1 s.2.1 s.2.2
      rw [eY, e, List.append_nil]
      exact h
    refine pk_le j (k + 1 + m) (fun z => absurd z (by omega)) (fun _ => nm_r (qf_ixP k (k + 1 + m)) ⟨vp_in_nI (by omega) (by omega), ?_⟩)
    rw [nI_clamp (show 12 * k + (k + 1 + m) < 2 ^ 31 by omega)]
    refine ek_if (qf_of_ale hT1.1 hl1) (fun e => nm_r (nI_1 (k + 1 + m)) (skip ?_)) (fun e => qf_w_isFree' (nI_1 (k + 1 + m)) rfl hH (by omega) (by omega) (fun e2 => br_f (by decide) ?_) (fun e2 => br_t rfl (nm_r (nI_1 (k + 1 + m)) (skip ?_))))
    · rw [eG, e]
      exact ite_self _
    · rw [if_pos e2] at eG
      have fin : ∀ z0 : Int32, z0 = qf_i (qf_ex (qf_w a1 a4) i j k (k + 1 + m)) → wX_offerInner_97 post (wX_offerInner_17 post (nI i) (nI j) (nI k) (qf_i ((qf_w a1 a4).1 i j)) f) (nI i) (nI j) (nI k) (qf_i ((qf_w a1 a4).1 i j)) (nI (k + 1 + m)) (nI (12 * k + (k + 1 + m))) z0 g (nI n) fo fs s.1 s.2.1 s.2.2 a1 a2 a3 a4 a5 a6 a7 a8 a9 a10 a11 a12 := by
        intro z0 hz0
        refine qf_w_oi97 (by omega) (by omega) hz0 hT1 h ?_ (fun sc' bc' ac' h' => hw2 (sc', bc', ac') ?_)
        · rw [← eG, ← eY]
          refine qf_bd_sub ?_ hb
          exact (List.Sublist.refl Y).append (qf_fl_sub _ _ (by omega))
        · show qf_rp (Y ++ qf_fl (qf_GI (qf_w a1 a4) (qf_ck ak kp) i j k) (k + 1) (m + 1)) sc' bc' ac'
          rw [eY, eG]
          exact h'
      have no : ¬ (k = i + 1 ∧ k + 1 + m + 1 = j) → wX_offerInner_73 post (wX_offerInner_17 post (nI i) (nI j) (nI k) (qf_i ((qf_w a1 a4).1 i j)) f) (nI i) (nI j) (nI k) (qf_i ((qf_w a1 a4).1 i j)) (nI (k + 1 + m)) (nI (12 * k + (k + 1 + m))) g (nI n) fo fs s.1 s.2.1 s.2.2 a1 a2 a3 a4 a5 a6 a7 a8 a9 a10 a11 a12 := by
        intro hno
        refine br_t rfl (fin _ ?_)
        unfold qf_ex
        rw [if_neg hno]
        show -(a4 4) = qf_i (- (a4 4).toInt)
        rw [← qf_i_neg, qf_i_of]
      refine pk_eq k (i + 1) (fun z => pk_eq (k + 1 + m) (j - 1) (fun z2 => br_f (by decide) (fin _ ?_)) (fun z2 => no (by omega)) rfl (pk_sub (a := j) (b := 1) (by omega))) (fun z => no (by omega)) rfl (nI_1 i)
      unfold qf_ex
      rw [if_pos ⟨z, by omega⟩]
      exact (qf_i_of (a4 3)).symm
    · rw [eG, e2]
      exact if_neg (by decide)
theorem qf_w_offerInner {post : St1 → Prop} {i j k : Nat} {Y : List Int} (hH : qf_H g fo fs n a1 a3 a4 ak kp) (hik : i < k) (hkj : k < j) (hj : j < n) (hT : ∀ l, k < l → l < j → qf_TP (qf_w a1 a4) (qf_ck ak kp) a5 a6 a7 k l)
    (hY : qf_rp Y sc bc ac) (hb : qf_bd (Y ++ qf_GK (qf_w a1 a4) (qf_ck ak kp) i j k))
    (H : ∀ sc' bc' ac', qf_rp (Y ++ qf_GK (qf_w a1 a4) (qf_ck ak kp) i j k) sc' bc' ac' → post (g, nI n, fo, fs, sc', bc', ac', a1, a2, a3, a4, a5, a6, a7, a8, a9, a10, a11, a12)) :
    wpX_offerInner post (g, nI n, fo, fs, sc, bc, ac, a1, a2, a3, a4, a5, a6, a7, a8, a9, a10, a11, a12) (nI i) (nI j) (nI k) (qf_i ((qf_w a1 a4).1 i j)) := by
  refine qf_w_isFree' (nI_1 i) rfl hH (by omega) (by omega) (fun e => br_f (by decide) (nm_r (nI_1 k) (qf_w_oi17 hH hik hkj hj hT e hY hb H))) (fun e => br_t rfl (H _ _ _ ?_))
  have e2 : qf_GK (qf_w a1 a4) (qf_ck ak kp) i j k = [] := by
    unfold qf_GK
    rw [← qf_fl_nil (α := Int) (k + 1) (j - (k + 1))]
    apply qf_fl_congr
    intro l _
    unfold qf_GI
    rw [e, Bool.false_and, if_neg (show ¬ false = true by decide)]
    exact ite_self _
  rw [e2, List.append_nil]
  exact hY
theorem qf_w_sp148 {post : St1 → Prop} {i j : Nat} (hi : i ≤ 10) (hj : j ≤ 10) (H : post (g, nI n, fo, fs, sc, bc, ac, a1, a2, a3, a4, upd a5 (12 * i + j) sc, upd a6 (12 * i + j) bc, upd a7 (12 * i + j) ac, a8, a9, a10, a11, a12)) : wX_solvePair_148 post (nI i) (nI j) g (nI n) fo fs sc bc ac a1 a2 a3 a4 a5 a6 a7 a8 a9 a10 a11 a12 := by
  unfold wX_solvePair_148
  rw [qf_ixP i j]
  have e : (nI (12 * i + j)).toNatClampNeg = 12 * i + j := nI_clamp (by omega)
  have b : vp_in (nI (12 * i + j)) 144 := vp_in_nI (by omega) (by omega)
  rw [e]
  exact ⟨b, nm_e ⟨b, nm_e ⟨b, nm_e H⟩⟩⟩
theorem qf_w_sp79 {post : St1 → Prop} {i j : Nat} {Y : List Int} (hH : qf_H g fo fs n a1 a3 a4 ak kp) (hij : i < j) (hj : j < n) (hT : ∀ k l, i < k → k < l → l < j → qf_TP (qf_w a1 a4) (qf_ck ak kp) a5 a6 a7 k l) (hA : qf_TA (qf_w a1 a4) (qf_ck ak kp) a8 a9 a10 2 (i + 1) j)
    (hY : qf_rp Y sc bc ac) (hS : qf_S (qf_w a1 a4) (qf_ck ak kp) 3 i j = Y ++ qf_fl (qf_GK (qf_w a1 a4) (qf_ck ak kp) i j) (i + 1) (j - (i + 1)) ++ (qf_S (qf_w a1 a4) (qf_ck ak kp) 2 (i + 1) j).map (fun x => (qf_w a1 a4).1 i j - (qf_w a1 a4).2.2.2 + x))
    (H : ∀ sc' bc' ac', qf_rp (qf_S (qf_w a1 a4) (qf_ck ak kp) 3 i j) sc' bc' ac' → post (g, nI n, fo, fs, sc', bc', ac', a1, a2, a3, a4, upd a5 (12 * i + j) sc', upd a6 (12 * i + j) bc', upd a7 (12 * i + j) ac', a8, a9, a10, a11, a12)) :
    ∃ f, wX_solvePair_79 post (nI i) (nI j) (qf_i ((qf_w a1 a4).1 i j)) f (nI (i + 1)) g (nI n) fo fs sc bc ac a1 a2 a3 a4 a5 a6 a7 a8 a9 a10 a11 a12 := by
  have hn := hH.1
  have hb := qf_S_bd (qf_wb_w (a1 := a1) hH.2.2.2) (qf_ck ak kp) (show 3 ≤ 3 by omega) (show j - i ≤ 11 by omega)
  refine pk_loop (σ := Int32 × Int32 × Int32) (fun f m s => wX_solvePair_79 post (nI i) (nI j) (qf_i ((qf_w a1 a4).1 i j)) f (nI (i + 1 + m)) g (nI n) fo fs s.1 s.2.1 s.2.2 a1 a2 a3 a4 a5 a6 a7 a8 a9 a10 a11 a12) (fun m s => qf_rp (Y ++ qf_fl (qf_GK (qf_w a1 a4) (qf_ck ak kp) i j) (i + 1) m) s.1 s.2.1 s.2.2) (j - (i + 1)) 0 (sc, bc, ac) (by omega) (by
      show qf_rp (Y ++ []) sc bc ac
      rw [List.append_nil]
      exact hY) ?_ ?_
  · intro f s h
    refine pk_le j (i + 1 + (j - (i + 1))) (fun _ => nm_r (e' := nI (144 * 2 + 12 * (i + 1) + j)) (by rw [nI_1]; exact qf_ix2 (i + 1) j) ?_) (fun z => absurd z (by omega))
    have b1 : vp_in (nI (144 * 2 + 12 * (i + 1) + j)) 432 := vp_in_nI (by omega) (by omega)
    refine ⟨b1, b1, b1, ?_⟩
    rw [nI_clamp (show 144 * 2 + 12 * (i + 1) + j < 2 ^ 31 by omega)]
    have e5 : qf_i ((qf_w a1 a4).1 i j) - a4 5 = qf_i ((qf_w a1 a4).1 i j - (qf_w a1 a4).2.2.2) := by
      rw [← qf_i_sub]
      show _ = qf_i ((qf_w a1 a4).1 i j) - qf_i (a4 5).toInt
      rw [qf_i_of]
    rw [e5]
    refine qf_w_offer h (qf_of_map _ hA.1) ?_ (fun sc' bc' ac' h' => qf_w_sp148 (by omega) (by omega) (H _ _ _ ?_))
    · rw [← hS]
      exact hb
    · rw [hS]
      exact h'
  · intro f m s hm h hw2
    have eY : Y ++ qf_fl (qf_GK (qf_w a1 a4) (qf_ck ak kp) i j) (i + 1) (m + 1) = (Y ++ qf_fl (qf_GK (qf_w a1 a4) (qf_ck ak kp) i j) (i + 1) m) ++ qf_GK (qf_w a1 a4) (qf_ck ak kp) i j (i + 1 + m) := by
      rw [List.append_assoc]
      rfl
    refine pk_le j (i + 1 + m) (fun z => absurd z (by omega)) (fun _ => qf_w_offerInner hH (by omega) (by omega) hj (fun l h1 h2 => hT (i + 1 + m) l (by omega) h1 h2) h ?_ (fun sc' bc' ac' h' => nm_r (nI_1 (i + 1 + m)) (hw2 (sc', bc', ac') ?_)))
    · rw [← eY]
      refine qf_bd_sub ?_ hb
      rw [hS]
      exact ((List.Sublist.refl Y).append (qf_fl_sub _ _ (by omega))).trans (List.sublist_append_left _ _)
    · show qf_rp (Y ++ qf_fl (qf_GK (qf_w a1 a4) (qf_ck ak kp) i j) (i + 1) (m + 1)) sc' bc' ac'
      rw [eY]
      exact h'
theorem qf_w_solvePair {post : St1 → Prop} {i j : Nat} {x y : Int32} (hx : x = nI i) (hy : y = nI j) (hH : qf_H g fo fs n a1 a3 a4 ak kp) (hij : i ≤ j) (hj : j < n) (hT : ∀ k l, i < k → k < l → l < j → qf_TP (qf_w a1 a4) (qf_ck ak kp) a5 a6 a7 k l) (hA : i < j → qf_TA (qf_w a1 a4) (qf_ck ak kp) a8 a9 a10 2 (i + 1) j)
    (H : ∀ sc' bc' ac', qf_rp (qf_S (qf_w a1 a4) (qf_ck ak kp) 3 i j) sc' bc' ac' → post (g, nI n, fo, fs, sc', bc', ac', a1, a2, a3, a4, upd a5 (12 * i + j) sc', upd a6 (12 * i + j) bc', upd a7 (12 * i + j) ac', a8, a9, a10, a11, a12)) :
    wpX_solvePair post (g, nI n, fo, fs, sc, bc, ac, a1, a2, a3, a4, a5, a6, a7, a8, a9, a10, a11, a12) x y := by
  subst hx
  subst hy
  have hn := hH.1
  have hk := hH.2.1
  refine pk_le j i (fun z => qf_w_sp148 (by omega) (by omega) (H _ _ _ ?_)) (fun hlt => ?_)
  · rw [qf_S_P0 _ _ (by omega)]
    exact qf_rp_nil
  · have e0 := qf_S_P (qf_w a1 a4) (qf_ck ak kp) hlt
    have em := qf_mp_ck (g := g) (fo := fo) (fs := fs) (a1 := a1) (ak := ak) hlt (hH.2.2.1 i j hlt hj)
    refine qf_w_mayPair (by omega) (by omega) (hk i (by omega)).1 (hk i (by omega)).2 (hk j hj).1 (hk j hj).2 (fun e => br_f (by decide) ?_) (fun e => br_t rfl (qf_w_sp148 (by omega) (by omega) (H _ _ _ ?_)))
    · rw [em] at e
      rw [if_pos e] at e0
      have hfit : qf_fit g a1 i j = true := by
        rw [← em] at e
        unfold qf_mp at e
        exact (Bool.and_eq_true_iff.mp e).2
      refine ⟨pk_in i 11 (by omega), pk_in j 11 (by omega), ?_⟩
      rw [nI_clamp (show i < 2 ^ 31 by omega), nI_clamp (show j < 2 ^ 31 by omega)]
      refine qf_w_kindOf ⟨?_, nm_r (e' := qf_i ((qf_w a1 a4).1 i j)) (qf_i_of _).symm ?_⟩
      · have h0 := (qf_fit_iff.mp hfit).2
        rcases qf_kd_in (a1 i) (a1 j) with e1 | e1 | e1 | e1
        · rw [e1] at h0
          exact absurd (show (-1 : Int32) < 0 by decide) h0
        · rw [e1]
          exact vp_in_iff.mpr (by decide)
        · rw [e1]
          exact vp_in_iff.mpr (by decide)
        · rw [e1]
          exact vp_in_iff.mpr (by decide)
      · have hbd := qf_S_bd (qf_wb_w (a1 := a1) hH.2.2.2) (qf_ck ak kp) (show 3 ≤ 3 by omega) (show j - i ≤ 11 by omega)
        refine qf_w_isFree' (nI_1 i) rfl hH (by omega) (by omega) (fun e2 => br_f (by decide) (br_f (by decide) ?_)) (fun e2 => br_t rfl (br_t rfl ?_))
        · rw [if_pos e2] at e0
          refine qf_w_offer (Y := []) qf_rp_nil (qf_of_one ((qf_w a1 a4).1 i j)) ?_ (fun sc' bc' ac' h => nm_r (nI_1 i) (qf_w_sp79 hH hlt hj hT (hA hlt) h e0 H))
          refine qf_bd_sub ?_ hbd
          rw [e0]
          exact (List.sublist_append_left _ _).trans (List.sublist_append_left _ _)
        · rw [if_neg (by rw [e2]; decide)] at e0
          refine qf_w_offer (Y := []) (X := []) qf_rp_nil (qf_of_nil _) ⟨by decide, fun x hx => absurd hx List.not_mem_nil⟩ (fun sc' bc' ac' h => nm_r (nI_1 i) (qf_w_sp79 hH hlt hj hT (hA hlt) h e0 H))
    · rw [em] at e
      rw [if_neg (by rw [e]; decide)] at e0
      rw [e0]
      exact qf_rp_nil
end
end
section
abbrev qf_Sg : Type := Int32 × Int32 × Int32 × (Nat → Int32) × (Nat → Int32) × (Nat → Int32) × (Nat → Int32) × (Nat → Int32) × (Nat → Int32)
/-- the tables are right where PA, PP say so -/
def qf_tb (w : qf_W) (c : Nat × Nat → Bool) (n : Nat) (PA : Nat → Nat → Nat → Prop) (PP : Nat → Nat → Prop) (a5 a6 a7 a8 a9 a10 : Nat → Int32) : Prop := (∀ t i j, t < 3 → i ≤ j → j ≤ n → PA t i j → qf_TA w c a8 a9 a10 t i j) ∧ (∀ i j, i < j → j < n → PP i j → qf_TP w c a5 a6 a7 i j)
def qf_PA (wd i T : Nat) (t i' j' : Nat) : Prop := j' - i' < wd ∨ (j' - i' = wd ∧ i' < i) ∨ (j' - i' = wd ∧ i' = i ∧ t < T)
def qf_PP (wd i : Nat) (i' j' : Nat) : Prop := j' + 1 - i' < wd ∨ (j' + 1 - i' = wd ∧ i' < i)
section
variable {g sz fo fs sc bc ac : Int32} {a1 a2 a3 a4 a5 a6 a7 a8 a9 a10 a11 a12 : Nat → Int32} {n : Nat} {ak : Nat → Nat} {kp : Nat → Nat → Bool} {w : qf_W} {c : Nat × Nat → Bool}
theorem qf_ix_ne {t t' i i' j j' : Nat} (hi : i ≤ 11) (hj : j ≤ 11) (hi' : i' ≤ 11) (hj' : j' ≤ 11) (h : 144 * t' + 12 * i' + j' = 144 * t + 12 * i + j) : t' = t ∧ i' = i ∧ j' = j := by
  have h1 : t' = t := by
    have a1 : 12 * i' + j' ≤ 143 := by omega
    have a2 : 12 * i + j ≤ 143 := by omega
    have a3 : 144 * t' + (12 * i' + j') = 144 * t + (12 * i + j) := by omega
    generalize 12 * i' + j' = A at a1 a3
    generalize 12 * i + j = B at a2 a3
    omega
  subst h1
  have h2 : i' = i := by omega
  omega
theorem qf_tb_weak {PA PA' : Nat → Nat → Nat → Prop} {PP PP' : Nat → Nat → Prop} (h : qf_tb w c n PA PP a5 a6 a7 a8 a9 a10) (hA : ∀ t i j, t < 3 → i ≤ j → j ≤ n → PA' t i j → PA t i j) (hP : ∀ i j, i < j → j < n → PP' i j → PP i j) : qf_tb w c n PA' PP' a5 a6 a7 a8 a9 a10 :=
  ⟨fun t i j h1 h2 h3 h4 => h.1 t i j h1 h2 h3 (hA t i j h1 h2 h3 h4), fun i j h1 h2 h3 => h.2 i j h1 h2 (hP i j h1 h2 h3)⟩
theorem qf_tb_A {PP : Nat → Nat → Prop} {wd i t : Nat} (hn : n ≤ 11) (hi : i + wd ≤ n) (ht : t < 3) (h : qf_tb w c n (qf_PA wd i t) PP a5 a6 a7 a8 a9 a10) (hr : qf_rp (qf_S w c t i (i + wd)) sc bc ac) :
    qf_tb w c n (qf_PA wd i (t + 1)) PP a5 a6 a7 (upd a8 (144 * t + 12 * i + (i + wd)) sc) (upd a9 (144 * t + 12 * i + (i + wd)) bc) (upd a10 (144 * t + 12 * i + (i + wd)) ac) := by
  refine ⟨fun t' i' j' h1 h2 h3 h4 => ?_, h.2⟩
  unfold qf_TA
  by_cases e : t' = t ∧ i' = i ∧ j' = i + wd
  · obtain ⟨e1, e2, e3⟩ := e
    subst e1
    subst e2
    subst e3
    rw [pk_us, pk_us, pk_us]
    exact hr
  · have ne : 144 * t' + 12 * i' + j' ≠ 144 * t + 12 * i + (i + wd) := fun hh => e (qf_ix_ne (by omega) (by omega) (by omega) (by omega) hh)
    rw [pk_un ne, pk_un ne, pk_un ne]
    refine h.1 t' i' j' h1 h2 h3 ?_
    unfold qf_PA at h4 ⊢
    omega
theorem qf_tb_P {PA : Nat → Nat → Nat → Prop} {wd i : Nat} (hn : n ≤ 11) (hi : i + (wd + 1) ≤ n) (h : qf_tb w c n PA (qf_PP (wd + 1) i) a5 a6 a7 a8 a9 a10) (hr : qf_rp (qf_S w c 3 i (i + wd)) sc bc ac) :
    qf_tb w c n PA (qf_PP (wd + 1) (i + 1)) (upd a5 (12 * i + (i + wd)) sc) (upd a6 (12 * i + (i + wd)) bc) (upd a7 (12 * i + (i + wd)) ac) a8 a9 a10 := by
  refine ⟨h.1, fun i' j' h1 h2 h3 => ?_⟩
  unfold qf_TP
  by_cases e : i' = i ∧ j' = i + wd
  · obtain ⟨e2, e3⟩ := e
    subst e2
    subst e3
    rw [pk_us, pk_us, pk_us]
    exact hr
  · have ne : 12 * i' + j' ≠ 12 * i + (i + wd) := by omega
    rw [pk_un ne, pk_un ne, pk_un ne]
    refine h.2 i' j' h1 h2 ?_
    unfold qf_PP at h3 ⊢
    omega
theorem qf_w_so38 {post : St1 → Prop} {J2 J12 : Int32 → Int32 → Int32 → Int32 → Int32 → Int32 → Int32 → Int32 → (Nat → Int32) → (Nat → Int32) → (Nat → Int32) → (Nat → Int32) → (Nat → Int32) → (Nat → Int32) → (Nat → Int32) → (Nat → Int32) → (Nat → Int32) → (Nat → Int32) → (Nat → Int32) → (Nat → Int32) → Prop} {wd i : Nat}
    (hH : qf_H g fo fs n a1 a3 a4 ak kp) (hi : i + wd ≤ n) (hT : qf_tb (qf_w a1 a4) (qf_ck ak kp) n (qf_PA wd i 0) (qf_PP wd (i + 1)) a5 a6 a7 a8 a9 a10)
    (H : ∀ sc' bc' ac' b5 b6 b7 b8 b9 b10, qf_tb (qf_w a1 a4) (qf_ck ak kp) n (qf_PA wd (i + 1) 0) (qf_PP wd (i + 1)) b5 b6 b7 b8 b9 b10 → J12 (nI (i + 1)) g (nI n) fo fs sc' bc' ac' a1 a2 a3 a4 b5 b6 b7 b8 b9 b10 a11 a12) :
    ∃ f, wX_solve_38 post J2 J12 (nI wd) (nI i) f 0 g (nI n) fo fs sc bc ac a1 a2 a3 a4 a5 a6 a7 a8 a9 a10 a11 a12 := by
  have hn := hH.1
  refine pk_loop (σ := qf_Sg) (fun f t s => wX_solve_38 post J2 J12 (nI wd) (nI i) f (nI t) g (nI n) fo fs s.1 s.2.1 s.2.2.1 a1 a2 a3 a4 s.2.2.2.1 s.2.2.2.2.1 s.2.2.2.2.2.1 s.2.2.2.2.2.2.1 s.2.2.2.2.2.2.2.1 s.2.2.2.2.2.2.2.2 a11 a12) (fun t s => qf_tb (qf_w a1 a4) (qf_ck ak kp) n (qf_PA wd i t) (qf_PP wd (i + 1)) s.2.2.2.1 s.2.2.2.2.1 s.2.2.2.2.2.1 s.2.2.2.2.2.2.1 s.2.2.2.2.2.2.2.1 s.2.2.2.2.2.2.2.2) 3 0 (sc, bc, ac, a5, a6, a7, a8, a9, a10) (by omega) hT ?_ ?_
  · intro f s h
    refine pk_le 3 3 (fun _ => nm_r (nI_1 i) (H _ _ _ _ _ _ _ _ _ (qf_tb_weak h (fun t i' j' h1 h2 h3 h4 => ?_) (fun i' j' h1 h2 h3 => h3)))) (fun z => absurd z (by omega))
    unfold qf_PA at h4 ⊢
    omega
  · intro f t s ht h hw2
    refine pk_le 3 t (fun z => absurd z (by omega)) (fun _ => qf_w_solveAny rfl (nI_add i wd) hH (by omega) hi (by omega) (fun k h1 h2 => h.2 i k h1 (by omega) ?_) (fun k h1 h2 => h.1 (t - 1) (k + 1) (i + wd) (by omega) (by omega) hi ?_) (fun h1 => h.1 t (i + 1) (i + wd) ht (by omega) hi ?_) (fun sc' bc' ac' h' => nm_r (nI_1 t) (hw2 (sc', bc', ac', s.2.2.2.1, s.2.2.2.2.1, s.2.2.2.2.2.1, _, _, _) (qf_tb_A hn hi ht h h'))))
    · unfold qf_PP
      omega
    · unfold qf_PA
      omega
    · unfold qf_PA
      omega
theorem qf_w_so12 {post : St1 → Prop} {J2 : Int32 → Int32 → Int32 → Int32 → Int32 → Int32 → Int32 → Int32 → (Nat → Int32) → (Nat → Int32) → (Nat → Int32) → (Nat → Int32) → (Nat → Int32) → (Nat → Int32) → (Nat → Int32) → (Nat → Int32) → (Nat → Int32) → (Nat → Int32) → (Nat → Int32) → (Nat → Int32) → Prop} {wd : Nat}
    (hH : qf_H g fo fs n a1 a3 a4 ak kp) (hi : wd ≤ n) (hT : qf_tb (qf_w a1 a4) (qf_ck ak kp) n (qf_PA wd 0 0) (qf_PP wd 0) a5 a6 a7 a8 a9 a10)
    (H : ∀ sc' bc' ac' b5 b6 b7 b8 b9 b10, qf_tb (qf_w a1 a4) (qf_ck ak kp) n (qf_PA (wd + 1) 0 0) (qf_PP (wd + 1) 0) b5 b6 b7 b8 b9 b10 → J2 (nI (wd + 1)) g (nI n) fo fs sc' bc' ac' a1 a2 a3 a4 b5 b6 b7 b8 b9 b10 a11 a12) :
    ∃ f, wX_solve_12 post J2 (nI wd) f 0 g (nI n) fo fs sc bc ac a1 a2 a3 a4 a5 a6 a7 a8 a9 a10 a11 a12 := by
  have hn := hH.1
  refine pk_loop (σ := qf_Sg) (fun f i s => wX_solve_12 post J2 (nI wd) f (nI i) g (nI n) fo fs s.1 s.2.1 s.2.2.1 a1 a2 a3 a4 s.2.2.2.1 s.2.2.2.2.1 s.2.2.2.2.2.1 s.2.2.2.2.2.2.1 s.2.2.2.2.2.2.2.1 s.2.2.2.2.2.2.2.2 a11 a12) (fun i s => qf_tb (qf_w a1 a4) (qf_ck ak kp) n (qf_PA wd i 0) (qf_PP wd i) s.2.2.2.1 s.2.2.2.2.1 s.2.2.2.2.2.1 s.2.2.2.2.2.2.1 s.2.2.2.2.2.2.2.1 s.2.2.2.2.2.2.2.2) (n + 1 - wd) 0 (sc, bc, ac, a5, a6, a7, a8, a9, a10) (by omega) hT ?_ ?_
  · intro f s h
    refine pk_lt n (n + 1 - wd + wd) (fun _ => nm_r (nI_1 wd) (H _ _ _ _ _ _ _ _ _ (qf_tb_weak h (fun t i' j' h1 h2 h3 h4 => ?_) (fun i' j' h1 h2 h3 => ?_)))) (fun z => absurd z (by omega)) rfl (nI_add _ _)
    · unfold qf_PA at h4 ⊢
      omega
    · unfold qf_PP at h3 ⊢
      omega
  · intro f i s hlt h hw2
    refine pk_lt n (i + wd) (fun z => absurd z (by omega)) (fun _ => pk_le wd 0 (fun z => ?_) (fun z => ?_)) rfl (nI_add _ _)
    · refine qf_w_so38 hH (by omega) (qf_tb_weak h (fun t i' j' h1 h2 h3 h4 => h4) (fun i' j' h1 h2 h3 => ?_)) (fun sc' bc' ac' b5 b6 b7 b8 b9 b10 h' => hw2 (sc', bc', ac', b5, b6, b7, b8, b9, b10) h')
      unfold qf_PP at h3 ⊢
      omega
    · obtain ⟨v, hv⟩ : ∃ v, wd = v + 1 := ⟨wd - 1, by omega⟩
      subst hv
      refine qf_w_solvePair (i := i) (j := i + v) rfl ?_ hH (by omega) (by omega) (fun k l h1 h2 h3 => h.2 k l h2 (by omega) ?_) (fun h1 => h.1 2 (i + 1) (i + v) (by omega) (by omega) (by omega) ?_) (fun sc' bc' ac' h' => qf_w_so38 hH (by omega) (qf_tb_P hn (by omega) h h') (fun sc' bc' ac' b5 b6 b7 b8 b9 b10 h' => hw2 (sc', bc', ac', b5, b6, b7, b8, b9, b10) h'))
      · rw [nI_add]
        exact nI_pred (i + v)
      · unfold qf_PP
        omega
      · unfold qf_PA
        omega
theorem qf_w_solve {post : St1 → Prop} (hH : qf_H g fo fs n a1 a3 a4 ak kp)
    (H : ∀ sc' bc' ac' b5 b6 b7 b8 b9 b10, qf_rp (qf_V (qf_w a1 a4) n ak kp) (b8 n) (b9 n) (b10 n) → post (g, nI n, fo, fs, sc', bc', ac', a1, a2, a3, a4, b5, b6, b7, b8, b9, b10, a11, a12)) :
    wpX_solve post (g, nI n, fo, fs, sc, bc, ac, a1, a2, a3, a4, a5, a6, a7, a8, a9, a10, a11, a12) := by
  have hn := hH.1
  refine pk_loop (σ := qf_Sg) (fun f wd s => wX_solve_2 post f (nI wd) g (nI n) fo fs s.1 s.2.1 s.2.2.1 a1 a2 a3 a4 s.2.2.2.1 s.2.2.2.2.1 s.2.2.2.2.2.1 s.2.2.2.2.2.2.1 s.2.2.2.2.2.2.2.1 s.2.2.2.2.2.2.2.2 a11 a12) (fun wd s => qf_tb (qf_w a1 a4) (qf_ck ak kp) n (qf_PA wd 0 0) (qf_PP wd 0) s.2.2.2.1 s.2.2.2.2.1 s.2.2.2.2.2.1 s.2.2.2.2.2.2.1 s.2.2.2.2.2.2.2.1 s.2.2.2.2.2.2.2.2) (n + 1) 0 (sc, bc, ac, a5, a6, a7, a8, a9, a10) (by omega) ⟨fun t i j h1 h2 h3 h4 => ?_, fun i j h1 h2 h3 => ?_⟩ ?_ ?_
  · unfold qf_PA at h4
    omega
  · unfold qf_PP at h3
    omega
  · intro f s h
    refine pk_lt n (n + 1) (fun _ => H _ _ _ _ _ _ _ _ _ ?_) (fun z => absurd z (by omega))
    have h1 := h.1 0 0 n (by omega) (by omega) (by omega) (Or.inl (by omega))
    unfold qf_TA at h1
    rw [show 144 * 0 + 12 * 0 + n = n by omega] at h1
    exact h1
  · intro f wd s hlt h hw2
    exact pk_lt n wd (fun z => absurd z (by omega)) (fun _ => qf_w_so12 hH (by omega) h (fun sc' bc' ac' b5 b6 b7 b8 b9 b10 h' => hw2 (sc', bc', ac', b5, b6, b7, b8, b9, b10) h'))
end
end
section
/-- the core of a state: what the law's reading calls leave as it is -/
def qf_C (g : Int32) (n : Nat) (a2 a4 : Nat → Int32) (hd : Nat → Nat) : Prop := n ≤ 11 ∧ 0 ≤ g.toInt ∧ (∀ p, p < n → a2 p = nI (hd p) ∧ hd p ≤ 3) ∧ qf_tn a4
/-- whatever the rest holds -/
def qf_all (g : Int32) (n : Nat) (a1 a2 a4 : Nat → Int32) (P : St1 → Prop) : Prop := ∀ (fo fs sc bc ac : Int32) (a3 a5 a6 a7 a8 a9 a10 a11 a12 : Nat → Int32), P (g, nI n, fo, fs, sc, bc, ac, a1, a2, a3, a4, a5, a6, a7, a8, a9, a10, a11, a12)
def qf_mx (V : List Int) (m : Int) : Prop := m ∈ V ∧ ∀ x, x ∈ V → x ≤ m
theorem qf_mx_ex : ∀ (V : List Int), V ≠ [] → ∃ m, qf_mx V m := by
  intro V
  induction V with
  | nil => exact fun h => absurd rfl h
  | cons x V ih =>
    intro _
    by_cases e : V = []
    · subst e
      exact ⟨x, List.mem_singleton.mpr rfl, fun y hy => by
        rw [List.mem_singleton.mp hy]
        exact Int.le_refl x⟩
    · obtain ⟨m, h1, h2⟩ := ih e
      by_cases h : x ≤ m
      · refine ⟨m, List.mem_cons.mpr (Or.inr h1), fun y hy => ?_⟩
        rcases List.mem_cons.mp hy with e1 | e1
        · rw [e1]
          exact h
        · exact h2 y e1
      · refine ⟨x, List.mem_cons.mpr (Or.inl rfl), fun y hy => ?_⟩
        rcases List.mem_cons.mp hy with e1 | e1
        · rw [e1]
          exact Int.le_refl x
        · have h3 := h2 y e1
          omega
theorem qf_mx_nn {V : List Int} {m : Int} (h : qf_mx V m) : V ≠ [] := List.ne_nil_of_mem h.1
theorem qf_rp_mx {V : List Int} {m : Int} {v b a : Int32} (h : qf_rp V v b a) (hm : qf_mx V m) : v = qf_i m := by
  obtain ⟨_, k, _, _, h4⟩ := h.1
  obtain ⟨_, m', h6, h7, h8⟩ := h4 (qf_mx_nn hm)
  have e1 := h8 m hm.1
  have e2 := hm.2 m' h7
  have e3 : m' = m := by omega
  rw [h6, e3]
section
variable {g sz fo fs sc bc ac : Int32} {a1 a2 a3 a4 a5 a6 a7 a8 a9 a10 a11 a12 : Nat → Int32} {n : Nat} {ak hd : Nat → Nat} {kp : Nat → Nat → Bool}
theorem qf_V_bd (hC : qf_C g n a2 a4 hd) (ak : Nat → Nat) (kp : Nat → Nat → Bool) : qf_bd (qf_V (qf_w a1 a4) n ak kp) := qf_S_bd (qf_wb_w hC.2.2.2) _ (by omega) (by have := hC.1; omega)
theorem qf_w_takeHeld {post : St1 → Prop} (hn : n ≤ 11) (H : ∀ b3, (∀ p, p < n → b3 p = a2 p) → post (g, nI n, -1, fs, sc, bc, ac, a1, a2, b3, a4, a5, a6, a7, a8, a9, a10, a11, a12)) : wpX_takeHeld post (g, nI n, fo, fs, sc, bc, ac, a1, a2, a3, a4, a5, a6, a7, a8, a9, a10, a11, a12) := by
  refine pk_loop (fun f i s => wX_takeHeld_2 post g (nI n) fo fs sc bc ac f (nI i) a1 a2 s a4 a5 a6 a7 a8 a9 a10 a11 a12) (fun i s => ∀ p, p < i → s p = a2 p) n 0 a3 (by omega) (fun p hp => absurd hp (by omega)) (fun f s h => pk_le n n (fun _ => H s h) (fun z => absurd z (by omega))) (fun f i s hi h hw => pk_le n i (fun z => absurd z (by omega)) (fun _ => ⟨pk_in i 11 (by omega), pk_in i 11 (by omega), nm_e (nm_r (nI_1 i) (hw _ ?_))⟩))
  rw [nI_clamp (show i < 2 ^ 31 by omega)]
  intro p hp
  by_cases e : p = i
  · rw [e, pk_us]
  · rw [pk_un e]
    exact h p (by omega)
theorem qf_H_held (hC : qf_C g n a2 a4 hd) (h3 : ∀ p, p < n → a3 p = nI (ak p) ∧ ak p ≤ 3) : qf_H g (-1) fs n a1 a3 a4 ak (qf_fit g a1) := by
  refine ⟨hC.1, h3, fun p q _ _ => ?_, hC.2.2.2⟩
  rw [qf_kt_t (Or.inl (by decide)), Bool.true_and]
theorem qf_held_H (hC : qf_C g n a2 a4 hd) (h3 : ∀ p, p < n → a3 p = a2 p) : qf_H g (-1) fs n a1 a3 a4 hd (qf_fit g a1) := qf_H_held hC (fun p hp => ⟨by rw [h3 p hp]; exact (hC.2.2.1 p hp).1, (hC.2.2.1 p hp).2⟩)
theorem qf_w_folds {post : Int32 → St1 → Prop} (hC : qf_C g n a2 a4 hd) (H : qf_all g n a1 a2 a4 (post (nI (qf_V (qf_w a1 a4) n hd (qf_fit g a1)).length))) : qf_all g n a1 a2 a4 (wpX_folds post) := by
  intro fo fs sc bc ac a3 a5 a6 a7 a8 a9 a10 a11 a12
  have hn := hC.1
  unfold wpX_folds
  refine qf_w_takeHeld hC.1 (fun b3 h3 => qf_w_solve (qf_held_H hC h3) (fun sc bc ac b5 b6 b7 b8 b9 b10 h => ⟨pk_in n 432 (by omega), ?_⟩))
  rw [nI_clamp (show n < 2 ^ 31 by omega), h.1.1]
  exact H _ _ _ _ _ _ _ _ _ _ _ _ _ _
theorem qf_w_best {post : Int32 → St1 → Prop} (hC : qf_C g n a2 a4 hd) (H0 : qf_V (qf_w a1 a4) n hd (qf_fit g a1) = [] → qf_all g n a1 a2 a4 (post (-1000))) (H1 : ∀ m, qf_mx (qf_V (qf_w a1 a4) n hd (qf_fit g a1)) m → qf_all g n a1 a2 a4 (post (qf_i m))) : qf_all g n a1 a2 a4 (wpX_best post) := by
  intro fo fs sc bc ac a3 a5 a6 a7 a8 a9 a10 a11 a12
  have hn := hC.1
  unfold wpX_best
  refine qf_w_takeHeld hC.1 (fun b3 h3 => qf_w_solve (qf_held_H hC h3) (fun sc bc ac b5 b6 b7 b8 b9 b10 h => ⟨pk_in n 432 (by omega), ?_⟩))
  rw [nI_clamp (show n < 2 ^ 31 by omega)]
  refine ek_if (qf_of_a0 h.1 (qf_V_bd hC _ _).1) (fun e => H0 e _ _ _ _ _ _ _ _ _ _ _ _ _ _) (fun e => ⟨pk_in n 432 (by omega), ?_⟩)
  obtain ⟨m, hm⟩ := qf_mx_ex _ e
  rw [qf_rp_mx h hm]
  exact H1 m hm _ _ _ _ _ _ _ _ _ _ _ _ _ _
theorem qf_w_bestFolds {post : Int32 → St1 → Prop} (hC : qf_C g n a2 a4 hd) (H : ∀ k, k ≤ (qf_V (qf_w a1 a4) n hd (qf_fit g a1)).length → (qf_V (qf_w a1 a4) n hd (qf_fit g a1) ≠ [] → 1 ≤ k) → qf_all g n a1 a2 a4 (post (nI k))) : qf_all g n a1 a2 a4 (wpX_bestFolds post) := by
  intro fo fs sc bc ac a3 a5 a6 a7 a8 a9 a10 a11 a12
  have hn := hC.1
  unfold wpX_bestFolds
  refine qf_w_takeHeld hC.1 (fun b3 h3 => qf_w_solve (qf_held_H hC h3) (fun sc bc ac b5 b6 b7 b8 b9 b10 h => ⟨pk_in n 432 (by omega), ?_⟩))
  rw [nI_clamp (show n < 2 ^ 31 by omega)]
  obtain ⟨_, k, h2, h3, h4⟩ := h.1
  rw [h2]
  exact H k h3 (fun e => (h4 e).1) _ _ _ _ _ _ _ _ _ _ _ _ _ _
/-! decide -/
theorem qf_w_d53 {post : Int32 → St1 → Prop} {J : Int32 → Int32 → Int32 → Int32 → Int32 → Int32 → Int32 → Int32 → (Nat → Int32) → (Nat → Int32) → (Nat → Int32) → (Nat → Int32) → (Nat → Int32) → (Nat → Int32) → (Nat → Int32) → (Nat → Int32) → (Nat → Int32) → (Nat → Int32) → (Nat → Int32) → (Nat → Int32) → Prop} {A : Nat → Nat} {k h f : Nat} {m : Int}
    (hC : qf_C g n a2 a4 hd) (hk : k < n) (hA : ∀ p, p < n → A p ≤ 3) (hh : h < 3) (hm : -1000 < m ∧ m < 1000) (hs : ∀ x, x ∈ qf_V (qf_w a1 a4) n (qf_up A k h) (qf_fit g a1) → x ≤ m) (h3 : ∀ p, p < n → p ≠ k → a3 p = nI (A p))
    (hy : m ∈ qf_V (qf_w a1 a4) n (qf_up A k h) (qf_fit g a1) → ∀ sc bc ac b3 b5 b6 b7 b8 b9 b10, (∀ p, p < n → b3 p = nI (qf_up A k h p)) → J (nI (k + 1)) g (nI n) (-1) fs sc bc ac a1 a2 b3 a4 b5 b6 b7 b8 b9 b10 a11 a12)
    (hno : m ∉ qf_V (qf_w a1 a4) n (qf_up A k h) (qf_fit g a1) → ∀ sc bc ac b3 b5 b6 b7 b8 b9 b10, (∀ p, p < n → p ≠ k → b3 p = nI (A p)) → wX_decide_53 post J (qf_i m) (nI k) f (nI (h + 1)) g (nI n) (-1) fs sc bc ac a1 a2 b3 a4 b5 b6 b7 b8 b9 b10 a11 a12) :
    wX_decide_53 post J (qf_i m) (nI k) (f + 1) (nI h) g (nI n) (-1) fs sc bc ac a1 a2 a3 a4 a5 a6 a7 a8 a9 a10 a11 a12 := by
  have hn := hC.1
  refine pk_le 3 h (fun z => absurd z (by omega)) (fun _ => ⟨pk_in k 11 (by omega), nm_e ?_⟩)
  rw [nI_clamp (show k < 2 ^ 31 by omega)]
  have hb : ∀ p, p < n → upd a3 k (nI h) p = nI (qf_up A k h p) := by
    intro p hp
    by_cases e : p = k
    · rw [e, pk_us, qf_up_s]
    · rw [pk_un e, qf_up_n _ _ e]
      exact h3 p hp e
  have hb3 : ∀ p, p < n → qf_up A k h p ≤ 3 := by
    intro p hp
    by_cases e : p = k
    · rw [e, qf_up_s]
      omega
    · rw [qf_up_n _ _ e]
      exact hA p hp
  have hoff : ∀ p, p < n → p ≠ k → upd a3 k (nI h) p = nI (A p) := fun p hp e => by
    rw [pk_un e]
    exact h3 p hp e
  refine qf_w_solve (qf_H_held hC (fun p hp => ⟨hb p hp, hb3 p hp⟩)) (fun sc' bc' ac' b5 b6 b7 b8 b9 b10 hr => ⟨pk_in n 432 (by omega), ?_⟩)
  rw [nI_clamp (show n < 2 ^ 31 by omega)]
  have hbd := qf_V_bd (a1 := a1) hC (qf_up A k h) (qf_fit g a1)
  refine ek_if (qf_of_ale hr.1 hbd.1) (fun e => nm_r (nI_1 h) (hno (by rw [e]; exact List.not_mem_nil) _ _ _ _ _ _ _ _ _ _ hoff)) (fun e => ⟨pk_in n 432 (by omega), ?_⟩)
  obtain ⟨m', hm'⟩ := qf_mx_ex _ e
  have hb' := hbd.2 m' hm'.1
  rw [qf_rp_mx hr hm']
  refine ek_if (qf_i_eq (by omega) (by omega) (by omega) (by omega)) (fun e2 => ⟨pk_in k 11 (by omega), nm_e (nm_r (nI_1 k) (hy (by rw [← e2]; exact hm'.1) _ _ _ _ _ _ _ _ _ _ ?_))⟩) (fun e2 => nm_r (nI_1 h) (hno (fun t => e2 ?_) _ _ _ _ _ _ _ _ _ _ hoff))
  · intro p hp
    by_cases e3 : p = k
    · rw [e3, pk_us, qf_up_s]
    · rw [pk_un e3]
      exact hb p hp
  · have q1 := hs m' hm'.1
    have q2 := hm'.2 m t
    omega
theorem qf_w_dd {post : Int32 → St1 → Prop} {J : Int32 → Int32 → Int32 → Int32 → Int32 → Int32 → Int32 → Int32 → (Nat → Int32) → (Nat → Int32) → (Nat → Int32) → (Nat → Int32) → (Nat → Int32) → (Nat → Int32) → (Nat → Int32) → (Nat → Int32) → (Nat → Int32) → (Nat → Int32) → (Nat → Int32) → (Nat → Int32) → Prop} {A : Nat → Nat} {k : Nat} {m : Int}
    (hC : qf_C g n a2 a4 hd) (hk : k < n) (hA : ∀ p, p < n → A p ≤ 3) (hm : -1000 < m ∧ m < 1000) (hs : ∀ h x, x ∈ qf_V (qf_w a1 a4) n (qf_up A k h) (qf_fit g a1) → x ≤ m) (h3 : ∀ p, p < n → a3 p = nI (A p))
    (hJ : ∀ sc bc ac b3 b5 b6 b7 b8 b9 b10, (∀ p, p < n → b3 p = nI (qf_up A k (qf_hw (qf_w a1 a4) n (qf_fit g a1) m A k) p)) → J (nI (k + 1)) g (nI n) (-1) fs sc bc ac a1 a2 b3 a4 b5 b6 b7 b8 b9 b10 a11 a12) :
    ∃ f, wX_decide_53 post J (qf_i m) (nI k) f 1 g (nI n) (-1) fs sc bc ac a1 a2 a3 a4 a5 a6 a7 a8 a9 a10 a11 a12 := by
  have hn := hC.1
  refine ⟨3, qf_w_d53 (h := 1) hC hk hA (by omega) hm (hs 1) (fun p hp _ => h3 p hp) (fun e => ?_) (fun e => ?_)⟩
  · have e1 : qf_hw (qf_w a1 a4) n (qf_fit g a1) m A k = 1 := if_pos e
    rw [e1] at hJ
    exact hJ
  · intro sc bc ac b3 b5 b6 b7 b8 b9 b10 hb
    refine qf_w_d53 (h := 2) hC hk hA (by omega) hm (hs 2) hb (fun e2 => ?_) (fun e2 => ?_)
    · have e1 : qf_hw (qf_w a1 a4) n (qf_fit g a1) m A k = 2 := by
        unfold qf_hw
        rw [if_neg e, if_pos e2]
      rw [e1] at hJ
      exact hJ
    · intro sc bc ac b3 b5 b6 b7 b8 b9 b10 hb
      have e1 : qf_hw (qf_w a1 a4) n (qf_fit g a1) m A k = 3 := by
        unfold qf_hw
        rw [if_neg e, if_neg e2]
      rw [e1] at hJ
      refine pk_le 3 3 (fun _ => ⟨pk_in k 11 (by omega), nm_e (nm_r (nI_1 k) (hJ _ _ _ _ _ _ _ _ _ _ ?_))⟩) (fun z => absurd z (by omega))
      rw [nI_clamp (show k < 2 ^ 31 by omega)]
      intro p hp
      by_cases e3 : p = k
      · rw [e3, pk_us, qf_up_s]
      · rw [pk_un e3, qf_up_n _ _ e3]
        exact hb p hp e3
/-- what decide() decides -/
def qf_D (g : Int32) (n : Nat) (a1 a4 : Nat → Int32) (hd : Nat → Nat) (m : Int) (k : Nat) : Nat → Nat := qf_dc (qf_w a1 a4) n (qf_fit g a1) m hd k
theorem qf_D_le (hC : qf_C g n a2 a4 hd) {m : Int} (hm : qf_mx (qf_V (qf_w a1 a4) n hd (qf_fit g a1)) m) {k : Nat} (hk : k ≤ n) : ∀ p, p < n → qf_D g n a1 a4 hd m k p ≤ 3 := by
  intro p hp
  have h := qf_dc_inv hm.1 (fun j hj => (hC.2.2.1 j hj).2) k hk
  by_cases e : p < k
  · exact (h.2.2.1 p e).2
  · have h2 := h.2.1 p (by omega)
    have h3 := (hC.2.2.1 p hp).2
    unfold qf_D
    omega
theorem qf_w_decide {post : Int32 → St1 → Prop} (hC : qf_C g n a2 a4 hd) (H0 : qf_V (qf_w a1 a4) n hd (qf_fit g a1) = [] → qf_all g n a1 a2 a4 (post 0))
    (H1 : ∀ m, qf_mx (qf_V (qf_w a1 a4) n hd (qf_fit g a1)) m → ∀ fo fs sc bc ac a3 a5 a6 a7 a8 a9 a10 a11 a12, (∀ p, p < n → a3 p = nI (qf_D g n a1 a4 hd m n p)) → post 1 (g, nI n, fo, fs, sc, bc, ac, a1, a2, a3, a4, a5, a6, a7, a8, a9, a10, a11, a12)) : qf_all g n a1 a2 a4 (wpX_decide post) := by
  intro fo fs sc bc ac a3 a5 a6 a7 a8 a9 a10 a11 a12
  have hn := hC.1
  unfold wpX_decide
  refine qf_w_takeHeld hC.1 (fun b3 h3 => qf_w_solve (qf_held_H hC h3) (fun sc bc ac b5 b6 b7 b8 b9 b10 h => ⟨pk_in n 432 (by omega), ?_⟩))
  rw [nI_clamp (show n < 2 ^ 31 by omega)]
  have hbd := qf_V_bd (a1 := a1) hC hd (qf_fit g a1)
  refine ek_if (qf_of_a0 h.1 hbd.1) (fun e => H0 e _ _ _ _ _ _ _ _ _ _ _ _ _ _) (fun e => ⟨pk_in n 432 (by omega), ?_⟩)
  obtain ⟨m, hm⟩ := qf_mx_ex _ e
  refine nm_r (qf_rp_mx h hm) ?_
  have hmb := hbd.2 m hm.1
  refine pk_loop (σ := Int32 × Int32 × Int32 × (Nat → Int32) × (Nat → Int32) × (Nat → Int32) × (Nat → Int32) × (Nat → Int32) × (Nat → Int32) × (Nat → Int32)) (fun f i s => wX_decide_34 post (qf_i m) f (nI i) g (nI n) (-1) fs s.1 s.2.1 s.2.2.1 a1 a2 s.2.2.2.1 a4 s.2.2.2.2.1 s.2.2.2.2.2.1 s.2.2.2.2.2.2.1 s.2.2.2.2.2.2.2.1 s.2.2.2.2.2.2.2.2.1 s.2.2.2.2.2.2.2.2.2 a11 a12) (fun i s => ∀ p, p < n → s.2.2.2.1 p = nI (qf_D g n a1 a4 hd m i p)) n 0 (sc, bc, ac, b3, b5, b6, b7, b8, b9, b10) (by omega) (fun p hp => (h3 p hp).trans (hC.2.2.1 p hp).1) (fun f s h => pk_le n n (fun _ => H1 m hm _ _ _ _ _ _ _ _ _ _ _ _ _ _ h) (fun z => absurd z (by omega))) ?_
  intro f i s hi h hw
  have hle := qf_D_le hC hm (show i ≤ n by omega)
  have hinv := qf_dc_inv hm.1 (fun j hj => (hC.2.2.1 j hj).2) i (show i ≤ n by omega)
  have e0 : qf_D g n a1 a4 hd m (i + 1) = if qf_D g n a1 a4 hd m i i = 0 then qf_up (qf_D g n a1 a4 hd m i) i (qf_hw (qf_w a1 a4) n (qf_fit g a1) m (qf_D g n a1 a4 hd m i) i) else qf_D g n a1 a4 hd m i := rfl
  refine pk_le n i (fun z => absurd z (by omega)) (fun _ => ⟨pk_in i 11 (by omega), ?_⟩)
  rw [nI_clamp (show i < 2 ^ 31 by omega), h i hi]
  have hi3 := hle i hi
  refine pk_eq (qf_D g n a1 a4 hd m i i) 0 (fun z => ?_) (fun z => nm_r (nI_1 i) (hw s ?_))
  · rw [if_pos z] at e0
    refine qf_w_dd hC hi hle hmb ?_ h (fun sc bc ac b3 b5 b6 b7 b8 b9 b10 hb => hw (sc, bc, ac, b3, b5, b6, b7, b8, b9, b10) ?_)
    · intro h' x hx
      refine hm.2 x ((qf_V_mono (fun p q _ _ hc => ?_)).2 x hx)
      obtain ⟨c1, c2⟩ := qf_ck_iff.mp hc
      refine qf_ck_iff.mpr ⟨?_, c2⟩
      by_cases e1 : p = i
      · left
        rw [e1, ← hinv.2.1 i (Nat.le_refl i)]
        exact z
      · rw [qf_up_n _ _ e1] at c1
        rcases hinv.2.2.2 p with e2 | e2
        · exact Or.inl e2
        · rw [← e2]
          exact c1
    · rw [e0]
      exact hb
  · rw [if_neg z] at e0
    rw [e0]
    exact h
theorem qf_D_in (hC : qf_C g n a2 a4 hd) {m : Int} (hm : qf_mx (qf_V (qf_w a1 a4) n hd (qf_fit g a1)) m) : ∀ p, p < n → 1 ≤ qf_D g n a1 a4 hd m n p ∧ qf_D g n a1 a4 hd m n p ≤ 3 := fun p hp => (qf_dc_inv hm.1 (fun j hj => (hC.2.2.1 j hj).2) n (Nat.le_refl n)).2.2.1 p hp
theorem qf_D_mx (hC : qf_C g n a2 a4 hd) {m : Int} (hm : qf_mx (qf_V (qf_w a1 a4) n hd (qf_fit g a1)) m) : qf_mx (qf_V (qf_w a1 a4) n (qf_D g n a1 a4 hd m n) (qf_fit g a1)) m := by
  have h := qf_dc_inv hm.1 (fun j hj => (hC.2.2.1 j hj).2) n (Nat.le_refl n)
  refine ⟨h.1, fun x hx => hm.2 x ((qf_V_mono (fun p q _ _ hc => ?_)).2 x hx)⟩
  obtain ⟨c1, c2⟩ := qf_ck_iff.mp hc
  refine qf_ck_iff.mpr ⟨?_, c2⟩
  rcases h.2.2.2 p with e2 | e2
  · exact Or.inl e2
  · rw [← e2]
    exact c1
/-! the code -/
def qf_cd (D : Nat → Nat) : Nat → Nat
  | 0 => 0
  | k + 1 => 3 * qf_cd D k + (D k - 1)
theorem qf_cd_lt {D : Nat → Nat} {k : Nat} (h : ∀ p, p < k → 1 ≤ D p ∧ D p ≤ 3) : qf_cd D k < 3 ^ k := by
  induction k with
  | zero => exact Nat.one_pos
  | succ k ih =>
    have h1 := ih (fun p hp => h p (by omega))
    have h2 := h k (by omega)
    show 3 * qf_cd D k + (D k - 1) < 3 ^ (k + 1)
    rw [Nat.pow_succ]
    omega
theorem qf_3n : ∀ k, k ≤ 11 → 3 ^ k ≤ 177147 := by
  intro k hk
  have h : ∀ k, k < 12 → 3 ^ k ≤ 177147 := by decide
  exact h k (by omega)
theorem qf_w_bestCode {post : Int32 → St1 → Prop} (hC : qf_C g n a2 a4 hd) (H0 : qf_V (qf_w a1 a4) n hd (qf_fit g a1) = [] → qf_all g n a1 a2 a4 (post (-1)))
    (H1 : ∀ m, qf_mx (qf_V (qf_w a1 a4) n hd (qf_fit g a1)) m → qf_all g n a1 a2 a4 (post (nI (qf_cd (qf_D g n a1 a4 hd m n) n)))) : qf_all g n a1 a2 a4 (wpX_bestCode post) := by
  intro fo fs sc bc ac a3 a5 a6 a7 a8 a9 a10 a11 a12
  have hn := hC.1
  unfold wpX_bestCode
  refine qf_w_decide hC (fun e fo fs sc bc ac a3 a5 a6 a7 a8 a9 a10 a11 a12 => br_t rfl (H0 e _ _ _ _ _ _ _ _ _ _ _ _ _ _)) (fun m hm fo fs sc bc ac a3 a5 a6 a7 a8 a9 a10 a11 a12 h3 => br_f (by decide) ?_) _ _ _ _ _ _ _ _ _ _ _ _ _ _
  refine pk_loop (σ := Unit) (fun f i _ => wX_bestCode_13 post g (nI n) fo fs sc bc ac a1 a2 a3 a4 a5 a6 a7 a8 a9 a10 a11 a12 f (nI (qf_cd (qf_D g n a1 a4 hd m n) i)) (nI i)) (fun _ _ => True) n 0 () (by omega) trivial (fun f _ _ => pk_le n n (fun _ => H1 m hm _ _ _ _ _ _ _ _ _ _ _ _ _ _) (fun z => absurd z (by omega))) ?_
  intro f i _ hi _ hw
  refine pk_le n i (fun z => absurd z (by omega)) (fun _ => ⟨pk_in i 11 (by omega), nm_r (e' := nI (qf_cd (qf_D g n a1 a4 hd m n) (i + 1))) ?_ (nm_r (nI_1 i) (hw () trivial))⟩)
  have h4 := qf_D_in hC hm i hi
  rw [nI_clamp (show i < 2 ^ 31 by omega), h3 i hi, show (3 : Int32) = nI 3 from rfl, pk_mul, nI_add]
  show nI (3 * qf_cd (qf_D g n a1 a4 hd m n) i + qf_D g n a1 a4 hd m n i) - nI 1 = _
  rw [pk_sub (by omega)]
  congr 1
  show _ = 3 * qf_cd (qf_D g n a1 a4 hd m n) i + (qf_D g n a1 a4 hd m n i - 1)
  omega
theorem qf_w_scoreOf {post : Int32 → St1 → Prop} (hC : qf_C g n a2 a4 hd) {m : Int} (hm : qf_mx (qf_V (qf_w a1 a4) n hd (qf_fit g a1)) m) (H : qf_all g n a1 a2 a4 (post (qf_i m))) : qf_all g n a1 a2 a4 (fun u => wpX_scoreOf post u (nI (qf_cd (qf_D g n a1 a4 hd m n) n))) := by
  intro fo fs sc bc ac a3 a5 a6 a7 a8 a9 a10 a11 a12
  have hn := hC.1
  have hD := qf_D_in hC hm
  have hlt : ∀ k, k ≤ n → qf_cd (qf_D g n a1 a4 hd m n) k < 3 ^ k := fun k hk => qf_cd_lt (fun p hp => hD p (by omega))
  have hlt2 : ∀ k, k ≤ n → qf_cd (qf_D g n a1 a4 hd m n) k < 177147 := fun k hk => Nat.lt_of_lt_of_le (hlt k hk) (qf_3n k (by omega))
  refine pk_loop (σ := Unit) (fun f i _ => wX_scoreOf_4 post (nI (qf_cd (qf_D g n a1 a4 hd m n) n)) g (nI n) fo fs sc bc ac a1 a2 a3 a4 a5 a6 a7 a8 a9 a10 a11 a12 f (nI (3 ^ i)) (nI i)) (fun _ _ => True) n 0 () (by omega) trivial ?_ ?_
  · intro f _ _
    have q1 := hlt n (Nat.le_refl n)
    have q2 := qf_3n n hn
    have q3 := hlt2 n (Nat.le_refl n)
    refine pk_le n n (fun _ => br_f (nI_pos (by omega)) (pk_lt (qf_cd (qf_D g n a1 a4 hd m n) n) (3 ^ n) (fun _ => nm_e ?_) (fun z => absurd z (by omega)))) (fun z => absurd z (by omega))
    refine ⟨n + 1, pk_loopD (fun f r s => wX_scoreOf_45 post g (nI n) fo fs sc bc ac f (nI (qf_cd (qf_D g n a1 a4 hd m n) r)) (nI r - 1) a1 a2 s a4 a5 a6 a7 a8 a9 a10 a11 a12) (fun r s => r ≤ n ∧ ∀ p, r ≤ p → p < n → s p = nI (qf_D g n a1 a4 hd m n p)) ?_ ?_ n a3 ⟨Nat.le_refl n, fun p h1 h2 => absurd h2 (by omega)⟩⟩
    · intro f s h
      refine br_t (by decide) (qf_w_solve (ak := qf_D g n a1 a4 hd m n) (kp := qf_fit g a1) (qf_H_held hC (fun p hp => ⟨h.2 p (by omega) hp, (hD p hp).2⟩)) (fun sc' bc' ac' b5 b6 b7 b8 b9 b10 hr => ⟨pk_in n 432 (by omega), ?_⟩))
      rw [nI_clamp (show n < 2 ^ 31 by omega)]
      have hbd := qf_V_bd (a1 := a1) hC (qf_D g n a1 a4 hd m n) (qf_fit g a1)
      refine ek_if (qf_of_a0 hr.1 hbd.1) (fun e => absurd e (qf_mx_nn (qf_D_mx hC hm))) (fun e => ⟨pk_in n 432 (by omega), ?_⟩)
      rw [qf_rp_mx hr (qf_D_mx hC hm)]
      exact H _ _ _ _ _ _ _ _ _ _ _ _ _ _
    · intro f r s h hw
      show wX_scoreOf_45 post g (nI n) fo fs sc bc ac (f + 1) (nI (qf_cd (qf_D g n a1 a4 hd m n) (r + 1))) (nI (r + 1) - 1) a1 a2 s a4 a5 a6 a7 a8 a9 a10 a11 a12
      have hr := h.1
      have q4 := hlt2 (r + 1) hr
      have q5 := hD r (by omega)
      have e0 : qf_cd (qf_D g n a1 a4 hd m n) (r + 1) = 3 * qf_cd (qf_D g n a1 a4 hd m n) r + (qf_D g n a1 a4 hd m n r - 1) := rfl
      rw [nI_pred]
      have e1 : nI (qf_cd (qf_D g n a1 a4 hd m n) (r + 1)) - nI (qf_cd (qf_D g n a1 a4 hd m n) (r + 1)) / 3 * 3 + 1 = nI (qf_D g n a1 a4 hd m n r) := by
        rw [show (3 : Int32) = nI 3 from rfl, pk_rem (by omega) (by omega) (by omega), nI_1]
        congr 1
        omega
      have e2 : nI (qf_cd (qf_D g n a1 a4 hd m n) (r + 1)) / 3 = nI (qf_cd (qf_D g n a1 a4 hd m n) r) := by
        rw [show (3 : Int32) = nI 3 from rfl, pk_div (by omega) (by omega) (by omega)]
        congr 1
        omega
      refine br_f (nI_pos (by omega)) ⟨by decide, pk_in r 11 (by omega), nm_r (e' := upd s r (nI (qf_D g n a1 a4 hd m n r))) (by rw [e1, nI_clamp (show r < 2 ^ 31 by omega)]) ⟨by decide, nm_r e2 (nm_r (e' := nI r - 1) (Int32.sub_eq_add_neg (nI r) 1).symm (hw _ ⟨by omega, fun p h1 h2 => ?_⟩))⟩⟩
      by_cases e : p = r
      · rw [e, pk_us]
      · rw [pk_un e]
        exact h.2 p (by omega) h2
  · intro f i _ hi _ hw
    refine pk_le n i (fun z => absurd z (by omega)) (fun _ => nm_r (e' := nI (3 ^ (i + 1))) ?_ (nm_r (nI_1 i) (hw () trivial)))
    rw [Nat.pow_succ]
    exact pk_mul (3 ^ i) 3
end
end
section
section
variable {g sz fo fs sc bc ac : Int32} {a1 a2 a3 a4 a5 a6 a7 a8 a9 a10 a11 a12 : Nat → Int32} {n : Nat} {ak hd : Nat → Nat} {kp : Nat → Nat → Bool}
theorem qf_w_isPlace {post : Int32 → Prop} {p : Nat} (hn : n ≤ 11) (hp : p ≤ 11) (H1 : p < n → post 1) (H0 : n ≤ p → post 0) : wpX_isPlace post (g, nI n, fo, fs, sc, bc, ac, a1, a2, a3, a4, a5, a6, a7, a8, a9, a10, a11, a12) (nI p) := by
  refine br_f (nI_pos (by omega)) (pk_le n p (fun z => H0 z) (fun z => H1 z))
theorem qf_fit_lt {i j : Nat} (hg : 0 ≤ g.toInt) (hi : i < 11) (hj : j < 11) (h : qf_fit g a1 i j = true) : i < j := by
  have h1 := (qf_fit_iff.mp h).1
  apply Classical.byContradiction
  intro hlt
  apply h1
  rw [Int32.le_iff_toInt_le, pk_sub_toInt (by omega) (by omega)]
  omega
theorem qf_w_fits {post : Int32 → Prop} {i j : Nat} (hn : n ≤ 11) (hi : i < n) (hj : j < n) (H1 : qf_fit g a1 i j = true → post 1) (H0 : qf_fit g a1 i j = false → post 0) : wpX_fits post (g, nI n, fo, fs, sc, bc, ac, a1, a2, a3, a4, a5, a6, a7, a8, a9, a10, a11, a12) (nI i) (nI j) := by
  unfold wpX_fits
  refine qf_w_isPlace hn (by omega) (fun _ => br_f (by decide) (qf_w_isPlace hn (by omega) (fun _ => br_f (by decide) (qf_w_doFit (by omega) (by omega) (fun e => br_f (by decide) (H1 e)) (fun e => br_t rfl (H0 e)))) (fun z => absurd z (by omega)))) (fun z => absurd z (by omega))
theorem qf_w_fits_no {post : Int32 → Prop} {j : Int32} (hn : n ≤ 11) (H : post (-1)) : wpX_fits post (g, nI n, fo, fs, sc, bc, ac, a1, a2, a3, a4, a5, a6, a7, a8, a9, a10, a11, a12) (nI n) j := by
  unfold wpX_fits
  exact qf_w_isPlace hn hn (fun z => absurd z (by omega)) (fun _ => br_t rfl H)
/-! partner -/
def qf_stk : List Nat → (Nat → Int32) → Prop
  | [], _ => True
  | t :: S, a => a S.length = nI t ∧ qf_stk S a
theorem qf_stk_up {S : List Nat} {a : Nat → Int32} {k : Nat} {x : Int32} (h : qf_stk S a) (hk : S.length ≤ k) : qf_stk S (upd a k x) := by
  induction S with
  | nil => trivial
  | cons t S ih =>
    have hk' : S.length + 1 ≤ k := hk
    refine ⟨?_, ih h.2 (by omega)⟩
    rw [pk_un (by omega)]
    exact h.1
theorem qf_drop {e : List (Nat × Nat)} {k : Nat} (h : qf_wf 0 n e) (hk : k < n) : ∃ q, (k, q) ∈ e ∧ e.drop k = (k, q) :: e.drop (k + 1) := by
  have hl : e.length = n := by
    have h1 := congrArg List.length h.1
    rw [List.length_map, List.length_range'] at h1
    exact h1
  have hk' : k < e.length := by omega
  have h2 : e[k].1 = k := by
    have h3 : (e.map (fun x => x.1))[k]'(by rw [List.length_map]; exact hk') = (List.range' 0 n)[k]'(by rw [List.length_range']; exact hk) := List.getElem_of_eq h.1 _
    rw [List.getElem_map, List.getElem_range'] at h3
    omega
  refine ⟨e[k].2, ?_, ?_⟩
  · have h4 : (k, e[k].2) = e[k] := Prod.ext h2.symm rfl
    rw [h4]
    exact List.getElem_mem hk'
  · rw [List.drop_eq_getElem_cons hk']
    congr 1
    exact Prod.ext h2 rfl
theorem qf_pu_up {a : Nat → Int32} {f : Nat → Int} {k : Nat} {x : Int32} {s : Int} (h : ∀ j, a j = qf_i (f j)) (hx : x = qf_i s) : ∀ j, upd a k x j = qf_i (qf_pu f k s j) := by
  intro j
  by_cases e : j = k
  · rw [e, pk_us, qf_pu_s]
    exact hx
  · rw [pk_un e, qf_pu_n _ _ e]
    exact h j
theorem qf_w_pa24 {post : Int32 → St1 → Prop} {e : List (Nat × Nat)} {p q : Nat} (hn : n ≤ 11) (hp : p < n) (hw : qf_wf 0 n e) (h3 : ∀ p q, (p, q) ∈ e → a3 p = nI (qf_dg p q)) (hq : (p, q) ∈ e)
    (H : ∀ b11 b12, post (qf_i (qf_vl p q)) (g, nI n, fo, fs, sc, bc, ac, a1, a2, a3, a4, a5, a6, a7, a8, a9, a10, b11, b12)) : ∃ f, wX_partner_24 post (nI p) g (nI n) fo fs sc bc ac f 0 0 a1 a2 a3 a4 a5 a6 a7 a8 a9 a10 a11 a12 := by
  obtain ⟨ff, r1, r2, _⟩ := hw.2.2 [] [] (fun j => (a12 j).toInt)
  rw [List.append_nil] at r1
  refine pk_loop (σ := Int32 × (Nat → Int32) × (Nat → Int32)) (fun f i s => wX_partner_24 post (nI p) g (nI n) fo fs sc bc ac f s.1 (nI i) a1 a2 a3 a4 a5 a6 a7 a8 a9 a10 s.2.1 s.2.2) (fun i s => ∃ St pf, s.1 = nI St.length ∧ St.length ≤ i ∧ (∀ t, t ∈ St → t < i) ∧ qf_stk St s.2.1 ∧ (∀ j, s.2.2 j = qf_i (pf j)) ∧ qf_run (e.drop i) St pf = some ([], ff)) n 0 (0, a11, a12) (by omega) ⟨[], fun j => (a12 j).toInt, rfl, Nat.le_refl 0, fun t ht => absurd ht List.not_mem_nil, trivial, fun j => (qf_i_of _).symm, by rw [List.drop_zero, r1]; rfl⟩ ?_ ?_
  · rintro f s ⟨St, pf, h1, h2, h4, h5, h6, h7⟩
    have hl : e.length = n := by
      have h1 := congrArg List.length hw.1
      rw [List.length_map, List.length_range'] at h1
      exact h1
    rw [List.drop_eq_nil_of_le (by omega)] at h7
    have h8 : (St, pf) = ([], ff) := Option.some.inj h7
    have h9 : pf = ff := (Prod.mk.inj h8).2
    refine pk_le n n (fun _ => ⟨pk_in p 11 (by omega), ?_⟩) (fun z => absurd z (by omega))
    rw [nI_clamp (show p < 2 ^ 31 by omega), h6 p, h9, r2 (p, q) hq]
    exact H _ _
  · intro f i s hi h hw2
    obtain ⟨d, b11, b12⟩ := s
    obtain ⟨St, pf, h1, h2, h4, h5, h6, h7⟩ := h
    have h1' : d = nI St.length := h1
    subst h1'
    have h5' : qf_stk St b11 := h5
    have h6' : ∀ j, b12 j = qf_i (pf j) := h6
    obtain ⟨q', hq', hd'⟩ := qf_drop hw hi
    rw [hd'] at h7
    have h3i := h3 i q' hq'
    have hpq := qf_wf_pq hw hq'
    show wX_partner_24 post (nI p) g (nI n) fo fs sc bc ac (f + 1) (nI St.length) (nI i) a1 a2 a3 a4 a5 a6 a7 a8 a9 a10 b11 b12
    refine pk_le n i (fun z => absurd z (by omega)) (fun _ => ⟨pk_in i 11 (by omega), nm_e ⟨pk_in i 11 (by omega), ?_⟩⟩)
    rw [nI_clamp (show i < 2 ^ 31 by omega), h3i]
    have hu : ∀ j, upd b12 i (-2) j = qf_i (qf_pu pf i (-2) j) := qf_pu_up h6' rfl
    rcases Nat.lt_trichotomy i q' with hlt | heq | hgt
    · rw [qf_dg2 hlt]
      rw [qf_run2 hlt] at h7
      refine br_t rfl ⟨pk_in St.length 11 (by omega), nm_e (nm_r (nI_1 St.length) (nm_r (nI_1 i) (hw2 (nI (St.length + 1), _, upd b12 i (-2)) ⟨i :: St, qf_pu pf i (-2), rfl, Nat.succ_le_succ h2, fun t ht => ?_, ?_, hu, h7⟩)))⟩
      · rcases List.mem_cons.mp ht with e1 | e1
        · omega
        · have h8 := h4 t e1
          omega
      · show qf_stk (i :: St) (upd b11 (nI St.length).toNatClampNeg (nI i))
        rw [nI_clamp (show St.length < 2 ^ 31 by omega)]
        exact ⟨pk_us, qf_stk_up h5' (Nat.le_refl _)⟩
    · subst heq
      rw [qf_dg1]
      rw [qf_run1] at h7
      exact br_f (by decide) ⟨pk_in i 11 (by omega), br_f (by decide) (nm_r (nI_1 i) (hw2 (nI St.length, b11, upd b12 i (-2)) ⟨St, qf_pu pf i (-2), rfl, Nat.le_succ_of_le h2, fun t ht => Nat.lt_succ_of_lt (h4 t ht), h5', hu, h7⟩))⟩
    · rw [qf_dg3 hgt]
      cases St with
      | nil =>
        rw [qf_run3n hgt] at h7
        exact absurd h7 (by
          intro h8
          cases h8)
      | cons t St' =>
        rw [qf_run3 hgt] at h7
        have hl : St'.length + 1 ≤ i := h2
        have ht : t < i := h4 t (List.mem_cons.mpr (Or.inl rfl))
        have ha : b11 St'.length = nI t := h5'.1
        refine br_f (by decide) ⟨pk_in i 11 (by omega), br_t rfl (nm_r (pk_m1 St'.length) ⟨pk_in St'.length 11 (by omega), pk_in i 11 (by omega), ?_⟩)⟩
        rw [nI_clamp (show St'.length < 2 ^ 31 by omega), ha]
        refine nm_e ⟨pk_in St'.length 11 (by omega), pk_in t 11 (by omega), ?_⟩
        rw [nI_clamp (show t < 2 ^ 31 by omega)]
        have hu2 : ∀ j, upd (upd b12 i (-2)) i (nI t) j = qf_i (qf_pu (qf_pu pf i (-2)) i t j) := qf_pu_up hu (qf_i_nat t).symm
        have hu3 : ∀ j, upd (upd (upd b12 i (-2)) i (nI t)) t (nI i) j = qf_i (qf_pu (qf_pu (qf_pu pf i (-2)) i t) t i j) := qf_pu_up hu2 (qf_i_nat i).symm
        exact nm_e (nm_r (nI_1 i) (hw2 (nI St'.length, b11, upd (upd (upd b12 i (-2)) i (nI t)) t (nI i)) ⟨St', _, rfl, by omega, fun y hy => Nat.lt_succ_of_lt (h4 y (List.mem_cons.mpr (Or.inr hy))), h5'.2, hu3, h7⟩))
theorem qf_w_partner {post : Int32 → St1 → Prop} {p : Nat} (hC : qf_C g n a2 a4 hd) (hp : p < n) (H0 : qf_V (qf_w a1 a4) n hd (qf_fit g a1) = [] → qf_all g n a1 a2 a4 (post (-2)))
    (H1 : ∀ m, qf_mx (qf_V (qf_w a1 a4) n hd (qf_fit g a1)) m → ∃ e q, qf_wf 0 n e ∧ (∀ p q, (p, q) ∈ e → qf_D g n a1 a4 hd m n p = qf_dg p q) ∧ (p, q) ∈ e ∧ qf_all g n a1 a2 a4 (post (qf_i (qf_vl p q)))) : qf_all g n a1 a2 a4 (fun u => wpX_partner post u (nI p)) := by
  intro fo fs sc bc ac a3 a5 a6 a7 a8 a9 a10 a11 a12
  have hn := hC.1
  show wpX_partner post (g, nI n, fo, fs, sc, bc, ac, a1, a2, a3, a4, a5, a6, a7, a8, a9, a10, a11, a12) (nI p)
  unfold wpX_partner
  refine qf_w_isPlace hn (by omega) (fun _ => br_f (by decide) (qf_w_decide hC (fun e fo fs sc bc ac a3 a5 a6 a7 a8 a9 a10 a11 a12 => br_t rfl (H0 e _ _ _ _ _ _ _ _ _ _ _ _ _ _)) (fun m hm fo fs sc bc ac a3 a5 a6 a7 a8 a9 a10 a11 a12 h3 => br_f (by decide) ?_) _ _ _ _ _ _ _ _ _ _ _ _ _ _)) (fun z => absurd z (by omega))
  obtain ⟨e, q, w1, w2, w3, w4⟩ := H1 m hm
  exact qf_w_pa24 hn hp w1 (fun p q h => by rw [h3 p (qf_wf_pq w1 h).1, w2 p q h]) w3 (fun b11 b12 => w4 _ _ _ _ _ _ _ _ _ _ _ _ _ _)
theorem qf_w_partner_no {post : Int32 → St1 → Prop} (hn : n ≤ 11) (H : post (-1) (g, nI n, fo, fs, sc, bc, ac, a1, a2, a3, a4, a5, a6, a7, a8, a9, a10, a11, a12)) : wpX_partner post (g, nI n, fo, fs, sc, bc, ac, a1, a2, a3, a4, a5, a6, a7, a8, a9, a10, a11, a12) (nI n) := by
  unfold wpX_partner
  exact qf_w_isPlace hn hn (fun z => absurd z (by omega)) (fun _ => br_t rfl H)
/-! a pair is asked for -/
def qf_ok (hd : Nat → Nat) (i j : Nat) : Prop := i < j ∧ (hd i = 0 ∨ hd i = 2) ∧ (hd j = 0 ∨ hd j = 3)
/-- the folds with this pair -/
def qf_WL (g : Int32) (n : Nat) (a1 a4 : Nat → Int32) (hd : Nat → Nat) (i j : Nat) : List Int := if i < j ∧ (hd i = 0 ∨ hd i = 2) ∧ (hd j = 0 ∨ hd j = 3) then qf_V (qf_w a1 a4) n (qf_wa hd i j) (qf_wk (qf_fit g a1) i j) else []
theorem qf_w_sw49 {post : Int32 → St1 → Prop} {i j : Nat} (hC : qf_C g n a2 a4 hd) (hij : i < j) (hj : j < n) (h3 : ∀ p, p < n → a3 p = nI (hd p))
    (H : ∀ fo fs sc bc ac a3 a5 a6 a7 a8 a9 a10 a11 a12, qf_rp (qf_V (qf_w a1 a4) n (qf_wa hd i j) (qf_wk (qf_fit g a1) i j)) (a8 n) (a9 n) (a10 n) → (qf_V (qf_w a1 a4) n (qf_wa hd i j) (qf_wk (qf_fit g a1) i j) = [] → post 0 (g, nI n, fo, fs, sc, bc, ac, a1, a2, a3, a4, a5, a6, a7, a8, a9, a10, a11, a12)) ∧ (qf_V (qf_w a1 a4) n (qf_wa hd i j) (qf_wk (qf_fit g a1) i j) ≠ [] → post 1 (g, nI n, fo, fs, sc, bc, ac, a1, a2, a3, a4, a5, a6, a7, a8, a9, a10, a11, a12))) :
    wX_solveWith_49 post (nI i) (nI j) g (nI n) fo fs sc bc ac a1 a2 a3 a4 a5 a6 a7 a8 a9 a10 a11 a12 := by
  have hn := hC.1
  refine ⟨pk_in i 11 (by omega), nm_e ⟨pk_in j 11 (by omega), nm_e ?_⟩⟩
  rw [nI_clamp (show i < 2 ^ 31 by omega), nI_clamp (show j < 2 ^ 31 by omega)]
  have hH : qf_H g (nI i) (nI j) n a1 (upd (upd a3 i 2) j 3) a4 (qf_wa hd i j) (qf_wk (qf_fit g a1) i j) := by
    refine ⟨hn, fun p hp => ?_, fun p q hpq hq => ?_, hC.2.2.2⟩
    · unfold qf_wa
      by_cases e : p = j
      · rw [e, pk_us, qf_up_s]
        exact ⟨rfl, by omega⟩
      · rw [pk_un e, qf_up_n _ _ e]
        by_cases e' : p = i
        · rw [e', pk_us, qf_up_s]
          exact ⟨rfl, by omega⟩
        · rw [pk_un e', qf_up_n _ _ e']
          exact ⟨h3 p hp, (hC.2.2.1 p hp).2⟩
    · unfold qf_wk qf_kt
      congr 1
      refine decide_eq_decide.mpr ?_
      rw [nI_eq (by omega) (by omega), nI_eq (by omega) (by omega)]
      constructor
      · exact fun h => Or.inr h
      · rintro (h | h)
        · exact absurd h (nI_pos (by omega))
        · exact h
  refine qf_w_solve hH (fun sc' bc' ac' b5 b6 b7 b8 b9 b10 hr => ⟨pk_in n 432 (by omega), ?_⟩)
  rw [nI_clamp (show n < 2 ^ 31 by omega)]
  have h := H (nI i) (nI j) sc' bc' ac' (upd (upd a3 i 2) j 3) b5 b6 b7 b8 b9 b10 a11 a12 hr
  exact ek_if (qf_of_ale hr.1 (qf_V_bd hC _ _).1) (fun e => h.1 e) (fun e => h.2 e)
theorem qf_w_solveWith {post : Int32 → St1 → Prop} {i j : Nat} (hC : qf_C g n a2 a4 hd) (hi : i < n) (hj : j < n) (H0 : qf_WL g n a1 a4 hd i j = [] → qf_all g n a1 a2 a4 (post 0))
    (H1 : qf_WL g n a1 a4 hd i j ≠ [] → ∀ fo fs sc bc ac a3 a5 a6 a7 a8 a9 a10 a11 a12, qf_rp (qf_WL g n a1 a4 hd i j) (a8 n) (a9 n) (a10 n) → post 1 (g, nI n, fo, fs, sc, bc, ac, a1, a2, a3, a4, a5, a6, a7, a8, a9, a10, a11, a12)) : wpX_solveWith post (g, nI n, fo, fs, sc, bc, ac, a1, a2, a3, a4, a5, a6, a7, a8, a9, a10, a11, a12) (nI i) (nI j) := by
  have hn := hC.1
  have no : ¬ (i < j ∧ (hd i = 0 ∨ hd i = 2) ∧ (hd j = 0 ∨ hd j = 3)) → qf_all g n a1 a2 a4 (post 0) := fun h => H0 (if_neg h)
  unfold wpX_solveWith
  refine qf_w_takeHeld hn (fun b3 h3 => ?_)
  have h3' : ∀ p, p < n → b3 p = nI (hd p) := fun p hp => by
    rw [h3 p hp]
    exact (hC.2.2.1 p hp).1
  refine pk_le j i (fun z => no (by omega) _ _ _ _ _ _ _ _ _ _ _ _ _ _) (fun hlt => ?_)
  have yes : (hd i = 0 ∨ hd i = 2) → (hd j = 0 ∨ hd j = 3) → wX_solveWith_49 post (nI i) (nI j) g (nI n) (-1) fs sc bc ac a1 a2 b3 a4 a5 a6 a7 a8 a9 a10 a11 a12 := by
    intro y1 y2
    have eW : qf_WL g n a1 a4 hd i j = qf_V (qf_w a1 a4) n (qf_wa hd i j) (qf_wk (qf_fit g a1) i j) := if_pos ⟨hlt, y1, y2⟩
    rw [eW] at H0 H1
    exact qf_w_sw49 hC hlt hj h3' (fun fo fs sc bc ac a3 a5 a6 a7 a8 a9 a10 a11 a12 hr => ⟨fun e => H0 e _ _ _ _ _ _ _ _ _ _ _ _ _ _, fun e => H1 e _ _ _ _ _ _ _ _ _ _ _ _ _ _ hr⟩)
  have hi4 := (hC.2.2.1 i hi).2
  have hj4 := (hC.2.2.1 j hj).2
  have mid : (hd i = 0 ∨ hd i = 2) → wX_solveWith_28 post (nI i) (nI j) g (nI n) (-1) fs sc bc ac a1 a2 b3 a4 a5 a6 a7 a8 a9 a10 a11 a12 := by
    intro y1
    refine ⟨pk_in j 11 (by omega), ?_⟩
    rw [nI_clamp (show j < 2 ^ 31 by omega), (hC.2.2.1 j hj).1]
    exact pk_eq (hd j) 0 (fun z => yes y1 (Or.inl z)) (fun z => ⟨pk_in j 11 (by omega), pk_eq (hd j) 3 (fun z2 => yes y1 (Or.inr z2)) (fun z2 => no (by omega) _ _ _ _ _ _ _ _ _ _ _ _ _ _)⟩)
  refine ⟨pk_in i 11 (by omega), ?_⟩
  rw [nI_clamp (show i < 2 ^ 31 by omega), (hC.2.2.1 i hi).1]
  exact pk_eq (hd i) 0 (fun z => mid (Or.inl z)) (fun z => ⟨pk_in i 11 (by omega), pk_eq (hd i) 2 (fun z2 => mid (Or.inr z2)) (fun z2 => no (by omega) _ _ _ _ _ _ _ _ _ _ _ _ _ _)⟩)
theorem qf_w_foldsWith {post : Int32 → St1 → Prop} {i j : Nat} (hC : qf_C g n a2 a4 hd) (hi : i < n) (hj : j < n) (H : qf_all g n a1 a2 a4 (post (nI (qf_WL g n a1 a4 hd i j).length))) : qf_all g n a1 a2 a4 (fun u => wpX_foldsWith post u (nI i) (nI j)) := by
  intro fo fs sc bc ac a3 a5 a6 a7 a8 a9 a10 a11 a12
  have hn := hC.1
  show wpX_foldsWith post (g, nI n, fo, fs, sc, bc, ac, a1, a2, a3, a4, a5, a6, a7, a8, a9, a10, a11, a12) (nI i) (nI j)
  unfold wpX_foldsWith
  refine qf_w_isPlace hn (by omega) (fun _ => br_f (by decide) (qf_w_isPlace hn (by omega) (fun _ => br_f (by decide) (qf_w_solveWith hC hi hj (fun e fo fs sc bc ac a3 a5 a6 a7 a8 a9 a10 a11 a12 => br_t rfl ?_) (fun e fo fs sc bc ac a3 a5 a6 a7 a8 a9 a10 a11 a12 hr => br_f (by decide) ⟨pk_in n 432 (by omega), ?_⟩))) (fun z => absurd z (by omega)))) (fun z => absurd z (by omega))
  · rw [e] at H
    exact H _ _ _ _ _ _ _ _ _ _ _ _ _ _
  · rw [nI_clamp (show n < 2 ^ 31 by omega), hr.1.1]
    exact H _ _ _ _ _ _ _ _ _ _ _ _ _ _
theorem qf_w_bestWith {post : Int32 → St1 → Prop} {i j : Nat} (hC : qf_C g n a2 a4 hd) (hi : i < n) (hj : j < n) (H0 : qf_WL g n a1 a4 hd i j = [] → qf_all g n a1 a2 a4 (post (-1000))) (H1 : ∀ m, qf_mx (qf_WL g n a1 a4 hd i j) m → qf_all g n a1 a2 a4 (post (qf_i m))) : qf_all g n a1 a2 a4 (fun u => wpX_bestWith post u (nI i) (nI j)) := by
  intro fo fs sc bc ac a3 a5 a6 a7 a8 a9 a10 a11 a12
  have hn := hC.1
  show wpX_bestWith post (g, nI n, fo, fs, sc, bc, ac, a1, a2, a3, a4, a5, a6, a7, a8, a9, a10, a11, a12) (nI i) (nI j)
  unfold wpX_bestWith
  refine qf_w_isPlace hn (by omega) (fun _ => br_f (by decide) (qf_w_isPlace hn (by omega) (fun _ => br_f (by decide) (qf_w_solveWith hC hi hj (fun e fo fs sc bc ac a3 a5 a6 a7 a8 a9 a10 a11 a12 => br_t rfl (H0 e _ _ _ _ _ _ _ _ _ _ _ _ _ _)) (fun e fo fs sc bc ac a3 a5 a6 a7 a8 a9 a10 a11 a12 hr => br_f (by decide) ⟨pk_in n 432 (by omega), ?_⟩))) (fun z => absurd z (by omega)))) (fun z => absurd z (by omega))
  obtain ⟨m, hm⟩ := qf_mx_ex _ e
  rw [nI_clamp (show n < 2 ^ 31 by omega), qf_rp_mx hr hm]
  exact H1 m hm _ _ _ _ _ _ _ _ _ _ _ _ _ _
theorem qf_w_foldsWith_no {post : Int32 → St1 → Prop} (hn : n ≤ 11) (H : post (-1) (g, nI n, fo, fs, sc, bc, ac, a1, a2, a3, a4, a5, a6, a7, a8, a9, a10, a11, a12)) : wpX_foldsWith post (g, nI n, fo, fs, sc, bc, ac, a1, a2, a3, a4, a5, a6, a7, a8, a9, a10, a11, a12) 0 (nI n) := by
  unfold wpX_foldsWith
  refine qf_w_isPlace (p := 0) hn (by omega) (fun _ => br_f (by decide) (qf_w_isPlace hn hn (fun z => absurd z (by omega)) (fun _ => br_t rfl H))) (fun _ => br_t rfl H)
theorem qf_w_bestWith_no {post : Int32 → St1 → Prop} (H : post (-2000) (g, nI n, fo, fs, sc, bc, ac, a1, a2, a3, a4, a5, a6, a7, a8, a9, a10, a11, a12)) : wpX_bestWith post (g, nI n, fo, fs, sc, bc, ac, a1, a2, a3, a4, a5, a6, a7, a8, a9, a10, a11, a12) (-1) 0 := by
  unfold wpX_bestWith
  exact br_t (by decide) (br_t rfl H)
end
end
section
abbrev qf_Jk : Type := Int32 × Int32 × Int32 × Int32 × Int32 × (Nat → Int32) × (Nat → Int32) × (Nat → Int32) × (Nat → Int32) × (Nat → Int32) × (Nat → Int32) × (Nat → Int32) × (Nat → Int32) × (Nat → Int32)
theorem qf_mx_u {V : List Int} {m m' : Int} (h : qf_mx V m) (h' : qf_mx V m') : m = m' := by
  have h1 := h.2 m' h'.1
  have h2 := h'.2 m h.1
  omega
section
variable {g sz fo fs sc bc ac : Int32} {a1 a2 a3 a4 a5 a6 a7 a8 a9 a10 a11 a12 : Nat → Int32} {n : Nat} {ak hd : Nat → Nat} {kp : Nat → Nat → Bool}
theorem qf_WL_len {i j : Nat} : (qf_WL g n a1 a4 hd i j).length ≤ (qf_V (qf_w a1 a4) n hd (qf_fit g a1)).length := by
  unfold qf_WL
  by_cases h : i < j ∧ (hd i = 0 ∨ hd i = 2) ∧ (hd j = 0 ∨ hd j = 3)
  · rw [if_pos h]
    exact (qf_W_mono h.1 h.2.1 h.2.2).1
  · rw [if_neg h]
    exact Nat.zero_le _
theorem qf_WL_sub {i j : Nat} : ∀ s, s ∈ qf_WL g n a1 a4 hd i j → s ∈ qf_V (qf_w a1 a4) n hd (qf_fit g a1) := by
  unfold qf_WL
  by_cases h : i < j ∧ (hd i = 0 ∨ hd i = 2) ∧ (hd j = 0 ∨ hd j = 3)
  · rw [if_pos h]
    exact (qf_W_mono h.1 h.2.1 h.2.2).2
  · rw [if_neg h]
    exact fun s hs => absurd hs List.not_mem_nil
theorem qf_WL_fit {i j : Nat} {s : Int} (hj : j < n) (hs : s ∈ qf_WL g n a1 a4 hd i j) : qf_fit g a1 i j = true := by
  unfold qf_WL at hs
  by_cases h : i < j ∧ (hd i = 0 ∨ hd i = 2) ∧ (hd j = 0 ∨ hd j = 3)
  · rw [if_pos h] at hs
    exact qf_W_fit h.1 hj hs
  · rw [if_neg h] at hs
    exact absurd hs List.not_mem_nil
theorem qf_w_h398 {post : Int32 → St1 → Prop} {J301 J310 : Int32 → Int32 → Int32 → Int32 → Int32 → Int32 → Int32 → Int32 → (Nat → Int32) → (Nat → Int32) → (Nat → Int32) → (Nat → Int32) → (Nat → Int32) → (Nat → Int32) → (Nat → Int32) → (Nat → Int32) → (Nat → Int32) → (Nat → Int32) → (Nat → Int32) → (Nat → Int32) → Prop} {i j : Nat} {x1 x2 x3 : Int32}
    (hC : qf_C g n a2 a4 hd) (hi : i < n) (hj : j < n) (H : J310 (nI (j + 1)) g (nI n) fo fs sc bc ac a1 a2 a3 a4 a5 a6 a7 a8 a9 a10 a11 a12) : wL_holds_398 post J301 J310 x1 x2 x3 (nI i) (nI j) g (nI n) fo fs sc bc ac a1 a2 a3 a4 a5 a6 a7 a8 a9 a10 a11 a12 := by
  have hn := hC.1
  refine pk_lt i j (fun _ => nm_r (nI_1 j) H) (fun z => qf_w_fits hn hi hj (fun e => ?_) (fun e => br_t rfl (nm_r (nI_1 j) H)))
  have h := qf_fit_lt hC.2.1 (by omega) (by omega) e
  omega
theorem qf_w_h376 {post : Int32 → St1 → Prop} {J301 J310 : Int32 → Int32 → Int32 → Int32 → Int32 → Int32 → Int32 → Int32 → (Nat → Int32) → (Nat → Int32) → (Nat → Int32) → (Nat → Int32) → (Nat → Int32) → (Nat → Int32) → (Nat → Int32) → (Nat → Int32) → (Nat → Int32) → (Nat → Int32) → (Nat → Int32) → (Nat → Int32) → Prop} {i j : Nat} {x1 x2 x3 z : Int32}
    (hC : qf_C g n a2 a4 hd) (hi : i < n) (hj : j < n) (H : J310 (nI (j + 1)) g (nI n) fo fs sc bc ac a1 a2 a3 a4 a5 a6 a7 a8 a9 a10 a11 a12) : wL_holds_376 post J301 J310 x1 x2 x3 (nI i) (nI j) (nI (qf_WL g n a1 a4 hd i j).length) z z g (nI n) fo fs sc bc ac a1 a2 a3 a4 a5 a6 a7 a8 a9 a10 a11 a12 := by
  have hn := hC.1
  have hl := Nat.lt_of_le_of_lt (qf_WL_len (g := g) (n := n) (a1 := a1) (a4 := a4) (hd := hd) (i := i) (j := j)) (qf_V_bd (a1 := a1) hC hd (qf_fit g a1)).1
  refine br_t rfl (pk_le (qf_WL g n a1 a4 hd i j).length 0 (fun _ => qf_w_h398 hC hi hj H) (fun h0 => qf_w_fits hn hi hj (fun e => br_t rfl (qf_w_h398 hC hi hj H)) (fun e => ?_)))
  obtain ⟨s, hs⟩ := List.exists_mem_of_length_pos h0
  rw [qf_WL_fit hj hs] at e
  exact absurd e (by decide)
theorem qf_w_h310 {post : Int32 → St1 → Prop} {J301 : Int32 → Int32 → Int32 → Int32 → Int32 → Int32 → Int32 → Int32 → (Nat → Int32) → (Nat → Int32) → (Nat → Int32) → (Nat → Int32) → (Nat → Int32) → (Nat → Int32) → (Nat → Int32) → (Nat → Int32) → (Nat → Int32) → (Nat → Int32) → (Nat → Int32) → (Nat → Int32) → Prop} {i : Nat} {m : Int}
    (hC : qf_C g n a2 a4 hd) (hm : qf_mx (qf_V (qf_w a1 a4) n hd (qf_fit g a1)) m) (hi : i < n) (H : ∀ fo fs sc bc ac a3 a5 a6 a7 a8 a9 a10 a11 a12, J301 (nI (i + 1)) g (nI n) fo fs sc bc ac a1 a2 a3 a4 a5 a6 a7 a8 a9 a10 a11 a12) : ∃ f, wL_holds_310 post J301 (nI n) (nI (qf_V (qf_w a1 a4) n hd (qf_fit g a1)).length) (qf_i m) (nI i) f 0 g (nI n) fo fs sc bc ac a1 a2 a3 a4 a5 a6 a7 a8 a9 a10 a11 a12 := by
  have hn := hC.1
  have hbd := qf_V_bd (a1 := a1) hC hd (qf_fit g a1)
  have hmb := hbd.2 m hm.1
  refine pk_loop (σ := qf_Jk) (fun f j s => wL_holds_310 post J301 (nI n) (nI (qf_V (qf_w a1 a4) n hd (qf_fit g a1)).length) (qf_i m) (nI i) f (nI j) g (nI n) s.1 s.2.1 s.2.2.1 s.2.2.2.1 s.2.2.2.2.1 a1 a2 s.2.2.2.2.2.1 a4 s.2.2.2.2.2.2.1 s.2.2.2.2.2.2.2.1 s.2.2.2.2.2.2.2.2.1 s.2.2.2.2.2.2.2.2.2.1 s.2.2.2.2.2.2.2.2.2.2.1 s.2.2.2.2.2.2.2.2.2.2.2.1 s.2.2.2.2.2.2.2.2.2.2.2.2.1 s.2.2.2.2.2.2.2.2.2.2.2.2.2) (fun _ _ => True) n 0 (fo, fs, sc, bc, ac, a3, a5, a6, a7, a8, a9, a10, a11, a12) (by omega) trivial (fun f s _ => pk_le n n (fun _ => nm_r (nI_1 i) (H _ _ _ _ _ _ _ _ _ _ _ _ _ _)) (fun z => absurd z (by omega))) ?_
  intro f j s hj _ hw
  have hl := qf_WL_len (g := g) (n := n) (a1 := a1) (a4 := a4) (hd := hd) (i := i) (j := j)
  have hb1 := hbd.1
  refine pk_le n j (fun z => absurd z (by omega)) (fun _ => qf_w_foldsWith hC hi hj (fun fo fs sc bc ac a3 a5 a6 a7 a8 a9 a10 a11 a12 => qf_w_bestWith hC hi hj (fun e fo fs sc bc ac a3 a5 a6 a7 a8 a9 a10 a11 a12 => ?_) (fun m' hm' fo fs sc bc ac a3 a5 a6 a7 a8 a9 a10 a11 a12 => ?_) _ _ _ _ _ _ _ _ _ _ _ _ _ _) _ _ _ _ _ _ _ _ _ _ _ _ _ _)
  · have h376 := qf_w_h376 (post := post) (J301 := J301) (J310 := wL_holds_310 post J301 (nI n) (nI (qf_V (qf_w a1 a4) n hd (qf_fit g a1)).length) (qf_i m) (nI i) f) (fo := fo) (fs := fs) (sc := sc) (bc := bc) (ac := ac) (a1 := a1) (a3 := a3) (a5 := a5) (a6 := a6) (a7 := a7) (a8 := a8) (a9 := a9) (a10 := a10) (a11 := a11) (a12 := a12) (x1 := nI n) (x2 := nI (qf_V (qf_w a1 a4) n hd (qf_fit g a1)).length) (x3 := qf_i m) (z := 1) hC hi hj (hw (fo, fs, sc, bc, ac, a3, a5, a6, a7, a8, a9, a10, a11, a12) trivial)
    rw [e] at h376 ⊢
    refine br_f (nI_pos (show ([] : List Int).length < 2 ^ 31 by decide)) (br_f (nI_nlt (Nat.zero_le _) (by omega)) (br_f ?_ (br_t rfl (br_t rfl h376))))
    intro h
    have h' : qf_i m < qf_i (-1000) := h
    rw [qf_i_lt (by omega) (by omega) (by omega) (by omega)] at h'
    omega
  · have h376 := qf_w_h376 (post := post) (J301 := J301) (J310 := wL_holds_310 post J301 (nI n) (nI (qf_V (qf_w a1 a4) n hd (qf_fit g a1)).length) (qf_i m) (nI i) f) (fo := fo) (fs := fs) (sc := sc) (bc := bc) (ac := ac) (a1 := a1) (a3 := a3) (a5 := a5) (a6 := a6) (a7 := a7) (a8 := a8) (a9 := a9) (a10 := a10) (a11 := a11) (a12 := a12) (x1 := nI n) (x2 := nI (qf_V (qf_w a1 a4) n hd (qf_fit g a1)).length) (x3 := qf_i m) (z := 0) hC hi hj (hw (fo, fs, sc, bc, ac, a3, a5, a6, a7, a8, a9, a10, a11, a12) trivial)
    have hs := qf_WL_sub m' hm'.1
    have hb2 := hbd.2 m' hs
    have hle := hm.2 m' hs
    have hpos : 0 < (qf_WL g n a1 a4 hd i j).length := List.length_pos_of_mem hm'.1
    refine br_f (nI_pos (by omega)) (br_f (nI_nlt hl (by omega)) (br_f ?_ (br_f (nI_ne0 hpos (by omega)) (br_f ?_ h376))))
    · rw [qf_i_lt (by omega) (by omega) (by omega) (by omega)]
      omega
    · intro h
      have h' : qf_i m' = qf_i (-1000) := h
      rw [qf_i_eq (by omega) (by omega) (by omega) (by omega)] at h'
      omega
theorem qf_w_h301 {post : Int32 → St1 → Prop} {m : Int} (hC : qf_C g n a2 a4 hd) (hm : qf_mx (qf_V (qf_w a1 a4) n hd (qf_fit g a1)) m) (H : qf_all g n a1 a2 a4 (post 1)) : ∃ f, wL_holds_301 post (nI n) (nI (qf_V (qf_w a1 a4) n hd (qf_fit g a1)).length) (qf_i m) f 0 g (nI n) fo fs sc bc ac a1 a2 a3 a4 a5 a6 a7 a8 a9 a10 a11 a12 := by
  have hn := hC.1
  refine pk_loop (σ := qf_Jk) (fun f i s => wL_holds_301 post (nI n) (nI (qf_V (qf_w a1 a4) n hd (qf_fit g a1)).length) (qf_i m) f (nI i) g (nI n) s.1 s.2.1 s.2.2.1 s.2.2.2.1 s.2.2.2.2.1 a1 a2 s.2.2.2.2.2.1 a4 s.2.2.2.2.2.2.1 s.2.2.2.2.2.2.2.1 s.2.2.2.2.2.2.2.2.1 s.2.2.2.2.2.2.2.2.2.1 s.2.2.2.2.2.2.2.2.2.2.1 s.2.2.2.2.2.2.2.2.2.2.2.1 s.2.2.2.2.2.2.2.2.2.2.2.2.1 s.2.2.2.2.2.2.2.2.2.2.2.2.2) (fun _ _ => True) n 0 (fo, fs, sc, bc, ac, a3, a5, a6, a7, a8, a9, a10, a11, a12) (by omega) trivial ?_ ?_
  · intro f s _
    refine pk_le n n (fun _ => qf_w_fits_no hn (br_t rfl (qf_w_partner_no hn (br_t rfl (qf_w_foldsWith_no hn (br_t rfl (qf_w_bestWith_no (br_t rfl (H _ _ _ _ _ _ _ _ _ _ _ _ _ _))))))))) (fun z => absurd z (by omega))
  · intro f i s hi _ hw
    exact pk_le n i (fun z => absurd z (by omega)) (fun _ => qf_w_h310 hC hm hi (fun fo fs sc bc ac a3 a5 a6 a7 a8 a9 a10 a11 a12 => hw (fo, fs, sc, bc, ac, a3, a5, a6, a7, a8, a9, a10, a11, a12) trivial))
theorem qf_w_h206 {post : Int32 → St1 → Prop} {J : Int32 → Int32 → Int32 → Int32 → Int32 → Int32 → Int32 → Int32 → Int32 → (Nat → Int32) → (Nat → Int32) → (Nat → Int32) → (Nat → Int32) → (Nat → Int32) → (Nat → Int32) → (Nat → Int32) → (Nat → Int32) → (Nat → Int32) → (Nat → Int32) → (Nat → Int32) → (Nat → Int32) → Prop} {r q : Nat} {m : Int} {x1 x2 x6 : Int32}
    (hC : qf_C g n a2 a4 hd) (hr : r < n) (hq : q < n) (hne : r ≠ q) (hmx : ∀ a b, a < b → (a = r ∧ b = q ∨ a = q ∧ b = r) → qf_mx (qf_WL g n a1 a4 hd a b) m ∧ qf_fit g a1 a b = true)
    (H : ∀ fo fs sc bc ac a3 a5 a6 a7 a8 a9 a10 a11 a12, J x6 (nI r - 1) g (nI n) fo fs sc bc ac a1 a2 a3 a4 a5 a6 a7 a8 a9 a10 a11 a12) : wL_holds_206 post J x1 x2 (qf_i m) x6 (nI r) (nI q) g (nI n) fo fs sc bc ac a1 a2 a3 a4 a5 a6 a7 a8 a9 a10 a11 a12 := by
  have hn := hC.1
  have e1 : nI r + (-1) = nI r - 1 := (Int32.sub_eq_add_neg (nI r) 1).symm
  refine br_f (nI_pos (by omega)) ?_
  rcases Nat.lt_or_ge r q with hlt | hge
  · obtain ⟨h1, h2⟩ := hmx r q hlt (Or.inl ⟨rfl, rfl⟩)
    have c : ¬ nI q ≤ nI r := nI_ge hlt (by omega)
    refine br_f c (br_f c ?_)
    unfold wL_holds_240
    refine qf_w_bestWith hC hr hq (fun e => absurd e (qf_mx_nn h1)) (fun m' hm' fo fs sc bc ac a3 a5 a6 a7 a8 a9 a10 a11 a12 => ?_) _ _ _ _ _ _ _ _ _ _ _ _ _ _
    rw [qf_mx_u hm' h1]
    refine br_t rfl (br_f c (br_f c ?_))
    unfold wL_holds_276
    exact qf_w_fits hn hr hq (fun _ => br_t rfl (nm_r e1 (H _ _ _ _ _ _ _ _ _ _ _ _ _ _))) (fun e => absurd (h2.symm.trans e) (by decide))
  · have hgt : q < r := by omega
    obtain ⟨h1, h2⟩ := hmx q r hgt (Or.inr ⟨rfl, rfl⟩)
    have c : nI q ≤ nI r := nI_le (by omega) (by omega)
    refine br_t c (br_t c ?_)
    unfold wL_holds_240
    refine qf_w_bestWith hC hq hr (fun e => absurd e (qf_mx_nn h1)) (fun m' hm' fo fs sc bc ac a3 a5 a6 a7 a8 a9 a10 a11 a12 => ?_) _ _ _ _ _ _ _ _ _ _ _ _ _ _
    rw [qf_mx_u hm' h1]
    refine br_t rfl (br_t c (br_t c ?_))
    unfold wL_holds_276
    exact qf_w_fits hn hq hr (fun _ => br_t rfl (nm_r e1 (H _ _ _ _ _ _ _ _ _ _ _ _ _ _))) (fun e => absurd (h2.symm.trans e) (by decide))
theorem qf_w_h123 {post : Int32 → St1 → Prop} {m : Int} (hC : qf_C g n a2 a4 hd) (hm : qf_mx (qf_V (qf_w a1 a4) n hd (qf_fit g a1)) m) (H : qf_all g n a1 a2 a4 (post 1)) : ∃ f, wL_holds_123 post (nI n) (nI (qf_V (qf_w a1 a4) n hd (qf_fit g a1)).length) (qf_i m) f (nI (qf_cd (qf_D g n a1 a4 hd m n) n)) (nI n - 1) g (nI n) fo fs sc bc ac a1 a2 a3 a4 a5 a6 a7 a8 a9 a10 a11 a12 := by
  have hn := hC.1
  have hD := qf_D_in hC hm
  have hlt2 : ∀ k, k ≤ n → qf_cd (qf_D g n a1 a4 hd m n) k < 177147 := fun k hk => Nat.lt_of_lt_of_le (qf_cd_lt (fun p hp => hD p (by omega))) (qf_3n k (by omega))
  obtain ⟨x, x1, x2, x3, x4⟩ := qf_dc_fold hm.1 (fun j hj => (hC.2.2.1 j hj).2)
  refine ⟨n + 1, pk_loopD (σ := qf_Jk) (fun f r s => wL_holds_123 post (nI n) (nI (qf_V (qf_w a1 a4) n hd (qf_fit g a1)).length) (qf_i m) f (nI (qf_cd (qf_D g n a1 a4 hd m n) r)) (nI r - 1) g (nI n) s.1 s.2.1 s.2.2.1 s.2.2.2.1 s.2.2.2.2.1 a1 a2 s.2.2.2.2.2.1 a4 s.2.2.2.2.2.2.1 s.2.2.2.2.2.2.2.1 s.2.2.2.2.2.2.2.2.1 s.2.2.2.2.2.2.2.2.2.1 s.2.2.2.2.2.2.2.2.2.2.1 s.2.2.2.2.2.2.2.2.2.2.2.1 s.2.2.2.2.2.2.2.2.2.2.2.2.1 s.2.2.2.2.2.2.2.2.2.2.2.2.2) (fun r _ => r ≤ n) ?_ ?_ n (fo, fs, sc, bc, ac, a3, a5, a6, a7, a8, a9, a10, a11, a12) (Nat.le_refl n)⟩
  · intro f s _
    exact br_t (by decide) (br_t rfl (qf_w_h301 hC hm H))
  · intro f r s hr hw
    show wL_holds_123 post (nI n) (nI (qf_V (qf_w a1 a4) n hd (qf_fit g a1)).length) (qf_i m) (f + 1) (nI (qf_cd (qf_D g n a1 a4 hd m n) (r + 1))) (nI (r + 1) - 1) g (nI n) s.1 s.2.1 s.2.2.1 s.2.2.2.1 s.2.2.2.2.1 a1 a2 s.2.2.2.2.2.1 a4 s.2.2.2.2.2.2.1 s.2.2.2.2.2.2.2.1 s.2.2.2.2.2.2.2.2.1 s.2.2.2.2.2.2.2.2.2.1 s.2.2.2.2.2.2.2.2.2.2.1 s.2.2.2.2.2.2.2.2.2.2.2.1 s.2.2.2.2.2.2.2.2.2.2.2.2.1 s.2.2.2.2.2.2.2.2.2.2.2.2.2
    have hr' : r + 1 ≤ n := hr
    have q4 := hlt2 (r + 1) hr'
    have q5 := hD r (by omega)
    have e0 : qf_cd (qf_D g n a1 a4 hd m n) (r + 1) = 3 * qf_cd (qf_D g n a1 a4 hd m n) r + (qf_D g n a1 a4 hd m n r - 1) := rfl
    rw [nI_pred]
    have e1 : nI (qf_cd (qf_D g n a1 a4 hd m n) (r + 1)) - nI (qf_cd (qf_D g n a1 a4 hd m n) (r + 1)) / 3 * 3 = nI (qf_D g n a1 a4 hd m n r - 1) := by
      rw [show (3 : Int32) = nI 3 from rfl, pk_rem (by omega) (by omega) (by omega)]
      congr 1
      omega
    have e2 : nI (qf_cd (qf_D g n a1 a4 hd m n) (r + 1)) / 3 = nI (qf_cd (qf_D g n a1 a4 hd m n) r) := by
      rw [show (3 : Int32) = nI 3 from rfl, pk_div (by omega) (by omega) (by omega)]
      congr 1
      omega
    have e3 : nI r + (-1) = nI r - 1 := (Int32.sub_eq_add_neg (nI r) 1).symm
    refine br_f (nI_pos (by omega)) ⟨by decide, nm_r e1 ⟨by decide, nm_r e2 ?_⟩⟩
    refine qf_w_partner hC (by omega) (fun e => absurd e (qf_mx_nn hm)) (fun m' hm' => ?_) _ _ _ _ _ _ _ _ _ _ _ _ _ _
    rw [← qf_mx_u hm hm']
    obtain ⟨q, hq⟩ := qf_wf_ex x3 (show r < n by omega)
    refine ⟨x.2, q, x3, fun p q h => (x4 p q h).1, hq, fun fo fs sc bc ac a3 a5 a6 a7 a8 a9 a10 a11 a12 => ?_⟩
    have hDr : qf_D g n a1 a4 hd m n r = qf_dg r q := (x4 r q hq).1
    have hqn := (qf_wf_pq x3 hq).2
    have hJ : ∀ fo fs sc bc ac a3 a5 a6 a7 a8 a9 a10 a11 a12, wL_holds_123 post (nI n) (nI (qf_V (qf_w a1 a4) n hd (qf_fit g a1)).length) (qf_i m) f (nI (qf_cd (qf_D g n a1 a4 hd m n) r)) (nI r - 1) g (nI n) fo fs sc bc ac a1 a2 a3 a4 a5 a6 a7 a8 a9 a10 a11 a12 := fun fo fs sc bc ac a3 a5 a6 a7 a8 a9 a10 a11 a12 => hw (fo, fs, sc, bc, ac, a3, a5, a6, a7, a8, a9, a10, a11, a12) (by omega)
    have hmx : ∀ a b, a < b → (a = r ∧ b = q ∨ a = q ∧ b = r) → qf_mx (qf_WL g n a1 a4 hd a b) m ∧ qf_fit g a1 a b = true := by
      intro a b hab hor
      have hmem : (a, b) ∈ x.2 := by
        rcases hor with ⟨h1, h2⟩ | ⟨h1, h2⟩
        · rw [h1, h2]
          exact hq
        · rw [h1, h2]
          exact x3.2.1 r q hq
      obtain ⟨g1, g2, g3, g4⟩ := qf_W_goal x1 x2 (fun p q h => ⟨(x4 p q h).2.1, (x4 p q h).2.2⟩) hab hmem
      refine ⟨⟨?_, fun s hs => hm.2 s (qf_WL_sub s hs)⟩, g3⟩
      unfold qf_WL
      rw [if_pos ⟨hab, g1, g2⟩]
      exact g4
    rcases Nat.lt_trichotomy r q with hlt | heq | hgt
    · rw [hDr, qf_dg2 hlt]
      have ev : qf_i (qf_vl r q) = nI q := by
        unfold qf_vl
        rw [if_neg (by omega)]
        exact qf_i_nat q
      rw [ev]
      have c2 : ¬ nI q = -2 := by
        intro h
        have h1 := congrArg Int32.toInt h
        rw [nI_toInt (by omega)] at h1
        have h2 : (-2 : Int32).toInt = -2 := by decide
        omega
      exact br_f (by decide) (br_f c2 (br_t rfl (br_t rfl (br_f (nI_ge hlt (by omega)) (br_f (by decide) (qf_w_h206 hC (by omega) hqn (by omega) hmx hJ))))))
    · subst heq
      rw [hDr, qf_dg1]
      have ev : qf_i (qf_vl r r) = -2 := by
        unfold qf_vl
        rw [if_pos rfl]
        rfl
      rw [ev]
      exact br_t rfl (br_t rfl (br_t rfl (br_f (by decide) (br_f (by decide) (br_t (by decide) (nm_r e3 (hJ _ _ _ _ _ _ _ _ _ _ _ _ _ _)))))))
    · rw [hDr, qf_dg3 hgt]
      have ev : qf_i (qf_vl r q) = nI q := by
        unfold qf_vl
        rw [if_neg (by omega)]
        exact qf_i_nat q
      rw [ev]
      have c2 : ¬ nI q = -2 := by
        intro h
        have h1 := congrArg Int32.toInt h
        rw [nI_toInt (by omega)] at h1
        have h2 : (-2 : Int32).toInt = -2 := by decide
        omega
      exact br_f (by decide) (br_f c2 (br_t rfl (br_f (by decide) (br_t rfl (br_f (nI_pos (by omega)) (br_t (nI_lt hgt (by omega)) (qf_w_h206 hC (by omega) hqn (by omega) hmx hJ)))))))
theorem qf_w_holds {post : Int32 → St1 → Prop} (hC : qf_C g n a2 a4 hd) (H : qf_all g n a1 a2 a4 (post 1)) : qf_all g n a1 a2 a4 (wpL_holds post) := by
  intro fo fs sc bc ac a3 a5 a6 a7 a8 a9 a10 a11 a12
  have hn := hC.1
  have hl := (qf_V_bd (a1 := a1) hC hd (qf_fit g a1)).1
  unfold wpL_holds
  unfold wpX_length
  refine qf_w_folds hC (fun fo fs sc bc ac a3 a5 a6 a7 a8 a9 a10 a11 a12 => ?_) _ _ _ _ _ _ _ _ _ _ _ _ _ _
  refine qf_w_best hC (fun e fo fs sc bc ac a3 a5 a6 a7 a8 a9 a10 a11 a12 => ?_) (fun m hm fo fs sc bc ac a3 a5 a6 a7 a8 a9 a10 a11 a12 => ?_) _ _ _ _ _ _ _ _ _ _ _ _ _ _
  · refine qf_w_bestCode hC (fun _ fo fs sc bc ac a3 a5 a6 a7 a8 a9 a10 a11 a12 => ?_) (fun m hm => absurd e (qf_mx_nn hm)) _ _ _ _ _ _ _ _ _ _ _ _ _ _
    refine qf_w_bestFolds hC (fun k hk _ fo fs sc bc ac a3 a5 a6 a7 a8 a9 a10 a11 a12 => ?_) _ _ _ _ _ _ _ _ _ _ _ _ _ _
    rw [e] at hk
    have hk0 : k = 0 := Nat.le_zero.mp hk
    subst hk0
    rw [e]
    refine br_f (nI_pos (by omega)) (br_f (nI_nlt (b := n) (a := 11) (by omega) (by omega)) (br_f (by decide) (br_f (by decide) (br_t (by decide) (br_t rfl (br_t rfl (br_t rfl (br_t rfl (pk_eq n 0 (fun _ => H _ _ _ _ _ _ _ _ _ _ _ _ _ _) (fun z => ?_))))))))))
    exact qf_w_partner (p := 0) hC (by omega) (fun _ fo fs sc bc ac a3 a5 a6 a7 a8 a9 a10 a11 a12 => br_t rfl (H _ _ _ _ _ _ _ _ _ _ _ _ _ _)) (fun m hm => absurd e (qf_mx_nn hm)) _ _ _ _ _ _ _ _ _ _ _ _ _ _
  · refine qf_w_bestCode hC (fun e => absurd e (qf_mx_nn hm)) (fun m' hm' fo fs sc bc ac a3 a5 a6 a7 a8 a9 a10 a11 a12 => ?_) _ _ _ _ _ _ _ _ _ _ _ _ _ _
    rw [← qf_mx_u hm hm']
    refine qf_w_bestFolds hC (fun k hk hk1 fo fs sc bc ac a3 a5 a6 a7 a8 a9 a10 a11 a12 => ?_) _ _ _ _ _ _ _ _ _ _ _ _ _ _
    have h1 := hk1 (qf_mx_nn hm)
    refine br_f (nI_pos (by omega)) (br_f (nI_nlt (b := n) (a := 11) (by omega) (by omega)) (br_f (nI_pos (by omega)) (br_f (nI_pos (by omega)) (br_t (nI_le hk (by omega)) (br_f (nI_ne0 (by omega) (by omega)) ?_)))))
    refine qf_w_scoreOf hC hm (fun fo fs sc bc ac a3 a5 a6 a7 a8 a9 a10 a11 a12 => ?_) _ _ _ _ _ _ _ _ _ _ _ _ _ _
    exact br_t rfl (br_t (nI_le (a := 1) h1 (by omega)) (nm_e (qf_w_h123 hC hm H)))
end
end
section
section
variable {g sz fo fs sc bc ac : Int32} {a1 a2 a3 a4 a5 a6 a7 a8 a9 a10 a11 a12 : Nat → Int32} {n : Nat} {hd : Nat → Nat}
/-- the law's invariant -/
def qf_Inv (u : St1) : Prop := ∃ (g : Int32) (n : Nat) (a1 a2 a4 : Nat → Int32) (hd : Nat → Nat) (fo fs sc bc ac : Int32) (a3 a5 a6 a7 a8 a9 a10 a11 a12 : Nat → Int32), qf_C g n a2 a4 hd ∧ u = (g, nI n, fo, fs, sc, bc, ac, a1, a2, a3, a4, a5, a6, a7, a8, a9, a10, a11, a12)
theorem qf_Inv_i (hC : qf_C g n a2 a4 hd) : qf_Inv (g, nI n, fo, fs, sc, bc, ac, a1, a2, a3, a4, a5, a6, a7, a8, a9, a10, a11, a12) := ⟨g, n, a1, a2, a4, hd, fo, fs, sc, bc, ac, a3, a5, a6, a7, a8, a9, a10, a11, a12, hC, rfl⟩
theorem qf_w_isPlaceX {post : Int32 → Prop} {x : Int32} (hn : n ≤ 11) (H1 : ∀ j, j < n → x = nI j → post 1) (H0 : post 0) : wpX_isPlace post (g, nI n, fo, fs, sc, bc, ac, a1, a2, a3, a4, a5, a6, a7, a8, a9, a10, a11, a12) x := by
  rcases pk_ix x (show n < 2 ^ 31 by omega) with h | h | ⟨j, hj, e⟩
  · exact br_t h H0
  · exact br_c (fun _ => H0) (fun _ => br_t h H0)
  · subst e
    exact qf_w_isPlace hn (by omega) (fun _ => H1 j hj rfl) (fun z => absurd z (by omega))
theorem qf_w_push {post : Int32 → St1 → Prop} {x : Int32} (hC : qf_C g n a2 a4 hd) (H : ∀ r u, qf_Inv u → post r u) : wpX_push post (g, nI n, fo, fs, sc, bc, ac, a1, a2, a3, a4, a5, a6, a7, a8, a9, a10, a11, a12) x := by
  have hn := hC.1
  refine br_c (fun _ => H _ _ (qf_Inv_i hC)) (fun _ => br_c (fun _ => pk_eq n 11 (fun _ => H _ _ (qf_Inv_i hC)) (fun z => ⟨pk_in n 11 (by omega), nm_e ⟨pk_in n 11 (by omega), nm_e (nm_r (nI_1 n) (H _ _ (qf_Inv_i (n := n + 1) (hd := qf_up hd n 0) ⟨by omega, hC.2.1, fun p hp => ?_, hC.2.2.2⟩)))⟩⟩)) (fun _ => H _ _ (qf_Inv_i hC)))
  rw [nI_clamp (show n < 2 ^ 31 by omega)]
  by_cases e : p = n
  · rw [e, pk_us, qf_up_s]
    exact ⟨rfl, by omega⟩
  · rw [pk_un e, qf_up_n _ _ e]
    exact hC.2.2.1 p (by omega)
theorem qf_w_pop {post : Int32 → St1 → Prop} (hC : qf_C g n a2 a4 hd) (H : ∀ r u, qf_Inv u → post r u) : wpX_pop post (g, nI n, fo, fs, sc, bc, ac, a1, a2, a3, a4, a5, a6, a7, a8, a9, a10, a11, a12) := by
  have hn := hC.1
  refine pk_eq n 0 (fun _ => H _ _ (qf_Inv_i hC)) (fun z => nm_r (e' := nI (n - 1)) (pk_sub (a := n) (b := 1) (by omega)) ⟨pk_in (n - 1) 11 (by omega), H _ _ (qf_Inv_i ⟨by omega, hC.2.1, fun p hp => hC.2.2.1 p (by omega), hC.2.2.2⟩)⟩)
theorem qf_w_set {post : Int32 → St1 → Prop} {x y : Int32} (hC : qf_C g n a2 a4 hd) (H : ∀ r u, qf_Inv u → post r u) : wpX_set post (g, nI n, fo, fs, sc, bc, ac, a1, a2, a3, a4, a5, a6, a7, a8, a9, a10, a11, a12) x y := by
  have hn := hC.1
  unfold wpX_set
  refine qf_w_isPlaceX hn (fun j hj e => br_f (by decide) (br_c (fun _ => H _ _ (qf_Inv_i hC)) (fun _ => br_c (fun _ => ?_) (fun _ => H _ _ (qf_Inv_i hC))))) (br_t rfl (H _ _ (qf_Inv_i hC)))
  subst e
  exact ⟨pk_in j 11 (by omega), nm_e ⟨pk_in j 11 (by omega), nm_e (H _ _ (qf_Inv_i hC))⟩⟩
theorem qf_w_hold {post : Int32 → St1 → Prop} {x y : Int32} (hC : qf_C g n a2 a4 hd) (H : ∀ r u, qf_Inv u → post r u) : wpX_hold post (g, nI n, fo, fs, sc, bc, ac, a1, a2, a3, a4, a5, a6, a7, a8, a9, a10, a11, a12) x y := by
  have hn := hC.1
  unfold wpX_hold
  refine qf_w_isPlaceX hn (fun j hj e => br_f (by decide) (br_c (fun _ => H _ _ (qf_Inv_i hC)) (fun h0 => br_c (fun h3 => ?_) (fun _ => H _ _ (qf_Inv_i hC))))) (br_t rfl (H _ _ (qf_Inv_i hC)))
  subst e
  obtain ⟨k, hk, e⟩ := nI_of2 (n := 3) (by decide) h0 h3
  subst e
  refine ⟨pk_in j 11 (by omega), nm_e ⟨pk_in j 11 (by omega), nm_e (H _ _ (qf_Inv_i (hd := qf_up hd j k) ⟨hn, hC.2.1, fun p hp => ?_, hC.2.2.2⟩))⟩⟩
  rw [nI_clamp (show j < 2 ^ 31 by omega)]
  by_cases e : p = j
  · rw [e, pk_us, qf_up_s]
    exact ⟨rfl, hk⟩
  · rw [pk_un e, qf_up_n _ _ e]
    exact hC.2.2.1 p hp
theorem qf_w_tune {post : Int32 → St1 → Prop} {x y : Int32} (hC : qf_C g n a2 a4 hd) (H : ∀ r u, qf_Inv u → post r u) : wpX_tune post (g, nI n, fo, fs, sc, bc, ac, a1, a2, a3, a4, a5, a6, a7, a8, a9, a10, a11, a12) x y := by
  have hn := hC.1
  refine br_c (fun _ => H _ _ (qf_Inv_i hC)) (fun x0 => br_c (fun x5 => br_c (fun _ => H _ _ (qf_Inv_i hC)) (fun y0 => br_c (fun y20 => ?_) (fun _ => H _ _ (qf_Inv_i hC)))) (fun _ => H _ _ (qf_Inv_i hC)))
  obtain ⟨j, hj, e⟩ := nI_of2 (n := 5) (by decide) x0 x5
  subst e
  obtain ⟨k, hk, e⟩ := nI_of2 (n := 20) (by decide) y0 y20
  subst e
  refine ⟨pk_in j 6 (by omega), nm_e ⟨pk_in j 6 (by omega), nm_e (H _ _ (qf_Inv_i ⟨hn, hC.2.1, hC.2.2.1, fun p hp => ?_⟩))⟩⟩
  rw [nI_clamp (show j < 2 ^ 31 by omega)]
  by_cases e : p = j
  · rw [e, pk_us, nI_toInt (by omega)]
    omega
  · rw [pk_un e]
    exact hC.2.2.2 p hp
theorem qf_w_call {post : St1 → Prop} {x y z : Int32} (hC : qf_C g n a2 a4 hd) (H : ∀ u, qf_Inv u → post u) : wpL_call post (g, nI n, fo, fs, sc, bc, ac, a1, a2, a3, a4, a5, a6, a7, a8, a9, a10, a11, a12) x y z := by
  have H' : ∀ (r : Int32) u, qf_Inv u → post u := fun _ u h => H u h
  have K : ∀ (P : Int32 → St1 → Prop), (∀ fo fs sc bc ac a1 a2 a3 a4 a5 a6 a7 a8 a9 a10 a11 a12 g sz r, post (g, sz, fo, fs, sc, bc, ac, a1, a2, a3, a4, a5, a6, a7, a8, a9, a10, a11, a12) → P r (g, sz, fo, fs, sc, bc, ac, a1, a2, a3, a4, a5, a6, a7, a8, a9, a10, a11, a12)) → ∀ r u, qf_Inv u → P r u := by
    rintro P h r u hu
    obtain ⟨g, sz, fo, fs, sc, bc, ac, a1, a2, a3, a4, a5, a6, a7, a8, a9, a10, a11, a12⟩ := u
    exact h _ _ _ _ _ _ _ _ _ _ _ _ _ _ _ _ _ _ _ _ (H _ hu)
  unfold wpL_call
  refine br_c (fun _ => br_c (fun _ => qf_w_pop hC (K _ ?_)) (fun _ => br_c (fun _ => br_c (fun _ => br_c (fun _ => qf_w_push hC (K _ ?_)) (fun _ => qf_w_tune hC (K _ ?_))) (fun _ => qf_w_hold hC (K _ ?_))) (fun _ => qf_w_set hC (K _ ?_)))) (fun _ => qf_w_push hC (K _ ?_))
  all_goals exact fun _ _ _ _ _ _ _ _ _ _ _ _ _ _ _ _ _ _ _ _ h => h
theorem qf_w_law {xs : Nat → Int32} {L kc ks : Nat} (hL : L ≤ 260) (h1 : 1 ≤ L) (hC : qf_C g n a2 a4 hd) : ∃ f, wL_law_21 (fun r => r = 1) L xs kc ks f 1 g (nI n) fo fs sc bc ac a1 a2 a3 a4 a5 a6 a7 a8 a9 a10 a11 a12 := by
  have eL : Int32.ofNat L = nI L := rfl
  refine pk_loop (σ := St1) (fun f k s => wL_law_21 (fun r => r = 1) L xs kc ks f (nI (3 * k + 1)) s.1 s.2.1 s.2.2.1 s.2.2.2.1 s.2.2.2.2.1 s.2.2.2.2.2.1 s.2.2.2.2.2.2.1 s.2.2.2.2.2.2.2.1 s.2.2.2.2.2.2.2.2.1 s.2.2.2.2.2.2.2.2.2.1 s.2.2.2.2.2.2.2.2.2.2.1 s.2.2.2.2.2.2.2.2.2.2.2.1 s.2.2.2.2.2.2.2.2.2.2.2.2.1 s.2.2.2.2.2.2.2.2.2.2.2.2.2.1 s.2.2.2.2.2.2.2.2.2.2.2.2.2.2.1 s.2.2.2.2.2.2.2.2.2.2.2.2.2.2.2.1 s.2.2.2.2.2.2.2.2.2.2.2.2.2.2.2.2.1 s.2.2.2.2.2.2.2.2.2.2.2.2.2.2.2.2.2.1 s.2.2.2.2.2.2.2.2.2.2.2.2.2.2.2.2.2.2) (fun _ s => qf_Inv s) ((L - 1) / 3) 0 (g, nI n, fo, fs, sc, bc, ac, a1, a2, a3, a4, a5, a6, a7, a8, a9, a10, a11, a12) (by omega) (qf_Inv_i hC) ?_ ?_
  · rintro f s ⟨g, n, a1, a2, a4, hd, fo, fs, sc, bc, ac, a3, a5, a6, a7, a8, a9, a10, a11, a12, hC, e⟩
    subst e
    show wL_law_21 (fun r => r = 1) L xs kc ks (f + 1) (nI (3 * ((L - 1) / 3) + 1)) g (nI n) fo fs sc bc ac a1 a2 a3 a4 a5 a6 a7 a8 a9 a10 a11 a12
    refine pk_le L (3 * ((L - 1) / 3) + 1 + 2) (fun _ => qf_w_holds hC (fun _ _ _ _ _ _ _ _ _ _ _ _ _ _ => rfl) _ _ _ _ _ _ _ _ _ _ _ _ _ _) (fun z => absurd z (by omega)) rfl (nI_add (3 * ((L - 1) / 3) + 1) 2)
  · rintro f k s hk ⟨g, n, a1, a2, a4, hd, fo, fs, sc, bc, ac, a3, a5, a6, a7, a8, a9, a10, a11, a12, hC, e⟩ hw
    subst e
    show wL_law_21 (fun r => r = 1) L xs kc ks (f + 1) (nI (3 * k + 1)) g (nI n) fo fs sc bc ac a1 a2 a3 a4 a5 a6 a7 a8 a9 a10 a11 a12
    have e3 : nI (3 * k + 1) + 3 = nI (3 * (k + 1) + 1) := by
      rw [show (3 : Int32) = nI 3 from rfl, nI_add]
      congr 1
    refine pk_le L (3 * k + 1 + 2) (fun z => absurd z (by omega)) (fun _ => ⟨pk_in (3 * k + 1) L (by omega), pk_in (3 * k + 1 + 1) L (by omega) (nI_add (3 * k + 1) 1), pk_in (3 * k + 1 + 2) L (by omega) (nI_add (3 * k + 1) 2), qf_w_call hC ?_⟩) rfl (nI_add (3 * k + 1) 2)
    rintro u ⟨g, n, a1, a2, a4, hd, fo, fs, sc, bc, ac, a3, a5, a6, a7, a8, a9, a10, a11, a12, hC, e⟩
    subst e
    refine ⟨pk_in (3 * k + 1) L (by omega), br_c (fun _ => ?_) (fun _ => nm_r e3 (hw (g, nI n, fo, fs, sc, bc, ac, a1, a2, a3, a4, a5, a6, a7, a8, a9, a10, a11, a12) (qf_Inv_i hC)))⟩
    exact qf_w_holds hC (fun fo fs sc bc ac a3 a5 a6 a7 a8 a9 a10 a11 a12 => br_f (by decide) (nm_r e3 (hw (g, nI n, fo, fs, sc, bc, ac, a1, a2, a3, a4, a5, a6, a7, a8, a9, a10, a11, a12) (qf_Inv_i hC)))) _ _ _ _ _ _ _ _ _ _ _ _ _ _
theorem qf_tn0 : qf_tn (upd (upd (upd (upd (upd (upd (fun _ => 0) 0 3) 1 5) 2 1) 3 2) 4 2) 5 3) := by
  intro k hk
  have h : k = 0 ∨ k = 1 ∨ k = 2 ∨ k = 3 ∨ k = 4 ∨ k = 5 := by omega
  rcases h with e | e | e | e | e | e
  all_goals
    subst e
    decide
end
theorem i_vc (xs : Nat → Int32) (L : Nat) (hL : L ≤ 260) : wpL_law (fun r => r = 1) L xs := by
  refine pk_le 1 L (fun h1 => ⟨pk_in 0 L (by omega), 12, 1789, by omega, by omega, ?_⟩) (fun _ => rfl)
  have key : ∀ z0 : Int32, 0 ≤ z0.toInt → wX_init_116 (fun u => match u with | (fm8_gap_5, fm8_size_6, fm8_forcedOpen_7, fm8_forcedShut_8, fm8_score_9, fm8_bestCount_10, fm8_allCount_11, am151_14, am152_17, am153_20, am154_23, am155_26, am156_29, am157_32, am158_35, am159_38, am1510_41, am1511_44, am1512_47) => (∃ fu21 : Nat, wL_law_21 (fun r => r = 1) L xs (1 + 12) (19 + 1789) fu21 1 fm8_gap_5 fm8_size_6 fm8_forcedOpen_7 fm8_forcedShut_8 fm8_score_9 fm8_bestCount_10 fm8_allCount_11 am151_14 am152_17 am153_20 am154_23 am155_26 am156_29 am157_32 am158_35 am159_38 am1510_41 am1511_44 am1512_47)) 12 1789 z0 12 1789 0 0 0 0 0 0 0 (fun _ => 0) (fun _ => 0) (fun _ => 0) (fun _ => 0) (fun _ => 0) (fun _ => 0) (fun _ => 0) (fun _ => 0) (fun _ => 0) (fun _ => 0) (fun _ => 0) (fun _ => 0) := by
    intro z0 hz
    have C : ∀ g : Int32, 0 ≤ g.toInt → qf_C g 0 (fun _ => 0) (upd (upd (upd (upd (upd (upd (fun _ => 0) 0 3) 1 5) 2 1) 3 2) 4 2) 5 3) (fun _ => 0) := fun g hg => ⟨by omega, hg, fun p hp => absurd hp (by omega), qf_tn0⟩
    exact br_c (fun _ => nm_e (nm_e (nm_e (nm_e (nm_e (nm_e (qf_w_law hL h1 (C z0 hz)))))))) (fun _ => nm_e (nm_e (nm_e (nm_e (nm_e (nm_e (qf_w_law hL h1 (C 4 (by decide)))))))))
  refine ⟨by omega, by omega, by omega, by omega, by omega, by omega, by omega, by omega, by omega, by omega, by omega, by omega, by omega, by omega, by omega, by omega, by omega, by omega, by omega, by omega, by omega, by omega, by omega, by omega, br_c (fun h0 => key _ ?_) (fun _ => key 0 (by decide))⟩
  have h2 := Int32.le_iff_toInt_le.mp h0
  exact h2
end
