section
/-! permutations of [0, n), sums and counts over them -/
def tg_perm (n : Nat) (s : Nat → Nat) : Prop := (∀ v, v < n → s v < n) ∧ (∀ v w, v < n → w < n → s v = s w → v = w)
theorem tg_map_nd {α β : Type} {l : List α} {f : α → β} (hl : l.Nodup) (h : ∀ a, a ∈ l → ∀ b, b ∈ l → f a = f b → a = b) : (l.map f).Nodup := by
  unfold List.Nodup at hl ⊢
  rw [List.pairwise_map]
  exact List.Pairwise.imp_of_mem (fun {a b} ha hb hn e => hn (h a ha b hb e)) hl
theorem tg_perm_map {n : Nat} {s : Nat → Nat} (h : tg_perm n s) : ((List.range n).map s).Nodup :=
  tg_map_nd List.nodup_range (fun a ha b hb e => h.2 a b (List.mem_range.mp ha) (List.mem_range.mp hb) e)
theorem tg_surj {n : Nat} {s : Nat → Nat} (h : tg_perm n s) (y : Nat) (hy : y < n) : ∃ v, v < n ∧ s v = y := by
  apply Classical.byContradiction
  intro hn
  have nd : (y :: (List.range n).map s).Nodup := by
    rw [List.nodup_cons]
    refine ⟨fun hm => ?_, tg_perm_map h⟩
    obtain ⟨v, hv, e⟩ := List.mem_map.mp hm
    exact hn ⟨v, List.mem_range.mp hv, e⟩
  have sb : (y :: (List.range n).map s) ⊆ List.range n := by
    intro x hx
    rcases List.mem_cons.mp hx with e | hm
    · rw [e]
      exact List.mem_range.mpr hy
    · obtain ⟨v, hv, e⟩ := List.mem_map.mp hm
      rw [← e]
      exact List.mem_range.mpr (h.1 v (List.mem_range.mp hv))
  have hl := List.Nodup.length_le_of_subset nd sb
  rw [List.length_cons, List.length_map, List.length_range] at hl
  omega
theorem tg_perm_list {n : Nat} {s : Nat → Nat} (h : tg_perm n s) : ((List.range n).map s).Perm (List.range n) := by
  refine (List.perm_ext_iff_of_nodup (tg_perm_map h) List.nodup_range).mpr (fun a => ⟨fun hm => ?_, fun hm => ?_⟩)
  · obtain ⟨v, hv, e⟩ := List.mem_map.mp hm
    rw [← e]
    exact List.mem_range.mpr (h.1 v (List.mem_range.mp hv))
  · obtain ⟨v, hv, e⟩ := tg_surj h a (List.mem_range.mp hm)
    exact List.mem_map.mpr ⟨v, List.mem_range.mpr hv, e⟩
theorem tg_inv {n : Nat} {s : Nat → Nat} (h : tg_perm n s) : ∃ t, tg_perm n t ∧ (∀ v, v < n → t (s v) = v) ∧ (∀ v, v < n → s (t v) = v) := by
  have hc : ∀ y : Nat, ∃ v : Nat, y < n → (v < n ∧ s v = y) := by
    intro y
    by_cases hy : y < n
    · obtain ⟨v, hv⟩ := tg_surj h y hy
      exact ⟨v, fun _ => hv⟩
    · exact ⟨0, fun z => absurd z hy⟩
  obtain ⟨t, ht⟩ := Classical.skolem.mp hc
  refine ⟨t, ⟨fun v hv => (ht v hv).1, fun v w hv hw e => ?_⟩, fun v hv => ?_, fun v hv => (ht v hv).2⟩
  · have e2 := congrArg s e
    rw [(ht v hv).2, (ht w hw).2] at e2
    exact e2
  · exact h.2 _ _ (ht _ (h.1 v hv)).1 hv (ht _ (h.1 v hv)).2
theorem tg_perm_comp {n : Nat} {s t : Nat → Nat} (h : tg_perm n s) (g : tg_perm n t) : tg_perm n (fun v => t (s v)) :=
  ⟨fun v hv => g.1 _ (h.1 v hv), fun v w hv hw e => h.2 v w hv hw (g.2 _ _ (h.1 v hv) (h.1 w hw) e)⟩
/-! sums of Int64 -/
def tg_sum (f : Nat → Int64) : Nat → Int64
  | 0 => 0
  | n + 1 => tg_sum f n + f n
theorem tg_sum_list (f : Nat → Int64) (n : Nat) : tg_sum f n = (List.range n).foldl (fun a v => a + f v) 0 := by
  induction n with
  | zero => rfl
  | succ n ih =>
    rw [List.range_succ, List.foldl_append, ← ih]
    rfl
theorem tg_sum_perm {n : Nat} {s : Nat → Nat} (h : tg_perm n s) (f : Nat → Int64) : tg_sum (fun v => f (s v)) n = tg_sum f n := by
  have e : (List.range n).foldl (fun a v => a + f (s v)) (0 : Int64) = ((List.range n).map s).foldl (fun a v => a + f v) 0 := by
    rw [List.foldl_map]
  rw [tg_sum_list, tg_sum_list, e]
  refine List.Perm.foldl_eq' (tg_perm_list h) (fun x _ y _ z => ?_) 0
  rw [Int64.add_assoc, Int64.add_assoc, Int64.add_comm (f x)]
theorem tg_sum_congr {f g : Nat → Int64} {n : Nat} (h : ∀ v, v < n → f v = g v) : tg_sum f n = tg_sum g n := by
  induction n with
  | zero => rfl
  | succ n ih =>
    show tg_sum f n + f n = tg_sum g n + g n
    rw [ih (fun v hv => h v (by omega)), h n (by omega)]
/-! truth as a number, counts -/
noncomputable def tg_b (p : Prop) : Nat := @ite Nat p (Classical.propDecidable p) 1 0
theorem tg_b_t {p : Prop} (h : p) : tg_b p = 1 := by
  unfold tg_b
  exact if_pos h
theorem tg_b_f {p : Prop} (h : ¬ p) : tg_b p = 0 := by
  unfold tg_b
  exact if_neg h
theorem tg_b_le (p : Prop) : tg_b p ≤ 1 := by
  by_cases h : p
  · rw [tg_b_t h]
    omega
  · rw [tg_b_f h]
    omega
theorem tg_b_mono {p q : Prop} (h : p → q) : tg_b p ≤ tg_b q := by
  by_cases hp : p
  · rw [tg_b_t hp, tg_b_t (h hp)]
    omega
  · rw [tg_b_f hp]
    omega
noncomputable def tg_cnt (p : Nat → Prop) : Nat → Nat
  | 0 => 0
  | n + 1 => tg_cnt p n + tg_b (p n)
theorem tg_cnt_s (p : Nat → Prop) (n : Nat) : tg_cnt p (n + 1) = tg_cnt p n + tg_b (p n) := rfl
theorem tg_cnt_0 (p : Nat → Prop) : tg_cnt p 0 = 0 := rfl
theorem tg_cnt_le (p : Nat → Prop) (n : Nat) : tg_cnt p n ≤ n := by
  induction n with
  | zero => exact Nat.le_refl 0
  | succ n ih =>
    rw [tg_cnt_s]
    have := tg_b_le (p n)
    omega
theorem tg_cnt_mono {p q : Nat → Prop} {n : Nat} (h : ∀ v, v < n → p v → q v) : tg_cnt p n ≤ tg_cnt q n := by
  induction n with
  | zero => exact Nat.le_refl 0
  | succ n ih =>
    rw [tg_cnt_s, tg_cnt_s]
    have h1 := tg_b_mono (h n (by omega))
    have h2 := ih (fun v hv => h v (by omega))
    omega
theorem tg_cnt_congr {p q : Nat → Prop} {n : Nat} (h : ∀ v, v < n → (p v ↔ q v)) : tg_cnt p n = tg_cnt q n :=
  Nat.le_antisymm (tg_cnt_mono (fun v hv => (h v hv).mp)) (tg_cnt_mono (fun v hv => (h v hv).mpr))
theorem tg_cnt_dis {p q : Nat → Prop} {n : Nat} (h : ∀ v, v < n → p v → q v → False) : tg_cnt p n + tg_cnt q n ≤ n := by
  induction n with
  | zero => exact Nat.le_refl 0
  | succ n ih =>
    rw [tg_cnt_s, tg_cnt_s]
    have h2 := ih (fun v hv => h v (by omega))
    by_cases hp : p n
    · rw [tg_b_t hp, tg_b_f (fun hq => h n (by omega) hp hq)]
      omega
    · rw [tg_b_f hp]
      have := tg_b_le (q n)
      omega
theorem tg_cnt_lt {p q : Nat → Prop} {n x : Nat} (h : ∀ v, v < n → p v → q v) (hx : x < n) (hp : ¬ p x) (hq : q x) : tg_cnt p n < tg_cnt q n := by
  induction n with
  | zero => omega
  | succ n ih =>
    rw [tg_cnt_s, tg_cnt_s]
    by_cases e : x = n
    · have h2 : tg_cnt p n ≤ tg_cnt q n := tg_cnt_mono (fun v hv => h v (by omega))
      rw [← e, tg_b_f hp, tg_b_t hq]
      rw [← e] at h2
      omega
    · have h2 := ih (fun v hv => h v (by omega)) (by omega)
      have h1 := tg_b_mono (h n (by omega))
      omega
theorem tg_cnt_zero {p : Nat → Prop} {n : Nat} (h : ∀ v, v < n → ¬ p v) : tg_cnt p n = 0 := by
  induction n with
  | zero => rfl
  | succ n ih => rw [tg_cnt_s, ih (fun v hv => h v (by omega)), tg_b_f (h n (by omega))]
theorem tg_cnt_pos {p : Nat → Prop} {n x : Nat} (hx : x < n) (hp : p x) : 0 < tg_cnt p n := by
  have h := tg_cnt_lt (p := fun _ => False) (q := p) (n := n) (x := x) (fun _ _ z => z.elim) hx (fun z => z) hp
  omega
theorem tg_cnt_two {p : Nat → Prop} {n x y : Nat} (hx : x < n) (hy : y < n) (hne : x ≠ y) (hp : p x) (hq : p y) : 2 ≤ tg_cnt p n := by
  have h1 := tg_cnt_lt (p := fun v => p v ∧ v ≠ y) (q := p) (n := n) (x := y) (fun _ _ z => z.1) hy (fun z => z.2 rfl) hq
  have h2 := tg_cnt_pos (p := fun v => p v ∧ v ≠ y) (n := n) (x := x) hx ⟨hp, hne⟩
  omega
theorem tg_cnt_ex {p : Nat → Prop} {n : Nat} (h : 0 < tg_cnt p n) : ∃ x, x < n ∧ p x := by
  apply Classical.byContradiction
  intro hn
  have := tg_cnt_zero (p := p) (n := n) (fun v hv hp => hn ⟨v, hv, hp⟩)
  omega
theorem tg_cnt_list (p : Nat → Prop) (n : Nat) : tg_cnt p n = ((List.range n).map (fun v => tg_b (p v))).sum := by
  induction n with
  | zero => rfl
  | succ n ih => rw [List.range_succ, List.map_append, List.sum_append, ← ih, tg_cnt_s, List.map_cons, List.map_nil, List.sum_cons, List.sum_nil, Nat.add_zero]
theorem tg_cnt_perm {n : Nat} {s : Nat → Nat} (h : tg_perm n s) (p : Nat → Prop) : tg_cnt (fun v => p (s v)) n = tg_cnt p n := by
  rw [tg_cnt_list, tg_cnt_list]
  have e : (List.range n).map (fun v => tg_b (p (s v))) = ((List.range n).map s).map (fun v => tg_b (p v)) := by
    rw [List.map_map]
    rfl
  rw [e]
  exact List.Perm.sum_nat (List.Perm.map _ (tg_perm_list h))
/-- the points that are left of [0, n) when d different ones are taken -/
theorem tg_cnt_left {n : Nat} {p : Nat → Nat} : ∀ d, (∀ k, k < d → p k < n) → (∀ i k, i < d → k < d → p i = p k → i = k) → tg_cnt (fun v => ∀ k, k < d → p k ≠ v) n + d ≤ n := by
  intro d
  induction d with
  | zero =>
    intro _ _
    have := tg_cnt_le (fun v => ∀ k, k < 0 → p k ≠ v) n
    omega
  | succ d ih =>
    intro h1 h2
    have h3 := ih (fun k hk => h1 k (by omega)) (fun i k hi hk => h2 i k (by omega) (by omega))
    have h4 := tg_cnt_lt (p := fun v => ∀ k, k < d + 1 → p k ≠ v) (q := fun v => ∀ k, k < d → p k ≠ v) (n := n) (x := p d)
      (fun v _ z k hk => z k (by omega)) (h1 d (by omega)) (fun z => z d (by omega) rfl)
      (fun k hk e => by have := h2 k d (by omega) (by omega) e; omega)
    omega
end
section
/-! isomorphisms of matrices over [0, n) -/
def tg_iso (n : Nat) (A B : Nat → Nat → Nat) (s : Nat → Nat) : Prop := tg_perm n s ∧ ∀ v w, v < n → w < n → A v w = B (s v) (s w)
theorem tg_iso_id (n : Nat) (A : Nat → Nat → Nat) : tg_iso n A A (fun v => v) := ⟨⟨fun _ h => h, fun _ _ _ _ e => e⟩, fun _ _ _ _ => rfl⟩
theorem tg_iso_comp {n : Nat} {A B C : Nat → Nat → Nat} {s t : Nat → Nat} (h : tg_iso n A B s) (g : tg_iso n B C t) : tg_iso n A C (fun v => t (s v)) :=
  ⟨tg_perm_comp h.1 g.1, fun v w hv hw => (h.2 v w hv hw).trans (g.2 _ _ (h.1.1 v hv) (h.1.1 w hw))⟩
theorem tg_iso_inv {n : Nat} {A B : Nat → Nat → Nat} {s : Nat → Nat} (h : tg_iso n A B s) : ∃ t, tg_iso n B A t ∧ (∀ v, v < n → t (s v) = v) ∧ (∀ v, v < n → s (t v) = v) := by
  obtain ⟨t, h1, h2, h3⟩ := tg_inv h.1
  refine ⟨t, ⟨h1, fun v w hv hw => ?_⟩, h2, h3⟩
  rw [h.2 _ _ (h1.1 v hv) (h1.1 w hw), h3 v hv, h3 w hw]
theorem tg_perm_ext {n : Nat} {s t : Nat → Nat} (h : tg_perm n s) (e : ∀ v, v < n → t v = s v) : tg_perm n t := by
  refine ⟨fun v hv => ?_, fun v w hv hw z => ?_⟩
  · rw [e v hv]
    exact h.1 v hv
  · rw [e v hv, e w hw] at z
    exact h.2 v w hv hw z
theorem tg_iso_ext {n : Nat} {A B : Nat → Nat → Nat} {s t : Nat → Nat} (h : tg_iso n A B s) (e : ∀ v, v < n → t v = s v) : tg_iso n A B t := by
  refine ⟨tg_perm_ext h.1 e, fun v w hv hw => ?_⟩
  rw [e v hv, e w hw]
  exact h.2 v w hv hw
/-! all lists of k numbers below n -/
def tg_ls (n : Nat) : Nat → List (List Nat)
  | 0 => [[]]
  | k + 1 => (tg_ls n k).flatMap (fun l => (List.range n).map (fun b => b :: l))
theorem tg_ls_mem {n : Nat} : ∀ {k : Nat} {l : List Nat}, l ∈ tg_ls n k ↔ l.length = k ∧ ∀ x, x ∈ l → x < n := by
  intro k
  induction k with
  | zero =>
    intro l
    constructor
    · intro h
      have e : l = [] := List.mem_singleton.mp h
      rw [e]
      exact ⟨rfl, fun x hx => absurd hx List.not_mem_nil⟩
    · intro h
      have e : l = [] := List.length_eq_zero_iff.mp h.1
      rw [e]
      exact List.mem_singleton.mpr rfl
  | succ k ih =>
    intro l
    constructor
    · intro h
      obtain ⟨l', hl', hm⟩ := List.mem_flatMap.mp h
      obtain ⟨b, hb, e⟩ := List.mem_map.mp hm
      have h2 := ih.mp hl'
      rw [← e]
      refine ⟨by rw [List.length_cons, h2.1], fun x hx => ?_⟩
      rcases List.mem_cons.mp hx with e2 | hm2
      · rw [e2]
        exact List.mem_range.mp hb
      · exact h2.2 x hm2
    · intro h
      cases l with
      | nil => exact absurd h.1 (by simp)
      | cons b l' =>
        have hl : l'.length = k := by
          have := h.1
          rw [List.length_cons] at this
          omega
        exact List.mem_flatMap.mpr ⟨l', ih.mpr ⟨hl, fun x hm => h.2 x (List.mem_cons_of_mem _ hm)⟩, List.mem_map.mpr ⟨b, List.mem_range.mpr (h.2 b List.mem_cons_self), rfl⟩⟩
theorem tg_ls_nd (n k : Nat) : (tg_ls n k).Nodup := by
  induction k with
  | zero =>
    unfold tg_ls
    exact List.nodup_cons.mpr ⟨List.not_mem_nil, List.nodup_nil⟩
  | succ k ih =>
    unfold tg_ls List.Nodup
    rw [List.pairwise_flatMap]
    refine ⟨fun l _ => ?_, ?_⟩
    · exact tg_map_nd List.nodup_range (fun a _ b _ e => (List.cons.inj e).1)
    · refine List.Pairwise.imp (fun {l1 l2} hn x hx y hy e => ?_) ih
      obtain ⟨b1, _, e1⟩ := List.mem_map.mp hx
      obtain ⟨b2, _, e2⟩ := List.mem_map.mp hy
      rw [← e1, ← e2] at e
      exact hn (List.cons.inj e).2
def tg_fn (l : List Nat) : Nat → Nat := fun v => l.getD v 0
def tg_of (n : Nat) (f : Nat → Nat) : List Nat := (List.range n).map f
theorem tg_fn_of {n : Nat} {f : Nat → Nat} {v : Nat} (hv : v < n) : tg_fn (tg_of n f) v = f v := by
  unfold tg_fn tg_of
  rw [List.getD_eq_getElem?_getD, List.getElem?_map, List.getElem?_range hv]
  rfl
theorem tg_of_mem {n : Nat} {f : Nat → Nat} (h : ∀ v, v < n → f v < n) : tg_of n f ∈ tg_ls n n := by
  refine tg_ls_mem.mpr ⟨by unfold tg_of; rw [List.length_map, List.length_range], fun x hx => ?_⟩
  obtain ⟨v, hv, e⟩ := List.mem_map.mp hx
  rw [← e]
  exact h v (List.mem_range.mp hv)
theorem tg_fn_get {l : List Nat} {v : Nat} (hv : v < l.length) : tg_fn l v = l[v] := by
  unfold tg_fn
  rw [List.getD_eq_getElem?_getD, List.getElem?_eq_getElem hv]
  rfl
theorem tg_fn_lt {n : Nat} {l : List Nat} (h : l ∈ tg_ls n n) (v : Nat) (hv : v < n) : tg_fn l v < n := by
  have h2 := tg_ls_mem.mp h
  have hv' : v < l.length := by omega
  rw [tg_fn_get hv']
  exact h2.2 _ (List.getElem_mem hv')
theorem tg_fn_inj {n : Nat} {l l' : List Nat} (h : l ∈ tg_ls n n) (h' : l' ∈ tg_ls n n) (e : ∀ v, v < n → tg_fn l v = tg_fn l' v) : l = l' := by
  have h2 := tg_ls_mem.mp h
  have h3 := tg_ls_mem.mp h'
  refine List.ext_getElem (by omega) (fun i h4 h5 => ?_)
  have := e i (by omega)
  rw [tg_fn_get h4, tg_fn_get h5] at this
  exact this
/-! how many maps of [0, n) to itself have a property -/
noncomputable def tg_len {α : Type} (P : α → Prop) : List α → Nat
  | [] => 0
  | a :: l => tg_len P l + tg_b (P a)
theorem tg_len_c {α : Type} (P : α → Prop) (a : α) (l : List α) : tg_len P (a :: l) = tg_len P l + tg_b (P a) := rfl
theorem tg_len_f {α : Type} (P : α → Prop) (l : List α) : tg_len P l = (l.filter (fun a => @decide (P a) (Classical.propDecidable _))).length := by
  induction l with
  | nil => rfl
  | cons a l ih =>
    rw [tg_len_c, ih]
    by_cases h : P a
    · rw [tg_b_t h, List.filter_cons_of_pos (by simpa using h), List.length_cons]
    · rw [tg_b_f h, List.filter_cons_of_neg (by simpa using h), Nat.add_zero]
noncomputable def tg_N (n : Nat) (P : (Nat → Nat) → Prop) : Nat := tg_len (fun l => P (tg_fn l)) (tg_ls n n)
theorem tg_len_inj {α : Type} {P Q : α → Prop} {l : List α} (nd : l.Nodup) (φ : α → α) (h1 : ∀ a, a ∈ l → P a → φ a ∈ l ∧ Q (φ a)) (h2 : ∀ a b, a ∈ l → b ∈ l → P a → P b → φ a = φ b → a = b) : tg_len P l ≤ tg_len Q l := by
  rw [tg_len_f, tg_len_f, ← List.length_map (f := φ)]
  refine List.Nodup.length_le_of_subset (tg_map_nd (List.Pairwise.filter _ nd) (fun a ha b hb e => ?_)) (fun x hx => ?_)
  · have ha' := List.mem_filter.mp ha
    have hb' := List.mem_filter.mp hb
    exact h2 a b ha'.1 hb'.1 (by simpa using ha'.2) (by simpa using hb'.2) e
  · obtain ⟨a, ha, e⟩ := List.mem_map.mp hx
    have ha' := List.mem_filter.mp ha
    have h3 := h1 a ha'.1 (by simpa using ha'.2)
    rw [← e]
    exact List.mem_filter.mpr ⟨h3.1, by simpa using h3.2⟩
theorem tg_N_le {n : Nat} {P Q : (Nat → Nat) → Prop} (φ : (Nat → Nat) → Nat → Nat)
    (h1 : ∀ f, (∀ v, v < n → f v < n) → P f → (∀ v, v < n → φ f v < n) ∧ ∀ g, (∀ v, v < n → g v = φ f v) → Q g)
    (h2 : ∀ f g, (∀ v, v < n → f v < n) → (∀ v, v < n → g v < n) → P f → P g → (∀ v, v < n → φ f v = φ g v) → ∀ v, v < n → f v = g v) : tg_N n P ≤ tg_N n Q := by
  unfold tg_N
  refine tg_len_inj (tg_ls_nd n n) (fun l => tg_of n (φ (tg_fn l))) (fun a ha hp => ?_) (fun a b ha hb hp hq e => ?_)
  · have h3 := h1 _ (tg_fn_lt ha) hp
    exact ⟨tg_of_mem h3.1, h3.2 _ (fun v hv => tg_fn_of hv)⟩
  · refine tg_fn_inj ha hb (h2 _ _ (tg_fn_lt ha) (tg_fn_lt hb) hp hq (fun v hv => ?_))
    have e2 := congrArg (fun l => tg_fn l v) e
    rw [tg_fn_of hv, tg_fn_of hv] at e2
    exact e2
theorem tg_len_zero {α : Type} {P : α → Prop} {l : List α} (h : ∀ a, a ∈ l → ¬ P a) : tg_len P l = 0 := by
  induction l with
  | nil => rfl
  | cons a l ih => rw [tg_len_c, ih (fun b hb => h b (List.mem_cons_of_mem _ hb)), tg_b_f (h a List.mem_cons_self)]
theorem tg_N_zero {n : Nat} {P : (Nat → Nat) → Prop} (h : ∀ f, (∀ v, v < n → f v < n) → ¬ P f) : tg_N n P = 0 :=
  tg_len_zero (fun a ha => h _ (tg_fn_lt ha))
def tg_S (f : Nat → Nat) : Nat → Nat
  | 0 => 0
  | n + 1 => tg_S f n + f n
theorem tg_S_congr {f g : Nat → Nat} {n : Nat} (h : ∀ v, v < n → f v = g v) : tg_S f n = tg_S g n := by
  induction n with
  | zero => rfl
  | succ n ih =>
    show tg_S f n + f n = tg_S g n + g n
    rw [ih (fun v hv => h v (by omega)), h n (by omega)]
theorem tg_S_add (f g : Nat → Nat) (n : Nat) : tg_S (fun b => f b + g b) n = tg_S f n + tg_S g n := by
  induction n with
  | zero => rfl
  | succ n ih =>
    show tg_S (fun b => f b + g b) n + (f n + g n) = (tg_S f n + f n) + (tg_S g n + g n)
    omega
theorem tg_S_cnt (p : Nat → Prop) (c n : Nat) : tg_S (fun b => tg_b (p b) * c) n = tg_cnt p n * c := by
  induction n with
  | zero => exact (Nat.zero_mul c).symm
  | succ n ih =>
    show tg_S (fun b => tg_b (p b) * c) n + tg_b (p n) * c = tg_cnt p (n + 1) * c
    rw [ih, tg_cnt_s, Nat.add_mul]
theorem tg_S_one {P : Prop} {x : Nat} : ∀ n, tg_S (fun b => tg_b (P ∧ x = b)) n = if x < n then tg_b P else 0 := by
  intro n
  induction n with
  | zero => rfl
  | succ n ih =>
    show tg_S (fun b => tg_b (P ∧ x = b)) n + tg_b (P ∧ x = n) = _
    rw [ih]
    by_cases e : x = n
    · rw [if_neg (by omega), if_pos (by omega)]
      by_cases hp : P
      · rw [tg_b_t hp, tg_b_t ⟨hp, e⟩]
      · rw [tg_b_f hp, tg_b_f (fun z => hp z.1)]
    · rw [tg_b_f (p := P ∧ x = n) (fun z => e z.2), Nat.add_zero]
      by_cases hx : x < n
      · rw [if_pos hx, if_pos (by omega)]
      · rw [if_neg hx, if_neg (by omega)]
theorem tg_len_part {α : Type} {P : α → Prop} {val : α → Nat} {n : Nat} {l : List α} (h : ∀ a, a ∈ l → val a < n) : tg_len P l = tg_S (fun b => tg_len (fun a => P a ∧ val a = b) l) n := by
  induction l with
  | nil =>
    have : ∀ n, tg_S (fun _ => 0) n = 0 := by
      intro n
      induction n with
      | zero => rfl
      | succ n ih => exact ih
    exact (this n).symm
  | cons a l ih =>
    rw [tg_len_c, ih (fun b hb => h b (List.mem_cons_of_mem _ hb))]
    have e : (fun b => tg_len (fun a => P a ∧ val a = b) (a :: l)) = (fun b => tg_len (fun a => P a ∧ val a = b) l + tg_b (P a ∧ val a = b)) := rfl
    rw [e, tg_S_add, tg_S_one, if_pos (h a List.mem_cons_self)]
theorem tg_N_part {n i : Nat} {P : (Nat → Nat) → Prop} (hi : i < n) : tg_N n P = tg_S (fun b => tg_N n (fun f => P f ∧ f i = b)) n :=
  tg_len_part (val := fun l => tg_fn l i) (fun _ ha => tg_fn_lt ha i hi)
/-! the automorphisms that fix the points below i; the orbit of i under them -/
def tg_St (n : Nat) (A : Nat → Nat → Nat) (i : Nat) (f : Nat → Nat) : Prop := tg_iso n A A f ∧ ∀ v, v < i → f v = v
def tg_E (n : Nat) (A : Nat → Nat → Nat) (i b : Nat) : Prop := ∃ f, tg_St n A i f ∧ f i = b
theorem tg_step {n i : Nat} {A : Nat → Nat → Nat} (hi : i < n) : tg_N n (tg_St n A i) = tg_cnt (tg_E n A i) n * tg_N n (tg_St n A (i + 1)) := by
  rw [tg_N_part hi, ← tg_S_cnt]
  refine tg_S_congr (fun b hb => ?_)
  by_cases he : tg_E n A i b
  · rw [tg_b_t he, Nat.one_mul]
    obtain ⟨s, ⟨hs, hf⟩, hsb⟩ := he
    obtain ⟨t, ht, h2, h3⟩ := tg_iso_inv hs
    apply Nat.le_antisymm
    · refine tg_N_le (fun f v => t (f v)) (fun f hf1 hP => ⟨fun v hv => ht.1.1 _ (hf1 v hv), fun g hg => ⟨tg_iso_ext (tg_iso_comp hP.1.1 ht) hg, fun v hv => ?_⟩⟩) (fun f g hf1 hg1 _ _ e v hv => ht.1.2 _ _ (hf1 v hv) (hg1 v hv) (e v hv))
      rw [hg v (by omega)]
      by_cases e : v = i
      · rw [e, hP.2, ← hsb, h2 i hi]
      · have z := h2 v (by omega)
        rw [hf v (by omega)] at z
        rw [hP.1.2 v (by omega)]
        exact z
    · refine tg_N_le (fun f v => s (f v)) (fun f hf1 hP => ⟨fun v hv => hs.1.1 _ (hf1 v hv), fun g hg => ⟨⟨tg_iso_ext (tg_iso_comp hP.1 hs) hg, fun v hv => ?_⟩, ?_⟩⟩) (fun f g hf1 hg1 _ _ e v hv => hs.1.2 _ _ (hf1 v hv) (hg1 v hv) (e v hv))
      · rw [hg v (by omega), hP.2 v (by omega), hf v hv]
      · rw [hg i hi, hP.2 i (by omega), hsb]
  · rw [tg_b_f he, Nat.zero_mul]
    exact tg_N_zero (fun f _ hP => he ⟨f, hP.1, hP.2⟩)
theorem tg_N_last (n : Nat) (A : Nat → Nat → Nat) : tg_N n (tg_St n A n) = 1 := by
  unfold tg_N
  rw [tg_len_f]
  have hm : tg_of n (fun v => v) ∈ tg_ls n n := tg_of_mem (fun _ h => h)
  apply Nat.le_antisymm
  · refine List.Nodup.length_le_of_subset (l₂ := [tg_of n (fun v => v)]) (List.Pairwise.filter _ (tg_ls_nd n n)) (fun x hx => ?_)
    have hx' := List.mem_filter.mp hx
    have hP : tg_St n A n (tg_fn x) := by simpa using hx'.2
    refine List.mem_singleton.mpr (tg_fn_inj hx'.1 hm (fun v hv => ?_))
    rw [tg_fn_of hv, hP.2 v hv]
  · refine List.Nodup.length_le_of_subset (l₁ := [tg_of n (fun v => v)]) (List.nodup_cons.mpr ⟨List.not_mem_nil, List.nodup_nil⟩) (fun x hx => ?_)
    rw [List.mem_singleton.mp hx]
    have hP : tg_St n A n (tg_fn (tg_of n (fun v => v))) := ⟨tg_iso_ext (tg_iso_id n A) (fun v hv => tg_fn_of hv), fun v hv => tg_fn_of hv⟩
    exact List.mem_filter.mpr ⟨hm, by simpa using hP⟩
noncomputable def tg_pr (n : Nat) (A : Nat → Nat → Nat) : Nat → Nat
  | 0 => 1
  | i + 1 => tg_pr n A i * tg_cnt (tg_E n A i) n
theorem tg_pr_N (n : Nat) (A : Nat → Nat → Nat) : ∀ i, i ≤ n → tg_N n (tg_St n A 0) = tg_pr n A i * tg_N n (tg_St n A i) := by
  intro i
  induction i with
  | zero =>
    intro _
    exact (Nat.one_mul _).symm
  | succ i ih =>
    intro hi
    rw [ih (by omega), tg_step (show i < n by omega), ← Nat.mul_assoc]
    rfl
theorem tg_pr_eq (n : Nat) (A : Nat → Nat → Nat) : tg_pr n A n = tg_N n (tg_St n A 0) := by
  rw [tg_pr_N n A n (Nat.le_refl n), tg_N_last, Nat.mul_one]
theorem tg_N_conj {n : Nat} {A B : Nat → Nat → Nat} {s : Nat → Nat} (h : tg_iso n A B s) : tg_N n (tg_St n A 0) ≤ tg_N n (tg_St n B 0) := by
  obtain ⟨t, ht, h2, h3⟩ := tg_iso_inv h
  refine tg_N_le (fun f v => s (f (t v))) (fun f hf hP => ⟨fun v hv => h.1.1 _ (hf _ (ht.1.1 v hv)), fun g hg => ⟨tg_iso_ext (tg_iso_comp (tg_iso_comp ht hP.1) h) hg, fun v hv => absurd hv (by omega)⟩⟩) (fun f g hf hg _ _ e v hv => ?_)
  have z := h.1.2 _ _ (hf _ (ht.1.1 _ (h.1.1 v hv))) (hg _ (ht.1.1 _ (h.1.1 v hv))) (e (s v) (h.1.1 v hv))
  rw [h2 v hv] at z
  exact z
/-- isomorphic matrices have the same number of automorphisms -/
theorem tg_pr_iso {n : Nat} {A B : Nat → Nat → Nat} {s : Nat → Nat} (h : tg_iso n A B s) : tg_pr n A n = tg_pr n B n := by
  obtain ⟨t, ht, _, _⟩ := tg_iso_inv h
  rw [tg_pr_eq, tg_pr_eq]
  exact Nat.le_antisymm (tg_N_conj h) (tg_N_conj ht)
theorem tg_E_i {n i : Nat} (A : Nat → Nat → Nat) : tg_E n A i i := ⟨fun v => v, ⟨tg_iso_id n A, fun _ _ => rfl⟩, rfl⟩
theorem tg_E_lo {n i b : Nat} {A : Nat → Nat → Nat} (hi : i < n) (hb : b < i) : ¬ tg_E n A i b := by
  intro ⟨f, hf, e⟩
  have := hf.1.1.2 i b hi (by omega) (by rw [e, hf.2 b hb])
  omega
theorem tg_E_1 {n i : Nat} {A : Nat → Nat → Nat} (hi : i < n) : tg_cnt (tg_E n A i) (i + 1) = 1 := by
  rw [tg_cnt_s, tg_cnt_zero (fun v hv => tg_E_lo hi hv), tg_b_t (tg_E_i A)]
theorem tg_pr_bd {n : Nat} (A : Nat → Nat → Nat) (hn : n ≤ 7) : ∀ i, i ≤ n → 1 ≤ tg_pr n A i ∧ tg_pr n A i ≤ 7 ^ i := by
  intro i
  induction i with
  | zero =>
    intro _
    exact ⟨Nat.le_refl 1, Nat.le_refl 1⟩
  | succ i ih =>
    intro hi
    have h1 := ih (by omega)
    have h2 : 0 < tg_cnt (tg_E n A i) n := tg_cnt_pos (x := i) (by omega) (tg_E_i A)
    have h3 : tg_cnt (tg_E n A i) n ≤ 7 := Nat.le_trans (tg_cnt_le _ _) hn
    show 1 ≤ tg_pr n A i * tg_cnt (tg_E n A i) n ∧ tg_pr n A i * tg_cnt (tg_E n A i) n ≤ 7 ^ i * 7
    exact ⟨Nat.mul_pos h1.1 h2, Nat.mul_le_mul h1.2 h3⟩
end
section
/-! the word of an order p of the points, row after row -/
def tg_rw (A : Nat → Nat → Nat) (p : Nat → Nat) (v : Nat) : Nat → Nat
  | 0 => 0
  | k + 1 => 4 * tg_rw A p v k + A v (p k)
def tg_row (A : Nat → Nat → Nat) (p : Nat → Nat) (d v : Nat) : Nat := 4 * tg_rw A p v d + A v v
def tg_word (A : Nat → Nat → Nat) (p : Nat → Nat) : Nat → Nat
  | 0 => 0
  | d + 1 => tg_word A p d * 2 ^ (2 * (d + 1)) + tg_row A p d (p d)
theorem tg_word_s (A : Nat → Nat → Nat) (p : Nat → Nat) (d : Nat) : tg_word A p (d + 1) = tg_word A p d * 2 ^ (2 * (d + 1)) + tg_row A p d (p d) := rfl
theorem tg_rw_s (A : Nat → Nat → Nat) (p : Nat → Nat) (v k : Nat) : tg_rw A p v (k + 1) = 4 * tg_rw A p v k + A v (p k) := rfl
theorem tg_p4 (k : Nat) : 2 ^ (2 * (k + 1)) = 4 * 2 ^ (2 * k) := by
  rw [show 2 * (k + 1) = 2 * k + 1 + 1 by omega, Nat.pow_succ, Nat.pow_succ]
  omega
theorem tg_rw_lt {A : Nat → Nat → Nat} {p : Nat → Nat} {v n : Nat} (h4 : ∀ x y, x < n → y < n → A x y < 4) (hv : v < n) : ∀ k, (∀ j, j < k → p j < n) → tg_rw A p v k < 2 ^ (2 * k) := by
  intro k
  induction k with
  | zero =>
    intro _
    exact Nat.zero_lt_one
  | succ k ih =>
    intro hp
    have h1 := ih (fun j hj => hp j (by omega))
    have h2 := h4 v (p k) hv (hp k (by omega))
    rw [tg_rw_s, tg_p4]
    generalize 2 ^ (2 * k) = X at h1 ⊢
    omega
theorem tg_row_lt {A : Nat → Nat → Nat} {p : Nat → Nat} {v n d : Nat} (h4 : ∀ x y, x < n → y < n → A x y < 4) (hv : v < n) (hp : ∀ j, j < d → p j < n) : tg_row A p d v < 2 ^ (2 * (d + 1)) := by
  have h1 := tg_rw_lt h4 hv d hp
  have h2 := h4 v v hv hv
  unfold tg_row
  rw [tg_p4]
  generalize 2 ^ (2 * d) = X at h1 ⊢
  omega
theorem tg_mulsplit {a b x y X : Nat} (hx : x < X) (hy : y < X) (e : a * X + x = b * X + y) : a = b ∧ x = y := by
  have hX : 0 < X := by omega
  have h1 : (a * X + x) / X = a := by rw [Nat.add_comm, Nat.add_mul_div_right _ _ hX, Nat.div_eq_of_lt hx, Nat.zero_add]
  have h2 : (b * X + y) / X = b := by rw [Nat.add_comm, Nat.add_mul_div_right _ _ hX, Nat.div_eq_of_lt hy, Nat.zero_add]
  have h3 : a = b := by rw [← h1, e, h2]
  refine ⟨h3, ?_⟩
  rw [h3] at e
  omega
theorem tg_mulless {a b x y X : Nat} (hx : x < X) (h : a < b) : a * X + x < b * X + y := by
  have h1 : (a + 1) * X ≤ b * X := Nat.mul_le_mul_right X h
  rw [Nat.add_mul, Nat.one_mul] at h1
  omega
theorem tg_word_lt {A : Nat → Nat → Nat} {p : Nat → Nat} {n : Nat} (h4 : ∀ x y, x < n → y < n → A x y < 4) : ∀ d, (∀ j, j < d → p j < n) → tg_word A p d < 2 ^ (d * (d + 1)) := by
  intro d
  induction d with
  | zero =>
    intro _
    exact Nat.zero_lt_one
  | succ d ih =>
    intro hp
    have h1 := ih (fun j hj => hp j (by omega))
    have h2 := tg_row_lt (d := d) h4 (hp d (by omega)) (fun j hj => hp j (by omega))
    have h3 := tg_mulless (y := 0) h2 h1
    rw [tg_word_s]
    have e : 2 ^ ((d + 1) * (d + 1 + 1)) = 2 ^ (d * (d + 1)) * 2 ^ (2 * (d + 1)) := by
      rw [← Nat.pow_add]
      congr 1
      rw [Nat.mul_comm, ← Nat.add_mul, Nat.mul_comm]
    rw [e]
    omega
theorem tg_rw_congr {A : Nat → Nat → Nat} {p q : Nat → Nat} {v : Nat} : ∀ k, (∀ j, j < k → p j = q j) → tg_rw A p v k = tg_rw A q v k := by
  intro k
  induction k with
  | zero =>
    intro _
    rfl
  | succ k ih =>
    intro h
    rw [tg_rw_s, tg_rw_s, ih (fun j hj => h j (by omega)), h k (by omega)]
theorem tg_row_congr {A : Nat → Nat → Nat} {p q : Nat → Nat} {d v : Nat} (h : ∀ j, j < d → p j = q j) : tg_row A p d v = tg_row A q d v := by
  unfold tg_row
  rw [tg_rw_congr d h]
theorem tg_word_congr {A : Nat → Nat → Nat} {p q : Nat → Nat} : ∀ d, (∀ j, j < d → p j = q j) → tg_word A p d = tg_word A q d := by
  intro d
  induction d with
  | zero =>
    intro _
    rfl
  | succ d ih =>
    intro h
    rw [tg_word_s, tg_word_s, ih (fun j hj => h j (by omega)), h d (by omega), tg_row_congr (fun j hj => h j (show j < d + 1 by omega))]
theorem tg_rw_iso {n : Nat} {A B : Nat → Nat → Nat} {s p : Nat → Nat} {v : Nat} (h : ∀ x y, x < n → y < n → A x y = B (s x) (s y)) (hv : v < n) : ∀ k, (∀ j, j < k → p j < n) → tg_rw A p v k = tg_rw B (fun j => s (p j)) (s v) k := by
  intro k
  induction k with
  | zero =>
    intro _
    rfl
  | succ k ih =>
    intro hp
    rw [tg_rw_s, tg_rw_s, ih (fun j hj => hp j (by omega)), h v (p k) hv (hp k (by omega))]
theorem tg_row_iso {n d : Nat} {A B : Nat → Nat → Nat} {s p : Nat → Nat} {v : Nat} (h : ∀ x y, x < n → y < n → A x y = B (s x) (s y)) (hv : v < n) (hp : ∀ j, j < d → p j < n) : tg_row A p d v = tg_row B (fun j => s (p j)) d (s v) := by
  unfold tg_row
  rw [tg_rw_iso h hv d hp, h v v hv hv]
theorem tg_word_iso {n : Nat} {A B : Nat → Nat → Nat} {s p : Nat → Nat} (h : ∀ x y, x < n → y < n → A x y = B (s x) (s y)) : ∀ d, (∀ j, j < d → p j < n) → tg_word A p d = tg_word B (fun j => s (p j)) d := by
  intro d
  induction d with
  | zero =>
    intro _
    rfl
  | succ d ih =>
    intro hp
    rw [tg_word_s, tg_word_s, ih (fun j hj => hp j (by omega)), tg_row_iso h (hp d (by omega)) (fun j hj => hp j (show j < d + 1 by omega))]
theorem tg_rw_dec {n : Nat} {A B : Nat → Nat → Nat} {p q : Nat → Nat} {v w : Nat} (hA : ∀ x y, x < n → y < n → A x y < 4) (hB : ∀ x y, x < n → y < n → B x y < 4) (hv : v < n) (hw : w < n) : ∀ k, (∀ j, j < k → p j < n) → (∀ j, j < k → q j < n) → tg_rw A p v k = tg_rw B q w k → ∀ j, j < k → A v (p j) = B w (q j) := by
  intro k
  induction k with
  | zero =>
    intro _ _ _ j hj
    omega
  | succ k ih =>
    intro hp hq e j hj
    rw [tg_rw_s, tg_rw_s] at e
    have h1 := hA v (p k) hv (hp k (by omega))
    have h2 := hB w (q k) hw (hq k (by omega))
    by_cases z : j = k
    · rw [z]
      omega
    · exact ih (fun i hi => hp i (by omega)) (fun i hi => hq i (by omega)) (by omega) j (by omega)
theorem tg_word_dec {n : Nat} {A B : Nat → Nat → Nat} {p q : Nat → Nat} (hA : ∀ x y, x < n → y < n → A x y < 4) (hB : ∀ x y, x < n → y < n → B x y < 4) : ∀ d, (∀ j, j < d → p j < n) → (∀ j, j < d → q j < n) → tg_word A p d = tg_word B q d → ∀ i k, i < d → k ≤ i → A (p i) (p k) = B (q i) (q k) := by
  intro d
  induction d with
  | zero =>
    intro _ _ _ i k hi
    omega
  | succ d ih =>
    intro hp hq e i k hi hk
    rw [tg_word_s, tg_word_s] at e
    have h := tg_mulsplit (tg_row_lt hA (hp d (by omega)) (fun j hj => hp j (show j < d + 1 by omega))) (tg_row_lt hB (hq d (by omega)) (fun j hj => hq j (show j < d + 1 by omega))) e
    by_cases z : i = d
    · have h2 := h.2
      unfold tg_row at h2
      have h3 := hA (p d) (p d) (hp d (by omega)) (hp d (by omega))
      have h4 := hB (q d) (q d) (hq d (by omega)) (hq d (by omega))
      by_cases z2 : k = d
      · rw [z, z2]
        omega
      · rw [z]
        exact tg_rw_dec hA hB (hp d (by omega)) (hq d (by omega)) d (fun j hj => hp j (by omega)) (fun j hj => hq j (by omega)) (by omega) k (by omega)
    · exact ih (fun j hj => hp j (by omega)) (fun j hj => hq j (by omega)) h.1 i k (by omega) hk
/-- m is the least word over all orders -/
def tg_min (A : Nat → Nat → Nat) (n m : Nat) : Prop := (∃ p, tg_perm n p ∧ tg_word A p n = m) ∧ ∀ p, tg_perm n p → m ≤ tg_word A p n
theorem tg_min_iso {n m m' : Nat} {A B : Nat → Nat → Nat} {s : Nat → Nat} (h : tg_iso n A B s) (ha : tg_min A n m) (hb : tg_min B n m') : m = m' := by
  obtain ⟨t, ht, _, _⟩ := tg_iso_inv h
  obtain ⟨⟨p, hp, ep⟩, h1⟩ := ha
  obtain ⟨⟨q, hq, eq⟩, h2⟩ := hb
  have e1 := tg_word_iso (s := s) (p := p) h.2 n (fun j hj => hp.1 j hj)
  have e2 := tg_word_iso (s := t) (p := q) ht.2 n (fun j hj => hq.1 j hj)
  have h3 := h2 _ (tg_perm_comp hp h.1)
  have h4 := h1 _ (tg_perm_comp hq ht.1)
  omega
theorem tg_min_eq {n m : Nat} {A B : Nat → Nat → Nat} (hA : ∀ x y, x < n → y < n → A x y < 4) (hB : ∀ x y, x < n → y < n → B x y < 4)
    (sA : ∀ x y, x < n → y < n → A x y = A y x) (sB : ∀ x y, x < n → y < n → B x y = B y x) (ha : tg_min A n m) (hb : tg_min B n m) : ∃ s, tg_iso n A B s := by
  obtain ⟨⟨p, hp, ep⟩, _⟩ := ha
  obtain ⟨⟨q, hq, eq⟩, _⟩ := hb
  have hd := tg_word_dec (p := p) (q := q) hA hB n (fun j hj => hp.1 j hj) (fun j hj => hq.1 j hj) (by rw [ep, eq])
  obtain ⟨t, ht, h2, h3⟩ := tg_inv hp
  refine ⟨fun v => q (t v), tg_perm_comp ht hq, fun v w hv hw => ?_⟩
  have e : ∀ i k, i < n → k < n → A (p i) (p k) = B (q i) (q k) := by
    intro i k hi hk
    by_cases z : k ≤ i
    · exact hd i k hi z
    · rw [sA _ _ (hp.1 i hi) (hp.1 k hk), sB _ _ (hq.1 i hi) (hq.1 k hk)]
      exact hd k i hk (by omega)
  have := e (t v) (t w) (ht.1 v hv) (ht.1 w hw)
  rw [h3 v hv, h3 w hw] at this
  exact this
/-! order of words -/
theorem tg_word_mono {A : Nat → Nat → Nat} {p q : Nat → Nat} {n : Nat} (h4 : ∀ x y, x < n → y < n → A x y < 4) (hp : ∀ j, j < n → p j < n) {d : Nat} : ∀ e, d ≤ e → e ≤ n → tg_word A p d < tg_word A q d → tg_word A p e < tg_word A q e := by
  intro e
  induction e with
  | zero =>
    intro h1 _ h
    rw [show d = 0 by omega] at h
    exact h
  | succ e ih =>
    intro h1 h2 h
    by_cases z : d = e + 1
    · rw [z] at h
      exact h
    · rw [tg_word_s, tg_word_s]
      exact tg_mulless (tg_row_lt h4 (hp e (by omega)) (fun j hj => hp j (by omega))) (ih (by omega) (by omega) h)
theorem tg_word_low {A : Nat → Nat → Nat} {q : Nat → Nat} {d : Nat} : ∀ k, tg_word A q d * 2 ^ ((d + k) * (d + k + 1) - d * (d + 1)) ≤ tg_word A q (d + k) := by
  intro k
  induction k with
  | zero =>
    rw [Nat.add_zero, Nat.sub_self, Nat.pow_zero, Nat.mul_one]
    exact Nat.le_refl _
  | succ k ih =>
    have e0 : (d + (k + 1)) * (d + (k + 1) + 1) = (d + k) * (d + k + 1) + 2 * (d + k + 1) := by
      rw [show d + (k + 1) = d + k + 1 by omega, Nat.mul_comm, ← Nat.add_mul]
    have e1 : d * (d + 1) ≤ (d + k) * (d + k + 1) := Nat.mul_le_mul (by omega) (by omega)
    have e2 : (d + (k + 1)) * (d + (k + 1) + 1) - d * (d + 1) = ((d + k) * (d + k + 1) - d * (d + 1)) + 2 * (d + k + 1) := by omega
    rw [e2, Nat.pow_add, ← Nat.mul_assoc]
    have h2 := Nat.mul_le_mul_right (2 ^ (2 * (d + k + 1))) ih
    have h3 : tg_word A q (d + (k + 1)) = tg_word A q (d + k) * 2 ^ (2 * (d + k + 1)) + tg_row A q (d + k) (q (d + k)) := rfl
    rw [h3]
    exact Nat.le_trans h2 (Nat.le_add_right _ _)
/-! swapping two points -/
def tg_sw (u v x : Nat) : Nat := if x = u then v else if x = v then u else x
theorem tg_sw_l (u v : Nat) : tg_sw u v u = v := if_pos rfl
theorem tg_sw_r (u v : Nat) : tg_sw u v v = u := by
  unfold tg_sw
  by_cases h : v = u
  · rw [if_pos h, h]
  · rw [if_neg h, if_pos rfl]
theorem tg_sw_o {u v x : Nat} (h1 : x ≠ u) (h2 : x ≠ v) : tg_sw u v x = x := by
  unfold tg_sw
  rw [if_neg h1, if_neg h2]
theorem tg_sw_lt {n u v x : Nat} (hu : u < n) (hv : v < n) (hx : x < n) : tg_sw u v x < n := by
  unfold tg_sw
  split
  · exact hv
  · split
    · exact hu
    · exact hx
theorem tg_sw_sw (u v x : Nat) : tg_sw u v (tg_sw u v x) = x := by
  by_cases h1 : x = u
  · rw [h1, tg_sw_l, tg_sw_r]
  · by_cases h2 : x = v
    · rw [h2, tg_sw_r, tg_sw_l]
    · rw [tg_sw_o h1 h2, tg_sw_o h1 h2]
theorem tg_sw_perm {n u v : Nat} (hu : u < n) (hv : v < n) : tg_perm n (tg_sw u v) := by
  refine ⟨fun x hx => tg_sw_lt hu hv hx, fun x y _ _ e => ?_⟩
  have e2 := congrArg (tg_sw u v) e
  rw [tg_sw_sw, tg_sw_sw] at e2
  exact e2
theorem tg_sw_iso {n u v : Nat} {A : Nat → Nat → Nat} (sA : ∀ x y, x < n → y < n → A x y = A y x) (hu : u < n) (hv : v < n) (h1 : A u u = A v v) (h2 : ∀ w, w < n → w ≠ u → w ≠ v → A u w = A v w) : tg_iso n A A (tg_sw u v) := by
  refine ⟨tg_sw_perm hu hv, fun x y hx hy => ?_⟩
  by_cases x1 : x = u
  · by_cases y1 : y = u
    · rw [x1, y1, tg_sw_l]
      exact h1
    · by_cases y2 : y = v
      · rw [x1, y2, tg_sw_l, tg_sw_r]
        exact sA u v hu hv
      · rw [x1, tg_sw_l, tg_sw_o y1 y2]
        exact h2 y hy y1 y2
  · by_cases x2 : x = v
    · by_cases y1 : y = u
      · rw [x2, y1, tg_sw_l, tg_sw_r]
        exact sA v u hv hu
      · by_cases y2 : y = v
        · rw [x2, y2, tg_sw_r]
          exact h1.symm
        · rw [x2, tg_sw_r, tg_sw_o y1 y2]
          exact (h2 y hy y1 y2).symm
    · rw [tg_sw_o x1 x2]
      by_cases y1 : y = u
      · rw [y1, tg_sw_l, sA x u hx hu, sA x v hx hv]
        exact h2 x hx x1 x2
      · by_cases y2 : y = v
        · rw [y2, tg_sw_r, sA x u hx hu, sA x v hx hv]
          exact (h2 x hx x1 x2).symm
        · rw [tg_sw_o y1 y2]
/-! the best word so far -/
def tg_ge (M : Option Nat) (x : Nat) : Prop := ∃ m, M = some m ∧ m ≤ x
/-- the pruned search misses nothing: q any order that begins with p -/
theorem tg_cover {n d least : Nat} {A : Nat → Nat → Nat} {p : Nat → Nat} {M : Option Nat} {cov : Nat → Prop} (h4 : ∀ x y, x < n → y < n → A x y < 4) (hd : d < n)
    (hcov : ∀ v, v < n → (∀ k, k < d → p k ≠ v) → cov v → ∃ s, tg_iso n A A s ∧ (∀ k, k < d → s (p k) = p k) ∧ s v < v)
    (v0 : Nat) (hv0 : v0 < n) (hf : ∀ k, k < d → p k ≠ v0) (hr : tg_row A p d v0 = least) (hl : ∀ v, v < n → (∀ k, k < d → p k ≠ v) → least ≤ tg_row A p d v)
    (hM : ∀ q, tg_perm n q → (∀ k, k < d → q k = p k) → tg_row A p d (q d) = least → ¬ cov (q d) → tg_ge M (tg_word A q n)) :
    ∀ q, tg_perm n q → (∀ k, k < d → q k = p k) → tg_ge M (tg_word A q n) := by
  have key : ∀ x q, q d = x → tg_perm n q → (∀ k, k < d → q k = p k) → tg_row A p d (q d) = least → tg_ge M (tg_word A q n) := by
    intro x
    induction x using Nat.strongRecOn with
    | ind x ih =>
      intro q hx hq hk hrow
      by_cases hc : cov (q d)
      · have hun : ∀ k, k < d → p k ≠ q d := by
          intro k hkd e
          rw [← hk k hkd] at e
          have := hq.2 k d (by omega) hd e
          omega
        obtain ⟨s, hs, hfix, hlt⟩ := hcov (q d) (hq.1 d hd) hun hc
        have e1 := tg_word_iso (s := s) (p := q) hs.2 n (fun j hj => hq.1 j hj)
        rw [e1]
        refine ih (s (q d)) (by omega) (fun j => s (q j)) rfl (tg_perm_comp hq hs.1) (fun k hkd => ?_) ?_
        · show s (q k) = p k
          rw [hk k hkd, hfix k hkd]
        · show tg_row A p d (s (q d)) = least
          rw [← hrow]
          have e2 := tg_row_iso (d := d) (s := s) (p := p) (v := q d) hs.2 (hq.1 d hd) (fun j hj => by rw [← hk j hj]; exact hq.1 j (by omega))
          rw [e2]
          exact tg_row_congr (fun j hj => (hfix j hj).symm)
      · exact hM q hq hk hrow hc
  intro q hq hk
  by_cases hrow : tg_row A p d (q d) = least
  · exact key (q d) q rfl hq hk hrow
  · have hun : ∀ k, k < d → p k ≠ q d := by
      intro k hkd e
      rw [← hk k hkd] at e
      have := hq.2 k d (by omega) hd e
      omega
    have hgt := hl (q d) (hq.1 d hd) hun
    have hq2 : tg_perm n (fun j => tg_sw (q d) v0 (q j)) := tg_perm_comp hq (tg_sw_perm (hq.1 d hd) hv0)
    have hk2 : ∀ k, k < d → tg_sw (q d) v0 (q k) = p k := by
      intro k hkd
      rw [hk k hkd]
      exact tg_sw_o (hun k hkd) (hf k hkd)
    have hd2 : tg_sw (q d) v0 (q d) = v0 := tg_sw_l _ _
    have h5 := key v0 (fun j => tg_sw (q d) v0 (q j)) hd2 hq2 hk2 (by show tg_row A p d (tg_sw (q d) v0 (q d)) = least; rw [hd2, hr])
    obtain ⟨m, e, hm⟩ := h5
    refine ⟨m, e, ?_⟩
    have hlt : tg_word A (fun j => tg_sw (q d) v0 (q j)) (d + 1) < tg_word A q (d + 1) := by
      rw [tg_word_s, tg_word_s]
      show _ + tg_row A (fun j => tg_sw (q d) v0 (q j)) d (tg_sw (q d) v0 (q d)) < _
      rw [hd2, tg_word_congr d (q := q) (fun j hj => (hk2 j hj).trans (hk j hj).symm), tg_row_congr (q := p) (fun j hj => hk2 j hj), tg_row_congr (p := q) (q := p) (fun j hj => hk j hj), hr]
      omega
    have h6 := tg_word_mono (p := fun j => tg_sw (q d) v0 (q j)) (q := q) h4 (fun j hj => hq2.1 j hj) n (show d + 1 ≤ n by omega) (Nat.le_refl n) hlt
    omega
end
section
/-! the 14 points (X: v, Y: 7 + v) parted by c; isomorphisms that keep c; pins -/
def tg_pres (n : Nat) (c : Nat → Nat) (s : Nat → Nat) : Prop := ∀ v, v < n → c v = c (7 + s v)
def tg_ex (n : Nat) (A B : Nat → Nat → Nat) (K : Nat) (px py : Nat → Nat) : Prop := ∃ s, tg_iso n A B s ∧ ∀ k, k < K → s (px k) = py k
def tg_ref (n : Nat) (A B : Nat → Nat → Nat) (c c' : Nat → Nat) : Prop := (∀ v w, v < 14 → w < 14 → c' v = c' w → c v = c w) ∧ ∀ s, tg_iso n A B s → tg_pres n c s → tg_pres n c' s
theorem tg_ref_refl (n : Nat) (A B : Nat → Nat → Nat) (c : Nat → Nat) : tg_ref n A B c c := ⟨fun _ _ _ _ e => e, fun _ _ h => h⟩
theorem tg_ref_trans {n : Nat} {A B : Nat → Nat → Nat} {c c' c'' : Nat → Nat} (h : tg_ref n A B c c') (g : tg_ref n A B c' c'') : tg_ref n A B c c'' :=
  ⟨fun v w hv hw e => h.1 v w hv hw (g.1 v w hv hw e), fun s hs hp => g.2 s hs (h.2 s hs hp)⟩
theorem tg_ref_mk {n : Nat} {A B : Nat → Nat → Nat} {c c' : Nat → Nat} {m : Nat → Int64} (hn : n ≤ 7) (h : ∀ v w, v < 14 → w < 14 → (c' v = c' w ↔ c v = c w ∧ m v = m w))
    (hm : ∀ s, tg_iso n A B s → tg_pres n c s → ∀ v, v < n → m v = m (7 + s v)) : tg_ref n A B c c' := by
  refine ⟨fun v w hv hw e => ((h v w hv hw).mp e).1, fun s hs hp v hv => ?_⟩
  have h2 := hs.1.1 v hv
  exact (h v (7 + s v) (by omega) (by omega)).mpr ⟨hp v hv, hm s hs hp v hv⟩
/-! marks of the pins -/
def tg_mk (base px py : Nat → Nat) : Nat → Nat → Nat
  | 0, v => base v
  | k + 1, v => tg_mk base px py k v + (if v = px k then 4 * (k + 1) else 0) + (if v = 7 + py k then 4 * (k + 1) else 0)
theorem tg_mk_s (base px py : Nat → Nat) (k v : Nat) : tg_mk base px py (k + 1) v = tg_mk base px py k v + (if v = px k then 4 * (k + 1) else 0) + (if v = 7 + py k then 4 * (k + 1) else 0) := rfl
theorem tg_mk_inv {n K : Nat} {s base px py : Nat → Nat} (hn : n ≤ 7) (hs : tg_perm n s) (hx : ∀ k, k < K → px k < n) (hp : ∀ k, k < K → s (px k) = py k) (hb : ∀ v, v < n → base v = base (7 + s v)) :
    ∀ k, k ≤ K → ∀ v, v < n → tg_mk base px py k v = tg_mk base px py k (7 + s v) := by
  intro k
  induction k with
  | zero =>
    intro _ v hv
    exact hb v hv
  | succ k ih =>
    intro hk v hv
    have h1 := hx k (by omega)
    have h2 := hp k (by omega)
    rw [tg_mk_s, tg_mk_s, ih (by omega) v hv]
    by_cases e : v = px k
    · have h3 : 7 + s v = 7 + py k := by rw [e, h2]
      rw [if_pos e, if_neg (show ¬ v = 7 + py k by omega), if_neg (show ¬ 7 + s v = px k by omega), if_pos h3]
      omega
    · have h3 : ¬ 7 + s v = 7 + py k := by
        intro z
        have z2 : s v = s (px k) := by omega
        exact e (hs.2 v (px k) hv h1 z2)
      rw [if_neg e, if_neg (show ¬ v = 7 + py k by omega), if_neg (show ¬ 7 + s v = px k by omega), if_neg h3]
theorem tg_sep {g p : Nat → Nat} {x b K : Nat} (h0 : g 0 = b) (hs : ∀ k, k < K → g (k + 1) = g k + (if x = p k then 4 * (k + 1) else 0)) (hi : ∀ i j, i < K → j < K → p i = p j → i = j) :
    ∀ k, k ≤ K → ((∀ j, j < k → p j ≠ x) ∧ g k = b) ∨ ∃ j, j < k ∧ p j = x ∧ g k = b + 4 * (j + 1) := by
  intro k
  induction k with
  | zero =>
    intro _
    exact Or.inl ⟨fun j hj => absurd hj (by omega), h0⟩
  | succ k ih =>
    intro hk
    have h1 := hs k (by omega)
    rcases ih (by omega) with ⟨h2, h3⟩ | ⟨j, hj, h2, h3⟩
    · by_cases e : x = p k
      · rw [if_pos e] at h1
        exact Or.inr ⟨k, by omega, e.symm, by omega⟩
      · rw [if_neg e] at h1
        refine Or.inl ⟨fun j hj => ?_, by omega⟩
        by_cases z : j = k
        · rw [z]
          exact fun z2 => e z2.symm
        · exact h2 j (by omega)
    · have e : ¬ x = p k := by
        intro z
        have := hi j k (by omega) (by omega) (h2.trans z)
        omega
      rw [if_neg e] at h1
      exact Or.inr ⟨j, by omega, h2, by omega⟩
theorem tg_mk_pins {n K : Nat} {base px py : Nat → Nat} (hn : n ≤ 7) (hx : ∀ k, k < K → px k < n) (hy : ∀ k, k < K → py k < n) (ix : ∀ i j, i < K → j < K → px i = px j → i = j) (iy : ∀ i j, i < K → j < K → py i = py j → i = j)
    (hb : ∀ v, base v < 4) {j w : Nat} (hj : j < K) (hw : w < n) (e : tg_mk base px py K (px j) = tg_mk base px py K (7 + w)) : w = py j := by
  have h1 := hx j hj
  have hX := tg_sep (g := fun k => tg_mk base px py k (px j)) (p := px) (x := px j) (b := base (px j)) (K := K) rfl
    (fun k hk => by have := hy k hk; show _ = tg_mk base px py k (px j) + _; rw [tg_mk_s, if_neg (show ¬ px j = 7 + py k by omega), Nat.add_zero]) ix K (Nat.le_refl K)
  have hY := tg_sep (g := fun k => tg_mk base px py k (7 + w)) (p := fun k => 7 + py k) (x := 7 + w) (b := base (7 + w)) (K := K) rfl
    (fun k hk => by have := hx k hk; show _ = tg_mk base px py k (7 + w) + _; rw [tg_mk_s, if_neg (show ¬ 7 + w = px k by omega), Nat.add_zero]) (fun i k hi hk z => iy i k hi hk (by omega)) K (Nat.le_refl K)
  have b1 := hb (px j)
  have b2 := hb (7 + w)
  rcases hX with ⟨h2, h3⟩ | ⟨i, hi, h2, h3⟩
  · exact absurd rfl (h2 j hj)
  · have hij := ix i j hi hj h2
    rcases hY with ⟨h4, h5⟩ | ⟨i', hi', h4, h5⟩
    · omega
    · have : i' = j := by omega
      rw [this] at h4
      omega
theorem tg_mk_bd {base px py : Nat → Nat} (hb : ∀ v, base v < 4) (v : Nat) : ∀ k, k ≤ 7 → tg_mk base px py k v < 4 + 56 * k := by
  intro k
  induction k with
  | zero =>
    intro _
    exact hb v
  | succ k ih =>
    intro hk
    have h1 := ih (by omega)
    rw [tg_mk_s]
    have h2 : (if v = px k then 4 * (k + 1) else 0) ≤ 28 := by
      split <;> omega
    have h3 : (if v = 7 + py k then 4 * (k + 1) else 0) ≤ 28 := by
      split <;> omega
    omega
/-! marks by what a point sees of a part -/
def tg_F (r : Nat) : Int64 := (1 : Int64) <<< (((4 : Int32) * nI r).toInt64 &&& 63)
def tg_see (A : Nat → Nat → Nat) (c : Nat → Nat) (g v : Nat) : Nat → Int64 := fun w => if w ≠ v ∧ c w = g then tg_F (A v w) else 0
theorem tg_see_inv {n : Nat} {A B : Nat → Nat → Nat} {c s : Nat → Nat} {g v : Nat} (hs : tg_iso n A B s) (hp : tg_pres n c s) (hv : v < n) :
    tg_sum (tg_see A c g v) n = tg_sum (tg_see B (fun w => c (7 + w)) g (s v)) n := by
  rw [← tg_sum_perm hs.1 (tg_see B (fun w => c (7 + w)) g (s v))]
  refine tg_sum_congr (fun w hw => ?_)
  unfold tg_see
  have e1 := hp w hw
  have e2 := hs.2 v w hv hw
  by_cases z : w ≠ v ∧ c w = g
  · have z2 : s w ≠ s v ∧ c (7 + s w) = g := ⟨fun t => z.1 (hs.1.2 w v hw hv t), by rw [← e1]; exact z.2⟩
    rw [if_pos z, if_pos z2, e2]
  · have z2 : ¬ (s w ≠ s v ∧ c (7 + s w) = g) := fun t => z ⟨fun t2 => t.1 (by rw [t2]), by rw [e1]; exact t.2⟩
    rw [if_neg z, if_neg z2]
/-! points that are alone among those of X -/
def tg_sg (n : Nat) (c : Nat → Nat) (v : Nat) : Prop := ∀ u, u < n → c u = c v → u = v
noncomputable def tg_ns (n : Nat) (c : Nat → Nat) : Nat := tg_cnt (tg_sg n c) n
def tg_shr (n : Nat) (c : Nat → Nat) (v : Nat) : Prop := ∃ u, u < n ∧ u ≠ v ∧ c u = c v
theorem tg_ns_mono {n : Nat} {c c' : Nat → Nat} (hn : n ≤ 7) (h : ∀ v w, v < 14 → w < 14 → c' v = c' w → c v = c w) : tg_ns n c ≤ tg_ns n c' :=
  tg_cnt_mono (fun v hv hs u hu e => hs u hu (h u v (by omega) (by omega) e))
theorem tg_ns_child {n x : Nat} {c c' : Nat → Nat} (hn : n ≤ 7) (hx : x < n) (hs : tg_shr n c x) (h : ∀ v w, v < 14 → w < 14 → c' v = c' w → c v = c w) (h1 : tg_sg n c' x) : tg_ns n c < tg_ns n c' := by
  obtain ⟨u, hu, hne, e⟩ := hs
  exact tg_cnt_lt (fun v hv hs u hu e => hs u hu (h u v (by omega) (by omega) e)) hx (fun z => hne (z u hu e)) h1
theorem tg_size {n x : Nat} {c : Nat → Nat} (hx : x < n) (hs : tg_shr n c x) : tg_cnt (fun u => c u = c x) n + tg_ns n c ≤ n := by
  obtain ⟨y, hy, hne, e⟩ := hs
  refine tg_cnt_dis (fun u hu e1 hsg => ?_)
  have h1 := hsg x hx e1.symm
  have h2 := hsg y hy (e.trans e1.symm)
  omega
theorem tg_cnt_or {p q r : Nat → Prop} {n : Nat} (h : ∀ v, v < n → p v → q v ∨ r v) : tg_cnt p n ≤ tg_cnt q n + tg_cnt r n := by
  induction n with
  | zero => exact Nat.le_refl 0
  | succ n ih =>
    rw [tg_cnt_s, tg_cnt_s, tg_cnt_s]
    have h2 := ih (fun v hv => h v (by omega))
    by_cases hp : p n
    · rcases h n (by omega) hp with hq | hr
      · rw [tg_b_t hp, tg_b_t hq]
        omega
      · rw [tg_b_t hp, tg_b_t hr]
        omega
    · rw [tg_b_f hp]
      omega
theorem tg_cnt_eq1 (x : Nat) : ∀ n, tg_cnt (fun v => v = x) n ≤ 1 := by
  intro n
  induction n with
  | zero => exact Nat.zero_le 1
  | succ n ih =>
    rw [tg_cnt_s]
    by_cases e : n = x
    · rw [tg_cnt_zero (fun v hv z => by omega)]
      have := tg_b_le (n = x)
      omega
    · rw [tg_b_f e]
      omega
theorem tg_cnt_ex2 {p : Nat → Prop} {n : Nat} (h : 2 ≤ tg_cnt p n) : ∃ x y, x < n ∧ y < n ∧ x ≠ y ∧ p x ∧ p y := by
  obtain ⟨x, hx, hp⟩ := tg_cnt_ex (show 0 < tg_cnt p n by omega)
  have h1 : tg_cnt p n ≤ tg_cnt (fun v => p v ∧ v ≠ x) n + tg_cnt (fun v => v = x) n := tg_cnt_or (fun v _ hv => by
    by_cases e : v = x
    · exact Or.inr e
    · exact Or.inl ⟨hv, e⟩)
  have h2 := tg_cnt_eq1 x n
  obtain ⟨y, hy, hq⟩ := tg_cnt_ex (show 0 < tg_cnt (fun v => p v ∧ v ≠ x) n by omega)
  exact ⟨x, y, hx, hy, fun e => hq.2 e.symm, hp, hq.1⟩
/-! balance -/
theorem tg_bal {n : Nat} {A B : Nat → Nat → Nat} {c s : Nat → Nat} (hs : tg_iso n A B s) (hp : tg_pres n c s) (g : Nat) : tg_cnt (fun v => c v = g) n = tg_cnt (fun v => c (7 + v) = g) n := by
  rw [← tg_cnt_perm hs.1 (fun v => c (7 + v) = g)]
  refine tg_cnt_congr (fun v hv => ?_)
  rw [hp v hv]
theorem tg_im {n : Nat} {c : Nat → Nat} (hc : ∀ v, v < n → c v < 14) (h : ∀ g, g < 14 → tg_cnt (fun v => c v = g) n = tg_cnt (fun v => c (7 + v) = g) n ∧ tg_cnt (fun v => c v = g) n ≤ 1) :
    ∃ im, tg_perm n im ∧ ∀ v, v < n → ∀ w, w < n → (c (7 + w) = c v ↔ w = im v) := by
  have hch : ∀ v : Nat, ∃ w : Nat, v < n → (w < n ∧ c (7 + w) = c v) := by
    intro v
    by_cases hv : v < n
    · have h1 := h (c v) (hc v hv)
      have h2 : 0 < tg_cnt (fun u => c u = c v) n := tg_cnt_pos hv rfl
      obtain ⟨w, hw, e⟩ := tg_cnt_ex (show 0 < tg_cnt (fun u => c (7 + u) = c v) n by omega)
      exact ⟨w, fun _ => ⟨hw, e⟩⟩
    · exact ⟨0, fun z => absurd z hv⟩
  obtain ⟨im, him⟩ := Classical.skolem.mp hch
  refine ⟨im, ⟨fun v hv => (him v hv).1, fun v w hv hw e => ?_⟩, fun v hv w hw => ⟨fun e => ?_, fun e => ?_⟩⟩
  · apply Classical.byContradiction
    intro hne
    have e1 : c w = c v := by rw [← (him v hv).2, ← (him w hw).2, e]
    have := tg_cnt_two (p := fun u => c u = c v) hv hw hne rfl e1
    have := (h (c v) (hc v hv)).2
    omega
  · apply Classical.byContradiction
    intro hne
    have := tg_cnt_two (p := fun u => c (7 + u) = c v) hw (him v hv).1 hne e (him v hv).2
    have := h (c v) (hc v hv)
    omega
  · rw [e]
    exact (him v hv).2
/-! the least isomorphism -/
def tg_exf (n : Nat) (A B : Nat → Nat → Nat) (k : Nat) (f : Nat → Nat) (b : Nat) : Prop := ∃ s, tg_iso n A B s ∧ (∀ j, j < k → s j = f j) ∧ s k = b
def tg_lx (n : Nat) (A B : Nat → Nat → Nat) (f : Nat → Nat) (i : Nat) : Prop := ∀ k, k < i → tg_exf n A B k f (f k) ∧ ∀ b, b < f k → ¬ tg_exf n A B k f b
theorem tg_exf_congr {n k b : Nat} {A B : Nat → Nat → Nat} {f g : Nat → Nat} (h : ∀ j, j < k → f j = g j) (e : tg_exf n A B k f b) : tg_exf n A B k g b := by
  obtain ⟨s, h1, h2, h3⟩ := e
  exact ⟨s, h1, fun j hj => (h2 j hj).trans (h j hj), h3⟩
theorem tg_lx_ex {n : Nat} {A B : Nat → Nat → Nat} {s : Nat → Nat} (h : tg_iso n A B s) : ∀ i, ∃ f, tg_iso n A B f ∧ tg_lx n A B f i := by
  intro i
  induction i with
  | zero => exact ⟨s, h, fun k hk => absurd hk (by omega)⟩
  | succ i ih =>
    obtain ⟨f, hf, hl⟩ := ih
    obtain ⟨b, ⟨t, ht, h2, h3⟩, h4⟩ := pk_least (fun b => tg_exf n A B i f b) ⟨f i, f, hf, fun _ _ => rfl, rfl⟩
    refine ⟨t, ht, fun k hk => ?_⟩
    by_cases e : k = i
    · rw [e]
      refine ⟨⟨t, ht, fun _ _ => rfl, rfl⟩, fun b' hb' hex => ?_⟩
      rw [h3] at hb'
      exact h4 b' hb' (tg_exf_congr h2 hex)
    · have h5 := hl k (by omega)
      have h6 : ∀ j, j < k → f j = t j := fun j hj => (h2 j (by omega)).symm
      rw [h2 k (by omega)]
      exact ⟨tg_exf_congr h6 h5.1, fun b' hb' hex => h5.2 b' hb' (tg_exf_congr (fun j hj => (h6 j hj).symm) hex)⟩
theorem tg_ex_exf {n K b : Nat} {A B : Nat → Nat → Nat} {px py f : Nat → Nat} (hx : ∀ k, k < K → px k = k) (hy : ∀ k, k < K → py k = f k) (hx' : px K = K) (hy' : py K = b) : tg_ex n A B (K + 1) px py ↔ tg_exf n A B K f b := by
  constructor
  · intro ⟨s, hs, hp⟩
    refine ⟨s, hs, fun j hj => ?_, ?_⟩
    · have := hp j (by omega)
      rw [hx j hj, hy j hj] at this
      exact this
    · have := hp K (by omega)
      rw [hx', hy'] at this
      exact this
  · intro ⟨s, hs, h1, h2⟩
    refine ⟨s, hs, fun k hk => ?_⟩
    by_cases e : k = K
    · rw [e, hx', hy', h2]
    · rw [hx k (by omega), hy k (by omega), h1 k (by omega)]
theorem tg_ex_E {n i b : Nat} {A : Nat → Nat → Nat} {px py : Nat → Nat} (hx : ∀ k, k < i → px k = k) (hy : ∀ k, k < i → py k = k) (hx' : px i = i) (hy' : py i = b) : tg_ex n A A (i + 1) px py ↔ tg_E n A i b := by
  rw [tg_ex_exf (f := fun k => k) hx hy hx' hy']
  constructor
  · intro ⟨s, h1, h2, h3⟩
    exact ⟨s, ⟨h1, h2⟩, h3⟩
  · intro ⟨s, h1, h3⟩
    exact ⟨s, h1.1, h1.2, h3⟩
end
section
/-! small methods -/
abbrev tg_use (N v : Nat) : Prop := (v < 7 ∧ v < N) ∨ (7 ≤ v ∧ v - 7 < N)
def tg_g (C : Nat → Nat) (g v w : Nat) : Nat := C (49 * g + 7 * v + w)
def tg_col (C : Nat → Nat) (a1 : Nat → Int32) : Prop := ∀ j, j < 98 → a1 j = nI (C j) ∧ C j < 4
def tg_pt (a4 : Nat → Int32) (d : Nat) (c : Nat → Nat) : Prop := ∀ v, v < 14 → a4 (14 * d + v) = nI (c v) ∧ c v < 14
def tg_pin (N K : Nat) (px py : Nat → Nat) (a2 a3 : Nat → Int32) : Prop :=
  (∀ k, k < K → a2 k = nI (px k) ∧ a3 k = nI (py k) ∧ px k < N ∧ py k < N) ∧ (∀ i j, i < K → j < K → px i = px j → i = j) ∧ (∀ i j, i < K → j < K → py i = py j → i = j)
theorem tg_col4 {C : Nat → Nat} {a1 : Nat → Int32} {g n : Nat} (h : tg_col C a1) (hg : g ≤ 1) (hn : n ≤ 7) : ∀ x y, x < n → y < n → tg_g C g x y < 4 :=
  fun x y hx hy => (h (49 * g + 7 * x + y) (by omega)).2
theorem tg_ix (d i : Nat) : (14 : Int32) * nI d + nI i = nI (14 * d + i) := by
  rw [show (14 : Int32) = nI 14 from rfl, pk_mul, nI_add]
theorem tg_ixin {d i : Nat} (hd : d ≤ 8) (hi : i < 14) : vp_in ((14 : Int32) * nI d + nI i) 128 := by
  rw [tg_ix]
  exact vp_in_nI (by omega) (by omega)
theorem tg_ixc {d i : Nat} (hd : d ≤ 8) (hi : i < 14) : ((14 : Int32) * nI d + nI i).toNatClampNeg = 14 * d + i := by
  rw [tg_ix, nI_clamp (by omega)]
theorem tg_pv {a4 : Nat → Int32} {d i : Nat} {c : Nat → Nat} (hd : d ≤ 8) (h : tg_pt a4 d c) (hi : i < 14) : a4 ((14 : Int32) * nI d + nI i).toNatClampNeg = nI (c i) := by
  rw [tg_ixc hd hi]
  exact (h i hi).1
theorem tg_pe {a4 : Nat → Int32} {d i v : Nat} {c : Nat → Nat} (hd : d ≤ 8) (h : tg_pt a4 d c) (hi : i < 14) (hv : v < 14) : (a4 ((14 : Int32) * nI d + nI i).toNatClampNeg = a4 ((14 : Int32) * nI d + nI v).toNatClampNeg) ↔ c i = c v := by
  have h1 := (h i hi).2
  have h2 := (h v hv).2
  rw [tg_pv hd h hi, tg_pv hd h hv]
  exact nI_eq (by omega) (by omega)
theorem tg_sub1 (x : Int32) : x - 1 = x + (-1) := Int32.sub_eq_add_neg x 1
theorem tg_nar {x : Int32} (h : x = 0 ∨ x = 1) : narrow .boolean (.int x) = .int x := by
  rcases h with h | h
  · rw [h]
    rfl
  · rw [h]
    rfl
section
variable {fn gx gy pn : Int32} {be : Int64} {hb : Int32} {a1 a2 a3 a4 a5 : Nat → Int32} {a6 : Nat → Int64} {a7 a8 a9 a10 a11 : Nat → Int32} {a12 a13 : Nat → Int64} {a14 : Nat → Int32} {N gX gY K : Nat} {C px py : Nat → Nat}
theorem tg_iu {post : Int32 → Prop} {v : Nat} (hv : v < 14) (hN : N ≤ 7) (h1 : tg_use N v → post 1) (h0 : ¬ tg_use N v → post 0) : wpX_inUse post (nI N, gx, gy, pn, be, hb, a1, a2, a3, a4, a5, a6, a7, a8, a9, a10, a11, a12, a13, a14) (nI v) := by
  refine pk_le 7 v (fun h => ?_) (fun h => ?_)
  · exact pk_le N (v - 7) (fun g => h0 (by omega)) (fun g => h1 (by omega)) rfl (pk_sub h)
  · exact pk_le N v (fun g => h0 (by omega)) (fun g => h1 (by omega))
theorem tg_shX {post : Int32 → Prop} {u v : Nat} (hg : gX ≤ 1) (hu : u < 7) (hv : v < 7) (hC : tg_col C a1) (H : post (nI (tg_g C gX u v))) : wpX_shade post (fn, nI gX, gy, pn, be, hb, a1, a2, a3, a4, a5, a6, a7, a8, a9, a10, a11, a12, a13, a14) (nI u) (nI v) := by
  refine pk_le 7 u (fun h => absurd h (by omega)) (fun _ => ?_)
  have e : (49 : Int32) * nI gX + 7 * nI u + nI v = nI (49 * gX + 7 * u + v) := by
    rw [show (49 : Int32) = nI 49 from rfl, show (7 : Int32) = nI 7 from rfl, pk_mul, pk_mul, nI_add, nI_add]
  show vp_in ((49 : Int32) * nI gX + 7 * nI u + nI v) 98 ∧ post (a1 ((49 : Int32) * nI gX + 7 * nI u + nI v).toNatClampNeg)
  rw [e, nI_clamp (by omega), (hC _ (by omega)).1]
  exact ⟨vp_in_nI (by omega) (by omega), H⟩
theorem tg_shY {post : Int32 → Prop} {u v : Nat} (hg : gY ≤ 1) (hu : u < 7) (hv : v < 7) (hC : tg_col C a1) (H : post (nI (tg_g C gY u v))) : wpX_shade post (fn, gx, nI gY, pn, be, hb, a1, a2, a3, a4, a5, a6, a7, a8, a9, a10, a11, a12, a13, a14) (nI (7 + u)) (nI (7 + v)) := by
  refine pk_le 7 (7 + u) (fun _ => ?_) (fun h => absurd h (by omega))
  have e1 : nI (7 + u) - 7 = nI u := by
    have h := pk_sub (a := 7 + u) (b := 7) (by omega)
    rw [show 7 + u - 7 = u by omega] at h
    exact h
  have e : (49 : Int32) * nI gY + 7 * (nI (7 + u) - 7) + nI (7 + v) - 7 = nI (49 * gY + 7 * u + v) := by
    rw [e1, show (49 : Int32) = nI 49 from rfl, show (7 : Int32) = nI 7 from rfl, pk_mul, pk_mul, nI_add, nI_add]
    have h := pk_sub (a := 49 * gY + 7 * u + (7 + v)) (b := 7) (by omega)
    rw [show 49 * gY + 7 * u + (7 + v) - 7 = 49 * gY + 7 * u + v by omega] at h
    exact h
  show vp_in ((49 : Int32) * nI gY + 7 * (nI (7 + u) - 7) + nI (7 + v) - 7) 98 ∧ post (a1 ((49 : Int32) * nI gY + 7 * (nI (7 + u) - 7) + nI (7 + v) - 7).toNatClampNeg)
  rw [e, nI_clamp (by omega), (hC _ (by omega)).1]
  exact ⟨vp_in_nI (by omega) (by omega), H⟩
end
end
section
/-! regroup -/
section
variable {fn gx gy pn : Int32} {be : Int64} {hb : Int32} {a1 a2 a3 a4 a5 : Nat → Int32} {a6 : Nat → Int64} {a7 a8 a9 a10 a11 : Nat → Int32} {a12 a13 : Nat → Int64} {a14 : Nat → Int32} {N gX gY K : Nat} {C px py : Nat → Nat}
theorem tg_rg18 {post : Int32 → St2 → Prop} {J : Int32 → (Nat → Int32) → (Nat → Int32) → (Nat → Int32) → (Nat → Int32) → (Nat → Int32) → (Nat → Int64) → (Nat → Int32) → (Nat → Int32) → (Nat → Int32) → (Nat → Int32) → (Nat → Int32) → (Nat → Int64) → (Nat → Int64) → (Nat → Int32) → Prop} {x2 : Int32} {d v : Nat} {c : Nat → Nat} (hd : d ≤ 8) (hv : v < 14) (hc : tg_pt a4 d c)
    (H : ∀ m, m ≤ v → c m = c v → a6 m = a6 v → (∀ u, u < m → ¬ (c u = c v ∧ a6 u = a6 v)) → J (nI (v + 1)) a1 a2 a3 a4 (upd a5 v (nI m)) a6 a7 a8 a9 a10 a11 a12 a13 a14) :
    ∀ i m, i ≤ m → m ≤ v → c m = c v → a6 m = a6 v → (∀ u, i ≤ u → u < m → ¬ (c u = c v ∧ a6 u = a6 v)) → wX_regroup_18 post J (nI d) x2 (nI v) fn gx gy pn be hb a1 a2 a3 a4 a5 a6 a7 a8 a9 a10 a11 a12 a13 a14 (i + 1) (nI m) (nI i + (-1)) := by
  intro i
  induction i with
  | zero =>
    intro m _ h1 h2 h3 h4
    refine br_t (by decide) ⟨vp_in_nI (by omega) (by omega), ?_⟩
    exact nm_r (by rw [nI_clamp (by omega)]) (nm_r (nI_1 v) (H m h1 h2 h3 (fun u hu => h4 u (by omega) hu)))
  | succ i ih =>
    intro m h0 h1 h2 h3 h4
    rw [pk_m1]
    refine br_f (nI_pos (by omega)) ⟨tg_ixin hd (by omega), tg_ixin hd hv, ?_⟩
    refine ek_if (tg_pe hd hc (show i < 14 by omega) hv) (fun g => ⟨vp_in_nI (by omega) (by omega), vp_in_nI (by omega) (by omega), ?_⟩) (fun g => nm_e (ih m (by omega) h1 h2 h3 (fun u hu hm z => ?_)))
    · refine br_c (fun e => nm_e (ih i (by omega) (by omega) g ?_ (fun u hu hm z => by omega))) (fun e => nm_e (ih m (by omega) h1 h2 h3 (fun u hu hm z => ?_)))
      · rw [nI_clamp (show i < 2 ^ 31 by omega), nI_clamp (show v < 2 ^ 31 by omega)] at e
        exact e
      · rw [nI_clamp (show i < 2 ^ 31 by omega), nI_clamp (show v < 2 ^ 31 by omega)] at e
        by_cases t : u = i
        · rw [t] at z
          exact e z.2
        · exact h4 u (by omega) hm z
    · by_cases t : u = i
      · rw [t] at z
        exact g z.1
      · exact h4 u (by omega) hm z
theorem tg_rg4 {post : Int32 → St2 → Prop} {d : Nat} {c lst : Nat → Nat} (hd : d ≤ 8) (hc : tg_pt a4 d c)
    (hl : ∀ v, v < 14 → lst v ≤ v ∧ (c (lst v) = c v ∧ a6 (lst v) = a6 v) ∧ ∀ u, u < lst v → ¬ (c u = c v ∧ a6 u = a6 v))
    (H : ∀ s : Nat → Int32, (∀ u, u < 14 → s u = nI (lst u)) → ∃ k, wX_regroup_92 post (nI d) fn gx gy pn be hb k 0 0 a1 a2 a3 a4 s a6 a7 a8 a9 a10 a11 a12 a13 a14) : ∃ k, wX_regroup_4 post (nI d) 0 fn gx gy pn be hb k 0 a1 a2 a3 a4 a5 a6 a7 a8 a9 a10 a11 a12 a13 a14 :=
  pk_loop (fun k i s => wX_regroup_4 post (nI d) 0 fn gx gy pn be hb k (nI i) a1 a2 a3 a4 s a6 a7 a8 a9 a10 a11 a12 a13 a14) (fun i s => ∀ u, u < i → s u = nI (lst u)) 14 0 a5 (by omega) (fun u hu => absurd hu (by omega))
    (fun k s h => pk_le 14 14 (fun _ => H s h) (fun z => absurd z (by omega)))
    (fun k i s hi h hw => pk_le 14 i (fun z => absurd z (by omega)) (fun _ => nm_r (tg_sub1 (nI i)) ⟨i + 1, tg_rg18 (c := c) hd hi hc (fun m h1 h2 h3 h4 => hw _ (fun u hu => by
      have hm : m = lst i := by
        have g := hl i hi
        rcases Nat.lt_trichotomy m (lst i) with z | z | z
        · exact absurd ⟨h2, h3⟩ (g.2.2 m z)
        · exact z
        · exact absurd g.2.1 (h4 _ z)
      by_cases e : u = i
      · rw [e, pk_us, hm]
      · rw [pk_un e]
        exact h u (by omega))) i i (Nat.le_refl i) (Nat.le_refl i) rfl rfl (fun u h1 h2 => absurd h1 (by omega))⟩))
theorem tg_rg92 {post : Int32 → St2 → Prop} {d : Nat} {lst : Nat → Nat} (hd : d ≤ 8) (h5 : ∀ u, u < 14 → a5 u = nI (lst u))
    (H : ∀ (r : Int32) (s : Nat → Int32), (∀ u, u < 14 → s (14 * d + u) = nI (lst u)) → (∀ j, (j < 14 * d ∨ 14 * d + 14 ≤ j) → s j = a4 j) → post r (fn, gx, gy, pn, be, hb, a1, a2, a3, s, a5, a6, a7, a8, a9, a10, a11, a12, a13, a14)) : ∃ k, wX_regroup_92 post (nI d) fn gx gy pn be hb k 0 0 a1 a2 a3 a4 a5 a6 a7 a8 a9 a10 a11 a12 a13 a14 :=
  pk_loop (fun k i (s : Int32 × (Nat → Int32)) => wX_regroup_92 post (nI d) fn gx gy pn be hb k s.1 (nI i) a1 a2 a3 s.2 a5 a6 a7 a8 a9 a10 a11 a12 a13 a14) (fun i s => (s.1 = 0 ∨ s.1 = 1) ∧ (∀ u, u < i → s.2 (14 * d + u) = nI (lst u)) ∧ (∀ j, (j < 14 * d ∨ 14 * d + i ≤ j) → s.2 j = a4 j)) 14 0 (0, a4) (by omega)
    ⟨Or.inl rfl, fun u hu => absurd hu (by omega), fun _ _ => rfl⟩
    (fun k s h => pk_le 14 14 (fun _ => ⟨tg_nar h.1, H s.1 s.2 h.2.1 h.2.2⟩) (fun z => absurd z (by omega)))
    (fun k i s hi h hw => pk_le 14 i (fun z => absurd z (by omega)) (fun _ => ⟨tg_ixin hd hi, vp_in_nI hi (by omega), br_c
      (fun e => nm_r (nI_1 i) (hw s ⟨h.1, fun u hu => by
        by_cases t : u = i
        · rw [tg_ixc hd hi, nI_clamp (show i < 2 ^ 31 by omega), h5 i hi] at e
          rw [t]
          exact e
        · exact h.2.1 u (by omega), fun j hj => h.2.2 j (by omega)⟩))
      (fun e => ⟨vp_in_nI hi (by omega), tg_ixin hd hi, nm_r (by rw [tg_ixc hd hi, nI_clamp (show i < 2 ^ 31 by omega), h5 i hi]) (nm_r (nI_1 i) (hw (1, upd s.2 (14 * d + i) (nI (lst i))) ⟨Or.inr rfl, fun u hu => by
        show upd s.2 (14 * d + i) (nI (lst i)) (14 * d + u) = nI (lst u)
        by_cases t : u = i
        · rw [t, pk_us]
        · rw [pk_un (by omega)]
          exact h.2.1 u (by omega), fun j hj => by
        show upd s.2 (14 * d + i) (nI (lst i)) j = a4 j
        rw [pk_un (by omega)]
        exact h.2.2 j (by omega)⟩))⟩)⟩))
theorem tg_rg {post : Int32 → St2 → Prop} {d : Nat} {c : Nat → Nat} (hd : d ≤ 8) (hc : tg_pt a4 d c)
    (H : ∀ (r : Int32) (a4' a5' : Nat → Int32) (c' : Nat → Nat), tg_pt a4' d c' → (∀ j, (j < 14 * d ∨ 14 * d + 14 ≤ j) → a4' j = a4 j) → (∀ v w, v < 14 → w < 14 → (c' v = c' w ↔ c v = c w ∧ a6 v = a6 w)) → post r (fn, gx, gy, pn, be, hb, a1, a2, a3, a4', a5', a6, a7, a8, a9, a10, a11, a12, a13, a14)) :
    wpX_regroup post (fn, gx, gy, pn, be, hb, a1, a2, a3, a4, a5, a6, a7, a8, a9, a10, a11, a12, a13, a14) (nI d) := by
  have hch : ∀ v : Nat, ∃ m : Nat, v < 14 → m ≤ v ∧ (c m = c v ∧ a6 m = a6 v) ∧ ∀ u, u < m → ¬ (c u = c v ∧ a6 u = a6 v) := by
    intro v
    obtain ⟨m, h1, h2⟩ := pk_least (fun m => c m = c v ∧ a6 m = a6 v) ⟨v, rfl, rfl⟩
    refine ⟨m, fun _ => ⟨?_, h1, h2⟩⟩
    rcases Nat.lt_or_ge v m with z | z
    · exact absurd ⟨rfl, rfl⟩ (h2 v z)
    · exact z
  obtain ⟨lst, hl⟩ := Classical.skolem.mp hch
  refine tg_rg4 hd hc hl (fun s hs => tg_rg92 hd hs (fun r a4' h1 h2 => H r a4' s lst (fun v hv => ⟨h1 v hv, ?_⟩) h2 (fun v w hv hw => ⟨fun e => ?_, fun e => ?_⟩)))
  · have := (hl v hv).1
    omega
  · have g1 := (hl v hv).2.1
    have g2 := (hl w hw).2.1
    rw [e] at g1
    exact ⟨g1.1.symm.trans g2.1, g1.2.symm.trans g2.2⟩
  · have g1 := hl v hv
    have g2 := hl w hw
    rcases Nat.lt_trichotomy (lst v) (lst w) with z | z | z
    · exact absurd ⟨g1.2.1.1.trans e.1, g1.2.1.2.trans e.2⟩ (g2.2.2 _ z)
    · exact z
    · exact absurd ⟨g2.2.1.1.trans e.1.symm, g2.2.1.2.trans e.2.symm⟩ (g1.2.2 _ z)
end
end
section
/-! startClasses -/
def tg_c0 (N v : Nat) : Nat := if tg_use N v then 0 else v
def tg_bs (N gX gY : Nat) (C : Nat → Nat) (v : Nat) : Nat := if v < 7 then (if v < N then tg_g C gX v v else 0) else (if v - 7 < N ∧ v < 14 then tg_g C gY (v - 7) (v - 7) else 0)
theorem tg_bs4 {N gX gY : Nat} {C : Nat → Nat} {a1 : Nat → Int32} (hN : N ≤ 7) (hX : gX ≤ 1) (hY : gY ≤ 1) (hC : tg_col C a1) (v : Nat) : tg_bs N gX gY C v < 4 := by
  unfold tg_bs
  by_cases h1 : v < 7
  · rw [if_pos h1]
    by_cases h2 : v < N
    · rw [if_pos h2]
      exact tg_col4 hC hX hN v v h2 h2
    · rw [if_neg h2]
      omega
  · rw [if_neg h1]
    by_cases h2 : v - 7 < N ∧ v < 14
    · rw [if_pos h2]
      exact tg_col4 hC hY hN _ _ h2.1 h2.1
    · rw [if_neg h2]
      omega
theorem tg_bsX {N gX gY : Nat} {C : Nat → Nat} {v : Nat} (hN : N ≤ 7) (h : v < N) : tg_bs N gX gY C v = tg_g C gX v v := by
  unfold tg_bs
  rw [if_pos (show v < 7 by omega), if_pos h]
theorem tg_bsY {N gX gY : Nat} {C : Nat → Nat} {v : Nat} (hN : N ≤ 7) (h : v < N) : tg_bs N gX gY C (7 + v) = tg_g C gY v v := by
  unfold tg_bs
  rw [if_neg (show ¬ 7 + v < 7 by omega), show 7 + v - 7 = v by omega, if_pos (show v < N ∧ 7 + v < 14 by omega)]
theorem tg_bs0 {N gX gY : Nat} {C : Nat → Nat} {v : Nat} (h : ¬ tg_use N v) : tg_bs N gX gY C v = 0 := by
  unfold tg_bs
  by_cases h1 : v < 7
  · rw [if_pos h1, if_neg (show ¬ v < N by omega)]
  · rw [if_neg h1, if_neg (show ¬ (v - 7 < N ∧ v < 14) by omega)]
theorem tg_lN4 {k : Nat} (hk : k < 7) : ((4 : Int32) * (nI k + 1)).toInt64 = lN (4 * (k + 1)) := by
  rw [nI_1, show (4 : Int32) = nI 4 from rfl, pk_mul, nI_l (by omega)]
section
variable {fn gx gy pn : Int32} {be : Int64} {hb : Int32} {a1 a2 a3 a4 a5 : Nat → Int32} {a6 : Nat → Int64} {a7 a8 a9 a10 a11 : Nat → Int32} {a12 a13 : Nat → Int64} {a14 : Nat → Int32} {N gX gY K : Nat} {C px py : Nat → Nat}
theorem tg_shS {post : Int32 → Prop} {v : Nat} (hX : gX ≤ 1) (hY : gY ≤ 1) (hN : N ≤ 7) (hC : tg_col C a1) (hv : v < 14) (hu : tg_use N v) (H : post (nI (tg_bs N gX gY C v))) : wpX_shade post (fn, nI gX, nI gY, pn, be, hb, a1, a2, a3, a4, a5, a6, a7, a8, a9, a10, a11, a12, a13, a14) (nI v) (nI v) := by
  by_cases h : v < 7
  · rw [tg_bsX hN (show v < N by omega)] at H
    exact tg_shX hX h h hC H
  · obtain ⟨u, rfl⟩ : ∃ u, v = 7 + u := ⟨v - 7, by omega⟩
    rw [tg_bsY hN (show u < N by omega)] at H
    exact tg_shY hY (by omega) (by omega) hC H
theorem tg_sc26 {post : St2 → Prop} {J : Int32 → (Nat → Int32) → (Nat → Int32) → (Nat → Int32) → (Nat → Int32) → (Nat → Int32) → (Nat → Int64) → (Nat → Int32) → (Nat → Int32) → (Nat → Int32) → (Nat → Int32) → (Nat → Int32) → (Nat → Int64) → (Nat → Int64) → (Nat → Int32) → Prop} {z : Int32} {v : Nat} (hX : gX ≤ 1) (hY : gY ≤ 1) (hN : N ≤ 7) (hC : tg_col C a1) (hv : v < 14)
    (H : J (nI (v + 1)) a1 a2 a3 (upd a4 v z) a5 (vp_updL a6 v (lN (tg_bs N gX gY C v))) a7 a8 a9 a10 a11 a12 a13 a14) : wX_startClasses_26 post J (nI v) z (nI v) (nI N) (nI gX) (nI gY) pn be hb a1 a2 a3 a4 a5 a6 a7 a8 a9 a10 a11 a12 a13 a14 := by
  refine ⟨vp_in_nI (by omega) (by omega), nm_r (by rw [nI_clamp (by omega)]) (tg_iu hv hN (fun hu => br_f (by decide) (tg_shS hX hY hN hC hv hu ⟨vp_in_nI (by omega) (by omega), nm_r ?_ (nm_r (nI_1 v) H)⟩)) (fun hu => br_t rfl ⟨vp_in_nI (by omega) (by omega), nm_r ?_ (nm_r (nI_1 v) H)⟩))⟩
  · have := tg_bs4 hN hX hY hC v
    rw [nI_clamp (by omega), nI_l (by omega)]
  · rw [nI_clamp (by omega), tg_bs0 hu]
    rfl
theorem tg_sc2 {post : St2 → Prop} (hX : gX ≤ 1) (hY : gY ≤ 1) (hN : N ≤ 7) (hC : tg_col C a1)
    (H : ∀ (s4 : Nat → Int32) (s6 : Nat → Int64), (∀ u, u < 14 → s4 u = nI (tg_c0 N u)) → (∀ u, u < 14 → s6 u = lN (tg_bs N gX gY C u)) → ∃ k, wX_startClasses_60 post (nI N) (nI gX) (nI gY) pn be hb k 0 a1 a2 a3 s4 a5 s6 a7 a8 a9 a10 a11 a12 a13 a14) :
    ∃ k, wX_startClasses_2 post (nI N) (nI gX) (nI gY) pn be hb k 0 a1 a2 a3 a4 a5 a6 a7 a8 a9 a10 a11 a12 a13 a14 :=
  pk_loop (fun k i (s : (Nat → Int32) × (Nat → Int64)) => wX_startClasses_2 post (nI N) (nI gX) (nI gY) pn be hb k (nI i) a1 a2 a3 s.1 a5 s.2 a7 a8 a9 a10 a11 a12 a13 a14) (fun i s => (∀ u, u < i → s.1 u = nI (tg_c0 N u)) ∧ (∀ u, u < i → s.2 u = lN (tg_bs N gX gY C u))) 14 0 (a4, a6) (by omega)
    ⟨fun u hu => absurd hu (by omega), fun u hu => absurd hu (by omega)⟩
    (fun k s h => pk_le 14 14 (fun _ => H s.1 s.2 h.1 h.2) (fun z => absurd z (by omega)))
    (fun k i s hi h hw => by
      have h6 : ∀ u, u < i + 1 → vp_updL s.2 i (lN (tg_bs N gX gY C i)) u = lN (tg_bs N gX gY C u) := by
        intro u hu
        by_cases t : u = i
        · rw [t, pk_uLs]
        · rw [pk_uLn t]
          exact h.2 u (by omega)
      have h4 : ∀ z : Int32, z = nI (tg_c0 N i) → ∀ u, u < i + 1 → upd s.1 i z u = nI (tg_c0 N u) := by
        intro z hz u hu
        by_cases t : u = i
        · rw [t, pk_us, hz]
        · rw [pk_un t]
          exact h.1 u (by omega)
      refine pk_le 14 i (fun z => absurd z (by omega)) (fun _ => tg_iu hi hN (fun hu => br_f (by decide) (tg_sc26 hX hY hN hC hi (hw (upd s.1 i 0, vp_updL s.2 i (lN (tg_bs N gX gY C i))) ⟨h4 0 ?_, h6⟩))) (fun hu => br_t rfl (tg_sc26 hX hY hN hC hi (hw (upd s.1 i (nI i), vp_updL s.2 i (lN (tg_bs N gX gY C i))) ⟨h4 (nI i) ?_, h6⟩))))
      · unfold tg_c0
        rw [if_pos hu]
        rfl
      · unfold tg_c0
        rw [if_neg hu])
theorem tg_sc60 {post : St2 → Prop} {base : Nat → Nat} (hN : N ≤ 7) (hK : K ≤ 7) (h4 : ∀ v, base v < 4) (hP : tg_pin N K px py a2 a3) (h6 : ∀ u, u < 14 → a6 u = lN (base u))
    (H : ∀ s6 : Nat → Int64, (∀ u, u < 14 → s6 u = lN (tg_mk base px py K u)) → wpX_regroup (fun _ u => post u) (fn, gx, gy, nI K, be, hb, a1, a2, a3, a4, a5, s6, a7, a8, a9, a10, a11, a12, a13, a14) (nI 0)) : ∃ k, wX_startClasses_60 post fn gx gy (nI K) be hb k 0 a1 a2 a3 a4 a5 a6 a7 a8 a9 a10 a11 a12 a13 a14 :=
  pk_loop (fun k i s => wX_startClasses_60 post fn gx gy (nI K) be hb k (nI i) a1 a2 a3 a4 a5 s a7 a8 a9 a10 a11 a12 a13 a14) (fun i s => ∀ u, u < 14 → s u = lN (tg_mk base px py i u)) K 0 a6 (by omega) h6
    (fun k s h => pk_le K K (fun _ => H s h) (fun z => absurd z (by omega)))
    (fun k i s hi h hw => by
      obtain ⟨e2, e3, hx, hy⟩ := hP.1 i hi
      have c2 : (a2 (nI i).toNatClampNeg) = nI (px i) := by rw [nI_clamp (by omega)]; exact e2
      have c3 : (7 : Int32) + (a3 (nI i).toNatClampNeg) = nI (7 + py i) := by
        rw [nI_clamp (by omega), e3, show (7 : Int32) = nI 7 from rfl, nI_add]
      have hw2 := hw (vp_updL (vp_updL s (px i) (s (px i) + lN (4 * (i + 1)))) (7 + py i) (vp_updL s (px i) (s (px i) + lN (4 * (i + 1))) (7 + py i) + lN (4 * (i + 1)))) (fun u hu => by
        rw [tg_mk_s]
        by_cases t : u = 7 + py i
        · rw [t, pk_uLs, pk_uLn (by omega), h _ (by omega), if_neg (show ¬ 7 + py i = px i by omega), if_pos rfl, lN_add]
          rfl
        · rw [pk_uLn t, if_neg t, Nat.add_zero]
          by_cases t2 : u = px i
          · rw [t2, pk_uLs, h _ (by omega), if_pos rfl, lN_add]
            rfl
          · rw [pk_uLn t2, if_neg t2, Nat.add_zero]
            exact h u hu)
      refine pk_le K i (fun z => absurd z (by omega)) (fun _ => ⟨vp_in_nI (by omega) (by omega), ?_⟩)
      rw [c2, c3, tg_lN4 (show i < 7 by omega), nI_clamp (show px i < 2 ^ 31 by omega), nI_clamp (show 7 + py i < 2 ^ 31 by omega)]
      exact ⟨vp_in_nI (by omega) (by omega), vp_in_nI (by omega) (by omega), nm_e ⟨vp_in_nI (by omega) (by omega), vp_in_nI (by omega) (by omega), vp_in_nI (by omega) (by omega), nm_e (nm_r (nI_1 i) hw2)⟩⟩)
theorem tg_sc {post : St2 → Prop} (hN : N ≤ 7) (hX : gX ≤ 1) (hY : gY ≤ 1) (hK : K ≤ 7) (hC : tg_col C a1) (hP : tg_pin N K px py a2 a3)
    (H : ∀ (a4' a5' : Nat → Int32) (a6' : Nat → Int64) (c : Nat → Nat), tg_pt a4' 0 c → (∀ s, tg_iso N (tg_g C gX) (tg_g C gY) s → (∀ k, k < K → s (px k) = py k) → tg_pres N c s) →
      (∀ s, (∀ v, v < N → s v < N) → tg_pres N c s → ∀ k, k < K → s (px k) = py k) → post (nI N, nI gX, nI gY, nI K, be, hb, a1, a2, a3, a4', a5', a6', a7, a8, a9, a10, a11, a12, a13, a14)) :
    wpX_startClasses post (nI N, nI gX, nI gY, nI K, be, hb, a1, a2, a3, a4, a5, a6, a7, a8, a9, a10, a11, a12, a13, a14) := by
  refine tg_sc2 hX hY hN hC (fun s4 s6 h4 h6 => tg_sc60 hN hK (tg_bs4 hN hX hY hC) hP h6 (fun m6 hm => tg_rg (d := 0) (c := tg_c0 N) (by omega) (fun v hv => ?_) (fun r a4' a5' c' g1 g2 g3 => H a4' a5' m6 c' g1 (fun s hs hp v hv => ?_) (fun s hs hp k hk => ?_))))
  · have e : 14 * 0 + v = v := by omega
    rw [e]
    refine ⟨h4 v hv, ?_⟩
    unfold tg_c0
    split
    · omega
    · exact hv
  · have hsv := hs.1.1 v hv
    refine (g3 v (7 + s v) (by omega) (by omega)).mpr ⟨?_, ?_⟩
    · unfold tg_c0
      rw [if_pos (show tg_use N v by omega), if_pos (show tg_use N (7 + s v) by omega)]
    · rw [hm v (by omega), hm (7 + s v) (by omega), tg_mk_inv hN hs.1 (fun k hk => (hP.1 k hk).2.2.1) hp (fun u hu => ?_) K (Nat.le_refl K) v hv]
      rw [tg_bsX hN hu, tg_bsY hN (hs.1.1 u hu)]
      exact hs.2 u u hu hu
  · have hx := (hP.1 k hk).2.2.1
    have hsx := hs _ hx
    have g4 := ((g3 (px k) (7 + s (px k)) (by omega) (by omega)).mp (hp _ hx)).2
    have b1 := tg_mk_bd (px := px) (py := py) (tg_bs4 hN hX hY hC) (px k) K hK
    have b2 := tg_mk_bd (px := px) (py := py) (tg_bs4 hN hX hY hC) (7 + s (px k)) K hK
    rw [hm _ (by omega), hm _ (by omega), pk_lEQ (by omega) (by omega)] at g4
    exact tg_mk_pins hN (fun j hj => (hP.1 j hj).2.2.1) (fun j hj => (hP.1 j hj).2.2.2) hP.2.1 hP.2.2 (tg_bs4 hN hX hY hC) hk hsx g4
end
end
section
/-! markBy, refine -/
def tg_off (v : Nat) : Nat := if v < 7 then 0 else 7
def tg_sh (gX gY : Nat) (C : Nat → Nat) (v j : Nat) : Nat := if v < 7 then tg_g C gX v j else tg_g C gY (v - 7) j
def tg_mf (N gX gY : Nat) (C c : Nat → Nat) (g v : Nat) : Nat → Int64 := fun j => if tg_use N v ∧ tg_off v + j ≠ v ∧ c (tg_off v + j) = g then tg_F (tg_sh gX gY C v j) else 0
theorem tg_off_le (v : Nat) : tg_off v ≤ 7 := by
  unfold tg_off
  split <;> omega
theorem tg_mfX {N gX gY g v : Nat} {C c : Nat → Nat} (hN : N ≤ 7) (hv : v < N) : tg_sum (tg_mf N gX gY C c g v) N = tg_sum (tg_see (tg_g C gX) c g v) N := by
  refine tg_sum_congr (fun w hw => ?_)
  unfold tg_mf tg_see
  have e1 : tg_off v = 0 := by
    unfold tg_off
    rw [if_pos (by omega)]
  have e2 : tg_sh gX gY C v w = tg_g C gX v w := by
    unfold tg_sh
    rw [if_pos (by omega)]
  rw [e1, e2, Nat.zero_add]
  by_cases z : w ≠ v ∧ c w = g
  · rw [if_pos z, if_pos ⟨by omega, z.1, z.2⟩]
  · rw [if_neg z, if_neg (fun t => z ⟨t.2.1, t.2.2⟩)]
theorem tg_mfY {N gX gY g v : Nat} {C c : Nat → Nat} (hN : N ≤ 7) (hv : v < N) : tg_sum (tg_mf N gX gY C c g (7 + v)) N = tg_sum (tg_see (tg_g C gY) (fun w => c (7 + w)) g v) N := by
  refine tg_sum_congr (fun w hw => ?_)
  unfold tg_mf tg_see
  have e1 : tg_off (7 + v) = 7 := by
    unfold tg_off
    rw [if_neg (by omega)]
  have e2 : tg_sh gX gY C (7 + v) w = tg_g C gY v w := by
    unfold tg_sh
    rw [if_neg (by omega), show 7 + v - 7 = v by omega]
  rw [e1, e2]
  by_cases z : w ≠ v ∧ c (7 + w) = g
  · rw [if_pos z, if_pos ⟨by omega, by omega, z.2⟩]
  · rw [if_neg z, if_neg (fun t => z ⟨by omega, t.2.2⟩)]
theorem tg_n1 (o i : Nat) : nI (o + i) + 1 = nI (o + (i + 1)) := nI_1 (o + i)
section
variable {fn gx gy pn : Int32} {be : Int64} {hb : Int32} {a1 a2 a3 a4 a5 : Nat → Int32} {a6 : Nat → Int64} {a7 a8 a9 a10 a11 : Nat → Int32} {a12 a13 : Nat → Int64} {a14 : Nat → Int32} {N gX gY K : Nat} {C px py : Nat → Nat}
theorem tg_shM {post : Int32 → Prop} {v j : Nat} (hX : gX ≤ 1) (hY : gY ≤ 1) (hN : N ≤ 7) (hC : tg_col C a1) (hv : v < 14) (hj : j < N) (H : post (nI (tg_sh gX gY C v j))) : wpX_shade post (fn, nI gX, nI gY, pn, be, hb, a1, a2, a3, a4, a5, a6, a7, a8, a9, a10, a11, a12, a13, a14) (nI v) (nI (tg_off v + j)) := by
  unfold tg_sh at H
  unfold tg_off
  by_cases h : v < 7
  · rw [if_pos h] at H
    rw [if_pos h, Nat.zero_add]
    exact tg_shX hX h (by omega) hC H
  · obtain ⟨u, rfl⟩ : ∃ u, v = 7 + u := ⟨v - 7, by omega⟩
    rw [if_neg h, show 7 + u - 7 = u by omega] at H
    rw [if_neg h]
    exact tg_shY hY (by omega) (by omega) hC H
theorem tg_mb33 {post : St2 → Prop} {J : Int32 → (Nat → Int32) → (Nat → Int32) → (Nat → Int32) → (Nat → Int32) → (Nat → Int32) → (Nat → Int64) → (Nat → Int32) → (Nat → Int32) → (Nat → Int32) → (Nat → Int32) → (Nat → Int32) → (Nat → Int64) → (Nat → Int64) → (Nat → Int32) → Prop} {d g v : Nat} {c : Nat → Nat} (hX : gX ≤ 1) (hY : gY ≤ 1) (hN : N ≤ 7) (hC : tg_col C a1) (hd : d ≤ 8) (hg : g < 14) (hv : v < 14) (hc : tg_pt a4 d c) (h0 : a6 v = 0)
    (H : ∀ s : Nat → Int64, s v = tg_sum (tg_mf N gX gY C c g v) N → (∀ u, u ≠ v → s u = a6 u) → J (nI (v + 1)) a1 a2 a3 a4 a5 s a7 a8 a9 a10 a11 a12 a13 a14) :
    ∃ k, wX_markBy_33 post J (nI d) (nI g) (nI v) (nI (tg_off v)) (nI N) (nI gX) (nI gY) pn be hb k (nI (tg_off v + 0)) a1 a2 a3 a4 a5 a6 a7 a8 a9 a10 a11 a12 a13 a14 :=
  pk_loop (fun k i s => wX_markBy_33 post J (nI d) (nI g) (nI v) (nI (tg_off v)) (nI N) (nI gX) (nI gY) pn be hb k (nI (tg_off v + i)) a1 a2 a3 a4 a5 s a7 a8 a9 a10 a11 a12 a13 a14) (fun i s => s v = tg_sum (tg_mf N gX gY C c g v) i ∧ ∀ u, u ≠ v → s u = a6 u) N 0 a6 (by omega) ⟨h0, fun _ _ => rfl⟩
    (fun k s h => pk_le (tg_off v + N) (tg_off v + N) (fun _ => nm_r (nI_1 v) (H s h.1 h.2)) (fun z => absurd z (by omega)) (nI_add _ _) rfl (by have := tg_off_le v; omega) (by have := tg_off_le v; omega))
    (fun k i s hi h hw => by
      have ho := tg_off_le v
      have skip : ¬ (tg_use N v ∧ tg_off v + i ≠ v ∧ c (tg_off v + i) = g) → s v = tg_sum (tg_mf N gX gY C c g v) (i + 1) := by
        intro z
        have e : tg_mf N gX gY C c g v i = 0 := by
          unfold tg_mf
          rw [if_neg z]
        show s v = tg_sum (tg_mf N gX gY C c g v) i + tg_mf N gX gY C c g v i
        rw [e, Int64.add_zero]
        exact h.1
      refine pk_le (tg_off v + N) (tg_off v + i) (fun z => absurd z (by omega)) (fun _ => tg_iu hv hN (fun hu => br_f (by decide) (pk_eq (tg_off v + i) v (fun e => nm_r (tg_n1 _ _) (hw s ⟨skip (fun z => z.2.1 e), h.2⟩)) (fun e => ⟨tg_ixin hd (by omega), br_c (fun z => ⟨vp_in_nI (by omega) (by omega), tg_shM hX hY hN hC hv hi ⟨vp_in_nI (by omega) (by omega), nm_e (nm_r (tg_n1 _ _) (hw _ ?_))⟩⟩) (fun z => nm_r (tg_n1 _ _) (hw s ⟨skip (fun t => z ?_), h.2⟩))⟩))) (fun hu => br_t rfl (nm_r (tg_n1 _ _) (hw s ⟨skip (fun z => hu z.1), h.2⟩)))) (nI_add _ _) rfl
      · have hci := (hc (tg_off v + i) (by omega)).2
        rw [tg_pv hd hc (by omega), nI_eq (by omega) (by omega)] at z
        have e2 : tg_mf N gX gY C c g v i = tg_F (tg_sh gX gY C v i) := by
          unfold tg_mf
          rw [if_pos ⟨hu, e, z⟩]
        constructor
        · rw [nI_clamp (show v < 2 ^ 31 by omega), pk_uLs, h.1]
          show _ = tg_sum (tg_mf N gX gY C c g v) i + tg_mf N gX gY C c g v i
          rw [e2]
          rfl
        · intro u hne
          rw [nI_clamp (show v < 2 ^ 31 by omega), pk_uLn hne]
          exact h.2 u hne
      · rw [tg_pv hd hc (by omega), t.2.2])
theorem tg_mb {post : St2 → Prop} {d g : Nat} {c : Nat → Nat} (hX : gX ≤ 1) (hY : gY ≤ 1) (hN : N ≤ 7) (hC : tg_col C a1) (hd : d ≤ 8) (hg : g < 14) (hc : tg_pt a4 d c)
    (H : ∀ m6 : Nat → Int64, (∀ s, tg_iso N (tg_g C gX) (tg_g C gY) s → tg_pres N c s → ∀ v, v < N → m6 v = m6 (7 + s v)) → post (nI N, nI gX, nI gY, pn, be, hb, a1, a2, a3, a4, a5, m6, a7, a8, a9, a10, a11, a12, a13, a14)) :
    wpX_markBy post (nI N, nI gX, nI gY, pn, be, hb, a1, a2, a3, a4, a5, a6, a7, a8, a9, a10, a11, a12, a13, a14) (nI d) (nI g) := by
  have main : ∃ k, wX_markBy_2 post (nI d) (nI g) (nI N) (nI gX) (nI gY) pn be hb k 0 a1 a2 a3 a4 a5 a6 a7 a8 a9 a10 a11 a12 a13 a14 :=
    pk_loop (fun k i s => wX_markBy_2 post (nI d) (nI g) (nI N) (nI gX) (nI gY) pn be hb k (nI i) a1 a2 a3 a4 a5 s a7 a8 a9 a10 a11 a12 a13 a14) (fun i s => ∀ u, u < i → s u = tg_sum (tg_mf N gX gY C c g u) N) 14 0 a6 (by omega) (fun u hu => absurd hu (by omega))
      (fun k s h => pk_le 14 14 (fun _ => H s (fun t ht hp v hv => by
        have htv := ht.1.1 v hv
        rw [h v (by omega), h (7 + t v) (by omega), tg_mfX hN hv, tg_mfY hN htv]
        exact tg_see_inv ht hp hv)) (fun z => absurd z (by omega)))
      (fun k i s hi h hw => by
        have inner := tg_mb33 (pn := pn) (be := be) (hb := hb) (post := post) (J := wX_markBy_2 post (nI d) (nI g) (nI N) (nI gX) (nI gY) pn be hb k) (a6 := vp_updL s i 0) (v := i) hX hY hN hC hd hg hi hc pk_uLs (fun s' h1 h2 => hw s' (fun u hu => by
          by_cases e : u = i
          · rw [e, h1]
          · rw [h2 u e, pk_uLn e]
            exact h u (by omega)))
        refine pk_le 14 i (fun z => absurd z (by omega)) (fun _ => ⟨vp_in_nI hi (by omega), nm_r (by rw [nI_clamp (by omega)]) (pk_le 7 i (fun z => ?_) (fun z => ?_))⟩)
        · have e : tg_off i = 7 := by
            unfold tg_off
            rw [if_neg (by omega)]
          rw [e] at inner
          exact inner
        · have e : tg_off i = 0 := by
            unfold tg_off
            rw [if_pos (by omega)]
          rw [e] at inner
          exact inner)
  exact main
theorem tg_rf19 {post : St2 → Prop} {J : Int32 → Int32 → Int32 → Int32 → Int32 → Int32 → Int64 → Int32 → (Nat → Int32) → (Nat → Int32) → (Nat → Int32) → (Nat → Int32) → (Nat → Int32) → (Nat → Int64) → (Nat → Int32) → (Nat → Int32) → (Nat → Int32) → (Nat → Int32) → (Nat → Int32) → (Nat → Int64) → (Nat → Int64) → (Nat → Int32) → Prop} {d i3 : Nat} {c : Nat → Nat} (hX : gX ≤ 1) (hY : gY ≤ 1) (hN : N ≤ 7) (hC : tg_col C a1) (hd : d ≤ 8) (hc : tg_pt a4 d c)
    (H : ∀ (x : Int32) (s4 s5 : Nat → Int32) (s6 : Nat → Int64) (c' : Nat → Nat), tg_pt s4 d c' → tg_ref N (tg_g C gX) (tg_g C gY) c c' → (∀ j, (j < 14 * d ∨ 14 * d + 14 ≤ j) → s4 j = a4 j) → J x (nI (i3 + 1)) (nI N) (nI gX) (nI gY) pn be hb a1 a2 a3 s4 s5 s6 a7 a8 a9 a10 a11 a12 a13 a14) :
    ∃ k, wX_refine_19 post J (nI d) (nI i3) k 0 0 (nI N) (nI gX) (nI gY) pn be hb a1 a2 a3 a4 a5 a6 a7 a8 a9 a10 a11 a12 a13 a14 :=
  pk_loop (fun k i (s : Int32 × (Nat → Int32) × (Nat → Int32) × (Nat → Int64)) => wX_refine_19 post J (nI d) (nI i3) k s.1 (nI i) (nI N) (nI gX) (nI gY) pn be hb a1 a2 a3 s.2.1 s.2.2.1 s.2.2.2 a7 a8 a9 a10 a11 a12 a13 a14)
    (fun _ s => ∃ c', tg_pt s.2.1 d c' ∧ tg_ref N (tg_g C gX) (tg_g C gY) c c' ∧ ∀ j, (j < 14 * d ∨ 14 * d + 14 ≤ j) → s.2.1 j = a4 j) 14 0 (0, a4, a5, a6) (by omega) ⟨c, hc, tg_ref_refl _ _ _ _, fun _ _ => rfl⟩
    (fun k s h => pk_le 14 14 (fun _ => by
      obtain ⟨c', h1, h2, h3⟩ := h
      exact nm_r (nI_1 i3) (H s.1 s.2.1 s.2.2.1 s.2.2.2 c' h1 h2 h3)) (fun z => absurd z (by omega)))
    (fun k i s hi h hw => by
      have hw1 := hw s h
      obtain ⟨c', h1, h2, h3⟩ := h
      refine pk_le 14 i (fun z => absurd z (by omega)) (fun _ => tg_iu hi hN (fun hu => br_f (by decide) ⟨tg_ixin hd hi, br_c (fun z => ?_) (fun z => nm_r (nI_1 i) hw1)⟩) (fun hu => br_t rfl (nm_r (nI_1 i) hw1)))
      refine tg_mb hX hY hN hC hd hi h1 (fun m6 hm => tg_rg hd h1 (fun r a4' a5' c'' g1 g2 g3 => ?_))
      have hI : ∀ x : Int32, wX_refine_19 post J (nI d) (nI i3) k x (nI (i + 1)) (nI N) (nI gX) (nI gY) pn be hb a1 a2 a3 a4' a5' m6 a7 a8 a9 a10 a11 a12 a13 a14 := fun x => hw (x, a4', a5', m6) ⟨c'', g1, tg_ref_trans h2 (tg_ref_mk hN g3 hm), fun j hj => (g2 j hj).trans (h3 j hj)⟩
      exact br_c (fun _ => br_c (fun _ => nm_r (nI_1 i) (hI 0)) (fun _ => nm_r (nI_1 i) (hI 1))) (fun _ => nm_r (nI_1 i) (hI 1)))
theorem tg_rf {post : St2 → Prop} {d : Nat} {c : Nat → Nat} (hX : gX ≤ 1) (hY : gY ≤ 1) (hN : N ≤ 7) (hC : tg_col C a1) (hd : d ≤ 8) (hc : tg_pt a4 d c)
    (H : ∀ (s4 s5 : Nat → Int32) (s6 : Nat → Int64) (c' : Nat → Nat), tg_pt s4 d c' → tg_ref N (tg_g C gX) (tg_g C gY) c c' → (∀ j, (j < 14 * d ∨ 14 * d + 14 ≤ j) → s4 j = a4 j) → post (nI N, nI gX, nI gY, pn, be, hb, a1, a2, a3, s4, s5, s6, a7, a8, a9, a10, a11, a12, a13, a14)) :
    wpX_refine post (nI N, nI gX, nI gY, pn, be, hb, a1, a2, a3, a4, a5, a6, a7, a8, a9, a10, a11, a12, a13, a14) (nI d) := by
  have main : ∃ k, wX_refine_4 post (nI d) k 1 0 (nI N) (nI gX) (nI gY) pn be hb a1 a2 a3 a4 a5 a6 a7 a8 a9 a10 a11 a12 a13 a14 :=
    pk_loop (fun k i (s : Int32 × (Nat → Int32) × (Nat → Int32) × (Nat → Int64)) => wX_refine_4 post (nI d) k s.1 (nI i) (nI N) (nI gX) (nI gY) pn be hb a1 a2 a3 s.2.1 s.2.2.1 s.2.2.2 a7 a8 a9 a10 a11 a12 a13 a14)
      (fun _ s => ∃ c', tg_pt s.2.1 d c' ∧ tg_ref N (tg_g C gX) (tg_g C gY) c c' ∧ ∀ j, (j < 14 * d ∨ 14 * d + 14 ≤ j) → s.2.1 j = a4 j) 15 0 (1, a4, a5, a6) (by omega) ⟨c, hc, tg_ref_refl _ _ _ _, fun _ _ => rfl⟩
      (fun k s h => pk_le 15 15 (fun _ => by
        obtain ⟨c', h1, h2, h3⟩ := h
        exact H s.2.1 s.2.2.1 s.2.2.2 c' h1 h2 h3) (fun z => absurd z (by omega)))
      (fun k i s hi h hw => by
        obtain ⟨c', h1, h2, h3⟩ := h
        refine pk_le 15 i (fun z => absurd z (by omega)) (fun _ => br_c (fun _ => H s.2.1 s.2.2.1 s.2.2.2 c' h1 h2 h3) (fun _ => ?_))
        exact tg_rf19 hX hY hN hC hd h1 (fun x s4 s5 s6 c'' g1 g2 g3 => hw (x, s4, s5, s6) ⟨c'', g1, tg_ref_trans h2 g2, fun j hj => (g3 j hj).trans (h3 j hj)⟩))
  exact main
end
end
section
/-! balance, shared, chooseX, isLaying, tryNext -/
theorem tg_ix7 (d i : Nat) : (14 : Int32) * nI d + nI i + 7 = nI (14 * d + (7 + i)) := by
  rw [tg_ix, show (7 : Int32) = nI 7 from rfl, nI_add, show 14 * d + i + 7 = 14 * d + (7 + i) by omega]
theorem tg_ix7' (d i : Nat) : (14 : Int32) * nI d + 7 + nI i = nI (14 * d + (7 + i)) := by
  rw [show (14 : Int32) = nI 14 from rfl, show (7 : Int32) = nI 7 from rfl, pk_mul, nI_add, nI_add, show 14 * d + 7 + i = 14 * d + (7 + i) by omega]
theorem tg_ix14 (d i : Nat) : (14 : Int32) * nI d + 14 + nI i = nI (14 * (d + 1) + i) := by
  rw [show (14 : Int32) = nI 14 from rfl, pk_mul, nI_add, nI_add, show 14 * d + 14 + i = 14 * (d + 1) + i by omega]
theorem tg_b01 {P Q : Prop} [Decidable P] [Decidable Q] : ((if P then (1 : Int64) else 0) = (if Q then (1 : Int64) else 0)) ↔ (P ↔ Q) := by
  by_cases hP : P
  · by_cases hQ : Q
    · rw [if_pos hP, if_pos hQ]
      exact ⟨fun _ => ⟨fun _ => hQ, fun _ => hP⟩, fun _ => rfl⟩
    · rw [if_pos hP, if_neg hQ]
      exact ⟨fun e => absurd e (by decide), fun e => absurd (e.mp hP) hQ⟩
  · by_cases hQ : Q
    · rw [if_neg hP, if_pos hQ]
      exact ⟨fun e => absurd e (by decide), fun e => absurd (e.mpr hQ) hP⟩
    · rw [if_neg hP, if_neg hQ]
      exact ⟨fun _ => ⟨fun z => absurd z hP, fun z => absurd z hQ⟩, fun _ => rfl⟩
section
variable {fn gx gy pn : Int32} {be : Int64} {hb : Int32} {a1 a2 a3 a4 a5 : Nat → Int32} {a6 : Nat → Int64} {a7 a8 a9 a10 a11 : Nat → Int32} {a12 a13 : Nat → Int64} {a14 : Nat → Int32} {N gX gY K : Nat} {C px py : Nat → Nat} {d : Nat} {c : Nat → Nat}
theorem tg_bl19 {post : Int32 → Prop} {J : Int32 → Int32 → Prop} {x2 : Int32} {g : Nat} (hN : N ≤ 7) (hd : d ≤ 8) (hg : g < 14) (hc : tg_pt a4 d c)
    (H0 : tg_cnt (fun v => c v = g) N ≠ tg_cnt (fun v => c (7 + v) = g) N → post 0)
    (H1 : tg_cnt (fun v => c v = g) N = tg_cnt (fun v => c (7 + v) = g) N → tg_cnt (fun v => c v = g) N ≤ 1 → J x2 (nI (g + 1)))
    (H2 : tg_cnt (fun v => c v = g) N = tg_cnt (fun v => c (7 + v) = g) N → 1 < tg_cnt (fun v => c v = g) N → J 2 (nI (g + 1))) :
    ∃ k, wX_balance_19 post J (nI d) x2 (nI g) (nI N) gx gy pn be hb a1 a2 a3 a4 a5 a6 a7 a8 a9 a10 a11 a12 a13 a14 k 0 0 0 :=
  pk_loop (σ := Unit) (fun k i _ => wX_balance_19 post J (nI d) x2 (nI g) (nI N) gx gy pn be hb a1 a2 a3 a4 a5 a6 a7 a8 a9 a10 a11 a12 a13 a14 k (nI (tg_cnt (fun v => c v = g) i)) (nI (tg_cnt (fun v => c (7 + v) = g) i)) (nI i)) (fun _ _ => True) N 0 () (by omega) trivial
    (fun k _ _ => by
      have b1 := tg_cnt_le (fun v => c v = g) N
      have b2 := tg_cnt_le (fun v => c (7 + v) = g) N
      exact pk_le N N (fun _ => pk_eq (tg_cnt (fun v => c v = g) N) (tg_cnt (fun v => c (7 + v) = g) N) (fun e => pk_le (tg_cnt (fun v => c v = g) N) 1 (fun h => nm_r (nI_1 g) (H1 e h)) (fun h => nm_r (nI_1 g) (H2 e h))) (fun e => H0 e)) (fun z => absurd z (by omega)))
    (fun k i _ hi _ hw => by
      have b1 := tg_cnt_le (fun v => c v = g) i
      have b2 := tg_cnt_le (fun v => c (7 + v) = g) i
      have hci := hc i (by omega)
      have hcj := hc (7 + i) (by omega)
      have hw1 := hw () trivial
      have inner : ∀ (z1 z0 : Int32), z1 + z0 = nI (tg_cnt (fun v => c v = g) (i + 1)) → wX_balance_51 post J (wX_balance_19 post J (nI d) x2 (nI g) (nI N) gx gy pn be hb a1 a2 a3 a4 a5 a6 a7 a8 a9 a10 a11 a12 a13 a14 k) (nI d) x2 (nI g) (nI (tg_cnt (fun v => c (7 + v) = g) i)) (nI i) z0 z1 (nI N) gx gy pn be hb a1 a2 a3 a4 a5 a6 a7 a8 a9 a10 a11 a12 a13 a14 := by
        intro z1 z0 ez
        unfold wX_balance_51
        rw [tg_ix7, nI_clamp (show 14 * d + (7 + i) < 2 ^ 31 by omega), hcj.1]
        refine nm_r ez ⟨vp_in_nI (by omega) (by omega), pk_eq (c (7 + i)) g (fun e => nm_r ?_ (nm_r (nI_1 i) hw1)) (fun e => nm_r ?_ (nm_r (nI_1 i) hw1))⟩
        · rw [tg_cnt_s, tg_b_t e, nI_1]
        · rw [tg_cnt_s, tg_b_f e, Nat.add_zero]
          exact Int32.add_zero _
      refine pk_le N i (fun z => absurd z (by omega)) (fun _ => ⟨tg_ixin hd (by omega), ?_⟩)
      rw [tg_pv hd hc (show i < 14 by omega)]
      refine pk_eq (c i) g (fun e => inner _ _ ?_) (fun e => inner _ _ ?_)
      · rw [tg_cnt_s, tg_b_t e, nI_1]
      · rw [tg_cnt_s, tg_b_f e, Nat.add_zero]
        exact Int32.add_zero _)
theorem tg_bl {post : Int32 → Prop} (hN : N ≤ 7) (hd : d ≤ 8) (hc : tg_pt a4 d c)
    (H0 : (∃ g, tg_cnt (fun v => c v = g) N ≠ tg_cnt (fun v => c (7 + v) = g) N) → post 0)
    (H1 : (∀ g, g < 14 → tg_cnt (fun v => c v = g) N = tg_cnt (fun v => c (7 + v) = g) N ∧ tg_cnt (fun v => c v = g) N ≤ 1) → post 1)
    (H2 : (∀ g, g < 14 → tg_cnt (fun v => c v = g) N = tg_cnt (fun v => c (7 + v) = g) N) → (∃ g, 1 < tg_cnt (fun v => c v = g) N) → post 2) :
    wpX_balance post (nI N, gx, gy, pn, be, hb, a1, a2, a3, a4, a5, a6, a7, a8, a9, a10, a11, a12, a13, a14) (nI d) := by
  have main : ∃ k, wX_balance_4 post (nI d) (nI N) gx gy pn be hb a1 a2 a3 a4 a5 a6 a7 a8 a9 a10 a11 a12 a13 a14 k 1 0 :=
    pk_loop (fun k i (s : Int32) => wX_balance_4 post (nI d) (nI N) gx gy pn be hb a1 a2 a3 a4 a5 a6 a7 a8 a9 a10 a11 a12 a13 a14 k s (nI i)) (fun i s => (∀ g, g < i → tg_cnt (fun v => c v = g) N = tg_cnt (fun v => c (7 + v) = g) N) ∧ ((s = 1 ∧ ∀ g, g < i → tg_cnt (fun v => c v = g) N ≤ 1) ∨ (s = 2 ∧ ∃ g, 1 < tg_cnt (fun v => c v = g) N))) 14 0 1 (by omega)
      ⟨fun g hg => absurd hg (by omega), Or.inl ⟨rfl, fun g hg => absurd hg (by omega)⟩⟩
      (fun k s h => pk_le 14 14 (fun _ => by
        obtain ⟨h1, h2⟩ := h
        rcases h2 with ⟨e, h2⟩ | ⟨e, h2⟩
        · rw [e]
          exact H1 (fun g hg => ⟨h1 g hg, h2 g hg⟩)
        · rw [e]
          exact H2 h1 h2) (fun z => absurd z (by omega)))
      (fun k i s hi h hw => pk_le 14 i (fun z => absurd z (by omega)) (fun _ => by
        obtain ⟨h1, h2⟩ := h
        refine tg_bl19 hN hd hi hc (fun e => H0 ⟨i, e⟩) (fun e hle => hw s ⟨fun g hg => ?_, ?_⟩) (fun e hgt => hw 2 ⟨fun g hg => ?_, Or.inr ⟨rfl, i, hgt⟩⟩)
        · by_cases t : g = i
          · rw [t]
            exact e
          · exact h1 g (by omega)
        · rcases h2 with ⟨e2, h2⟩ | h2
          · refine Or.inl ⟨e2, fun g hg => ?_⟩
            by_cases t : g = i
            · rw [t]
              exact hle
            · exact h2 g (by omega)
          · exact Or.inr h2
        · by_cases t : g = i
          · rw [t]
            exact e
          · exact h1 g (by omega)))
  exact main
theorem tg_shd {post : Int32 → Prop} {v : Nat} (hN : N ≤ 7) (hd : d ≤ 8) (hv : v < N) (hc : tg_pt a4 d c) (H1 : tg_shr N c v → post 1) (H0 : ¬ tg_shr N c v → post 0) : wpX_shared post (nI N, gx, gy, pn, be, hb, a1, a2, a3, a4, a5, a6, a7, a8, a9, a10, a11, a12, a13, a14) (nI d) (nI v) := by
  have main : ∃ k, wX_shared_2 post (nI d) (nI v) (nI N) gx gy pn be hb a1 a2 a3 a4 a5 a6 a7 a8 a9 a10 a11 a12 a13 a14 k 0 :=
    pk_loop (σ := Unit) (fun k i _ => wX_shared_2 post (nI d) (nI v) (nI N) gx gy pn be hb a1 a2 a3 a4 a5 a6 a7 a8 a9 a10 a11 a12 a13 a14 k (nI i)) (fun i _ => ∀ u, u < i → ¬ (u ≠ v ∧ c u = c v)) N 0 () (by omega) (fun u hu => absurd hu (by omega))
      (fun k _ h => pk_le N N (fun _ => H0 (fun ⟨u, h1, h2, h3⟩ => h u h1 ⟨h2, h3⟩)) (fun z => absurd z (by omega)))
      (fun k i _ hi h hw => pk_le N i (fun z => absurd z (by omega)) (fun _ => pk_eq i v (fun e => nm_r (nI_1 i) (hw () (fun u hu z => by
          by_cases t : u = i
          · omega
          · exact h u (by omega) z)))
        (fun e => ⟨tg_ixin hd (by omega), tg_ixin hd (by omega), ek_if (tg_pe hd hc (show i < 14 by omega) (show v < 14 by omega)) (fun g => H1 ⟨i, hi, e, g⟩) (fun g => nm_r (nI_1 i) (hw () (fun u hu z => by
          by_cases t : u = i
          · rw [t] at z
            exact g z.2
          · exact h u (by omega) z)))⟩)))
  exact main
theorem tg_chx17 {post : St2 → Prop} (hN : N ≤ 7) (hd : d ≤ 8) (hc : tg_pt a4 d c) (hex : ∃ v, v < N ∧ tg_shr N c v) (H : ∀ x, x < N → tg_shr N c x → post (nI N, gx, gy, pn, be, hb, a1, a2, a3, a4, a5, a6, upd a7 d (nI x), a8, a9, a10, a11, a12, a13, a14)) :
    ∀ i x, i ≤ N → x < N → (∀ v, i ≤ v → v < N → tg_shr N c v → tg_shr N c x) → wX_chooseX_17 post (nI d) (nI N) gx gy pn be hb a1 a2 a3 a4 a5 a6 a7 a8 a9 a10 a11 a12 a13 a14 (i + 1) (nI x) (nI i + (-1)) := by
  intro i
  induction i with
  | zero =>
    intro x _ hx h
    obtain ⟨v, hv, hs⟩ := hex
    exact br_t (by decide) ⟨vp_in_nI (by omega) (by omega), nm_r (by rw [nI_clamp (by omega)]) (H x hx (h v (by omega) hv hs))⟩
  | succ i ih =>
    intro x hi hx h
    rw [pk_m1]
    refine br_f (nI_pos (by omega)) (tg_shd hN hd (show i < N by omega) hc (fun g => br_f (by decide) (nm_e (ih i (by omega) (by omega) (fun _ _ _ _ => g)))) (fun g => br_t rfl (nm_e (ih x (by omega) hx (fun v h1 h2 h3 => ?_)))))
    by_cases t : v = i
    · rw [t] at h3
      exact absurd h3 g
    · exact h v (by omega) h2 h3
theorem tg_chx {post : St2 → Prop} (hN : N ≤ 7) (hd : d ≤ 8) (hc : tg_pt a4 d c) (hex : ∃ v, v < N ∧ tg_shr N c v) (H : ∀ x, x < N → tg_shr N c x → post (nI N, gx, gy, pn, be, hb, a1, a2, a3, a4, a5, a6, upd a7 d (nI x), upd a8 d (nI (7 + 0)), a9, a10, a11, a12, a13, a14)) :
    wpX_chooseX post (nI N, gx, gy, pn, be, hb, a1, a2, a3, a4, a5, a6, a7, a8, a9, a10, a11, a12, a13, a14) (nI d) := by
  have hN1 : 0 < N := by
    obtain ⟨v, hv, _⟩ := hex
    omega
  refine ⟨vp_in_nI (by omega) (by omega), nm_r (e' := upd a8 d (nI (7 + 0))) (by rw [nI_clamp (by omega)]; rfl) (nm_r (tg_sub1 (nI N)) ⟨N + 1, ?_⟩)⟩
  exact tg_chx17 hN hd hc hex H N 0 (Nat.le_refl N) hN1 (fun v h1 h2 => absurd h1 (by omega))
theorem tg_il12 {post : Int32 → St2 → Prop} {J : Int32 → (Nat → Int32) → (Nat → Int32) → (Nat → Int32) → (Nat → Int32) → (Nat → Int32) → (Nat → Int64) → (Nat → Int32) → (Nat → Int32) → (Nat → Int32) → (Nat → Int32) → (Nat → Int32) → (Nat → Int64) → (Nat → Int64) → (Nat → Int32) → Prop} {v : Nat} {im : Nat → Nat} (hN : N ≤ 7) (hd : d ≤ 8) (hc : tg_pt a4 d c) (hv : v < N) (him : ∀ w, w < N → (c (7 + w) = c v ↔ w = im v)) (hi : im v < N)
    (H : ∀ s : Nat → Int32, s v = nI (7 + im v) → (∀ u, u ≠ v → s u = a9 u) → J (nI (v + 1)) a1 a2 a3 a4 a5 a6 a7 a8 s a10 a11 a12 a13 a14) : ∃ k, wX_isLaying_12 post J (nI d) (nI v) (nI N) gx gy pn be hb k 0 a1 a2 a3 a4 a5 a6 a7 a8 a9 a10 a11 a12 a13 a14 :=
  pk_loop (fun k i s => wX_isLaying_12 post J (nI d) (nI v) (nI N) gx gy pn be hb k (nI i) a1 a2 a3 a4 a5 a6 a7 a8 s a10 a11 a12 a13 a14) (fun i s => (im v < i → s v = nI (7 + im v)) ∧ ∀ u, u ≠ v → s u = a9 u) N 0 a9 (by omega) ⟨fun z => absurd z (by omega), fun _ _ => rfl⟩
    (fun k s h => pk_le N N (fun _ => nm_r (nI_1 v) (H s (h.1 hi) h.2)) (fun z => absurd z (by omega)))
    (fun k i s hi h hw => by
      have hcj := hc (7 + i) (by omega)
      have hcv := hc v (by omega)
      refine pk_le N i (fun z => absurd z (by omega)) (fun _ => ?_)
      rw [tg_ix7', nI_clamp (show 14 * d + (7 + i) < 2 ^ 31 by omega), hcj.1, tg_pv hd hc (show v < 14 by omega)]
      refine ⟨vp_in_nI (by omega) (by omega), tg_ixin hd (by omega), pk_eq (c (7 + i)) (c v) (fun e => ⟨vp_in_nI (by omega) (by omega), nm_r (e' := upd s v (nI (7 + i))) ?_ (nm_r (nI_1 i) (hw _ ⟨fun z => ?_, fun u hu => ?_⟩))⟩) (fun e => nm_r (nI_1 i) (hw s ⟨fun z => ?_, h.2⟩))⟩
      · rw [nI_clamp (by omega), show (7 : Int32) = nI 7 from rfl, nI_add]
      · rw [pk_us, (him i hi).mp e]
      · rw [pk_un hu]
        exact h.2 u hu
      · by_cases t : im v = i
        · exact absurd ((him i hi).mpr t.symm) e
        · exact h.1 (by omega))
theorem tg_il82 {post : Int32 → St2 → Prop} {J : Int32 → Prop} {v : Nat} {im : Nat → Nat} (hN : N ≤ 7) (hX : gX ≤ 1) (hY : gY ≤ 1) (hC : tg_col C a1) (hv : v < N) (him : ∀ w, w < N → im w < N) (h9 : ∀ w, w < N → a9 w = nI (7 + im w))
    (H1 : (∀ w, w < N → tg_g C gX v w = tg_g C gY (im v) (im w)) → J (nI (v + 1))) (H0 : ∀ w, w < N → tg_g C gX v w ≠ tg_g C gY (im v) (im w) → post 0 (nI N, nI gX, nI gY, pn, be, hb, a1, a2, a3, a4, a5, a6, a7, a8, a9, a10, a11, a12, a13, a14)) :
    ∃ k, wX_isLaying_82 post J (nI v) (nI N) (nI gX) (nI gY) pn be hb a1 a2 a3 a4 a5 a6 a7 a8 a9 a10 a11 a12 a13 a14 k 0 :=
  pk_loop (σ := Unit) (fun k i _ => wX_isLaying_82 post J (nI v) (nI N) (nI gX) (nI gY) pn be hb a1 a2 a3 a4 a5 a6 a7 a8 a9 a10 a11 a12 a13 a14 k (nI i)) (fun i _ => ∀ w, w < i → tg_g C gX v w = tg_g C gY (im v) (im w)) N 0 () (by omega) (fun w hw => absurd hw (by omega))
    (fun k _ h => pk_le N N (fun _ => nm_r (nI_1 v) (H1 h)) (fun z => absurd z (by omega)))
    (fun k i _ hi h hw => by
      have e1 : a9 (nI v).toNatClampNeg = nI (7 + im v) := by rw [nI_clamp (by omega), h9 v hv]
      have e2 : a9 (nI i).toNatClampNeg = nI (7 + im i) := by rw [nI_clamp (by omega), h9 i hi]
      have h1 := him v hv
      have h2 := him i hi
      have c1 := tg_col4 hC hX hN v i hv hi
      have c2 := tg_col4 hC hY hN (im v) (im i) h1 h2
      refine pk_le N i (fun z => absurd z (by omega)) (fun _ => tg_shX hX (by omega) (by omega) hC ⟨vp_in_nI (by omega) (by omega), vp_in_nI (by omega) (by omega), ?_⟩)
      rw [e1, e2]
      refine tg_shY hY (by omega) (by omega) hC (pk_eq (tg_g C gX v i) (tg_g C gY (im v) (im i)) (fun e => nm_r (nI_1 i) (hw () (fun w hw2 => ?_))) (fun e => H0 i hi e))
      by_cases t : w = i
      · rw [t]
        exact e
      · exact h w (by omega))
theorem tg_il {post : Int32 → St2 → Prop} {im : Nat → Nat} (hN : N ≤ 7) (hX : gX ≤ 1) (hY : gY ≤ 1) (hC : tg_col C a1) (hd : d ≤ 8) (hc : tg_pt a4 d c) (hp : tg_perm N im) (him : ∀ v, v < N → ∀ w, w < N → (c (7 + w) = c v ↔ w = im v))
    (H : ∀ (r : Int32) (s : Nat → Int32), (r = 1 ∧ tg_iso N (tg_g C gX) (tg_g C gY) im) ∨ (r = 0 ∧ ¬ tg_iso N (tg_g C gX) (tg_g C gY) im) → post r (nI N, nI gX, nI gY, pn, be, hb, a1, a2, a3, a4, a5, a6, a7, a8, s, a10, a11, a12, a13, a14)) :
    wpX_isLaying post (nI N, nI gX, nI gY, pn, be, hb, a1, a2, a3, a4, a5, a6, a7, a8, a9, a10, a11, a12, a13, a14) (nI d) := by
  have second : ∀ s : Nat → Int32, (∀ w, w < N → s w = nI (7 + im w)) → ∃ k, wX_isLaying_72 post (nI N) (nI gX) (nI gY) pn be hb a1 a2 a3 a4 a5 a6 a7 a8 s a10 a11 a12 a13 a14 k 0 := fun s hs =>
    pk_loop (σ := Unit) (fun k i _ => wX_isLaying_72 post (nI N) (nI gX) (nI gY) pn be hb a1 a2 a3 a4 a5 a6 a7 a8 s a10 a11 a12 a13 a14 k (nI i)) (fun i _ => ∀ v, v < i → ∀ w, w < N → tg_g C gX v w = tg_g C gY (im v) (im w)) N 0 () (by omega) (fun v hv => absurd hv (by omega))
      (fun k _ h => pk_le N N (fun _ => H 1 s (Or.inl ⟨rfl, hp, fun v w hv hw => h v hv w hw⟩)) (fun z => absurd z (by omega)))
      (fun k i _ hi h hw => pk_le N i (fun z => absurd z (by omega)) (fun _ => tg_il82 hN hX hY hC hi hp.1 hs (fun g => hw () (fun v hv w hw2 => by
        by_cases t : v = i
        · rw [t]
          exact g w hw2
        · exact h v (by omega) w hw2)) (fun w hw2 g => H 0 s (Or.inr ⟨rfl, fun z => g (z.2 i w hi hw2)⟩))))
  have main : ∃ k, wX_isLaying_2 post (nI d) (nI N) (nI gX) (nI gY) pn be hb k 0 a1 a2 a3 a4 a5 a6 a7 a8 a9 a10 a11 a12 a13 a14 :=
    pk_loop (fun k i s => wX_isLaying_2 post (nI d) (nI N) (nI gX) (nI gY) pn be hb k (nI i) a1 a2 a3 a4 a5 a6 a7 a8 s a10 a11 a12 a13 a14) (fun i s => ∀ w, w < i → s w = nI (7 + im w)) N 0 a9 (by omega) (fun v hv => absurd hv (by omega))
      (fun k s h => pk_le N N (fun _ => second s h) (fun z => absurd z (by omega)))
      (fun k i s hi h hw => pk_le N i (fun z => absurd z (by omega)) (fun _ => tg_il12 hN hd hc hi (him i hi) (hp.1 i hi) (fun s' h1 h2 => hw s' (fun w hw2 => by
        by_cases t : w = i
        · rw [t, h1]
        · rw [h2 w t]
          exact h w (by omega)))))
  exact main
theorem tg_tn62 {post : Int32 → St2 → Prop} {x y : Nat} (hd : d ≤ 7) (hx : x < 14) (hy : y < 14) (hc : tg_pt a4 d c)
    (H : ∀ (a4' a5' : Nat → Int32) (a6' : Nat → Int64) (c' : Nat → Nat), tg_pt a4' (d + 1) c' → (∀ i, i < 14 * (d + 1) → a4' i = a4 i) →
      (∀ v w, v < 14 → w < 14 → (c' v = c' w ↔ c v = c w ∧ ((v = x ∨ v = y) ↔ (w = x ∨ w = y)))) → post 1 (fn, gx, gy, pn, be, hb, a1, a2, a3, a4', a5', a6', a7, a8, a9, a10, a11, a12, a13, a14)) :
    ∃ k, wX_tryNext_62 post (nI d) (nI x) (nI y) fn gx gy pn be hb k 0 a1 a2 a3 a4 a5 a6 a7 a8 a9 a10 a11 a12 a13 a14 :=
  pk_loop (fun k i (s : (Nat → Int32) × (Nat → Int64)) => wX_tryNext_62 post (nI d) (nI x) (nI y) fn gx gy pn be hb k (nI i) a1 a2 a3 s.1 a5 s.2 a7 a8 a9 a10 a11 a12 a13 a14) (fun i s => (∀ j, j < 14 * (d + 1) → s.1 j = a4 j) ∧ (∀ u, u < i → s.1 (14 * (d + 1) + u) = a4 (14 * d + u)) ∧ (∀ u, u < i → s.2 u = if u = x ∨ u = y then 1 else 0)) 14 0 (a4, a6) (by omega)
    ⟨fun _ _ => rfl, fun u hu => absurd hu (by omega), fun u hu => absurd hu (by omega)⟩
    (fun k s h => pk_le 14 14 (fun _ => by
      rw [nI_1]
      refine tg_rg (d := d + 1) (c := c) (by omega) (fun v hv => ⟨?_, (hc v hv).2⟩) (fun r a4' a5' c' g1 g2 g3 => H a4' a5' s.2 c' g1 (fun i hi => (g2 i (Or.inl hi)).trans (h.1 i hi)) (fun v w hv hw => ?_))
      · rw [h.2.1 v hv]
        exact (hc v hv).1
      · rw [g3 v w hv hw, h.2.2 v hv, h.2.2 w hw, tg_b01]) (fun z => absurd z (by omega)))
    (fun k i s hi h hw => by
      have hw2 : ∀ z : Int64, z = (if i = x ∨ i = y then 1 else 0) → wX_tryNext_62 post (nI d) (nI x) (nI y) fn gx gy pn be hb k (nI (i + 1)) a1 a2 a3 (upd s.1 (14 * (d + 1) + i) (s.1 (14 * d + i))) a5 (vp_updL s.2 i z) a7 a8 a9 a10 a11 a12 a13 a14 := by
        intro z hz
        refine hw (upd s.1 (14 * (d + 1) + i) (s.1 (14 * d + i)), vp_updL s.2 i z) ⟨fun j hj => ?_, fun u hu => ?_, fun u hu => ?_⟩
        · show upd s.1 (14 * (d + 1) + i) (s.1 (14 * d + i)) j = a4 j
          rw [pk_un (by omega)]
          exact h.1 j hj
        · show upd s.1 (14 * (d + 1) + i) (s.1 (14 * d + i)) (14 * (d + 1) + u) = a4 (14 * d + u)
          by_cases t : u = i
          · rw [t, pk_us]
            exact h.1 _ (by omega)
          · rw [pk_un (by omega)]
            exact h.2.1 u (by omega)
        · show vp_updL s.2 i z u = if u = x ∨ u = y then 1 else 0
          by_cases t : u = i
          · rw [t, pk_uLs, hz]
          · rw [pk_uLn t]
            exact h.2.2 u (by omega)
      refine pk_le 14 i (fun z => absurd z (by omega)) (fun _ => ?_)
      rw [tg_ix14, tg_ix, nI_clamp (show 14 * (d + 1) + i < 2 ^ 31 by omega), nI_clamp (show 14 * d + i < 2 ^ 31 by omega), nI_clamp (show i < 2 ^ 31 by omega)]
      refine ⟨vp_in_nI (by omega) (by omega), vp_in_nI (by omega) (by omega), nm_e (pk_eq i x (fun e => ⟨vp_in_nI (by omega) (by omega), nm_e (nm_r (nI_1 i) (hw2 1 ?_))⟩) (fun e => pk_eq i y (fun e2 => ⟨vp_in_nI (by omega) (by omega), nm_e (nm_r (nI_1 i) (hw2 1 ?_))⟩) (fun e2 => ⟨vp_in_nI (by omega) (by omega), nm_e (nm_r (nI_1 i) (hw2 0 ?_))⟩)))⟩
      · rw [if_pos (Or.inl e)]
      · rw [if_pos (Or.inr e2)]
      · rw [if_neg (fun t => t.elim e e2)])
theorem tg_tn {post : Int32 → St2 → Prop} {x j : Nat} (hN : N ≤ 7) (hd : d ≤ 7) (hc : tg_pt a4 d c) (hx : x < N) (h7 : a7 d = nI x) (h8 : a8 d = nI (7 + j)) (hj : j ≤ N)
    (H0 : (∀ y, j ≤ y → y < N → c (7 + y) ≠ c x) → post 0 (nI N, gx, gy, pn, be, hb, a1, a2, a3, a4, a5, a6, a7, a8, a9, a10, a11, a12, a13, a14))
    (H1 : ∀ (y : Nat) (a4' a5' : Nat → Int32) (a6' : Nat → Int64) (c' : Nat → Nat), j ≤ y → y < N → c (7 + y) = c x → (∀ w, j ≤ w → w < y → c (7 + w) ≠ c x) → tg_pt a4' (d + 1) c' → (∀ i, i < 14 * (d + 1) → a4' i = a4 i) →
      (∀ v w, v < 14 → w < 14 → (c' v = c' w ↔ c v = c w ∧ ((v = x ∨ v = 7 + y) ↔ (w = x ∨ w = 7 + y)))) → post 1 (nI N, gx, gy, pn, be, hb, a1, a2, a3, a4', a5', a6', a7, upd a8 d (nI (7 + (y + 1))), a9, a10, a11, a12, a13, a14)) :
    wpX_tryNext post (nI N, gx, gy, pn, be, hb, a1, a2, a3, a4, a5, a6, a7, a8, a9, a10, a11, a12, a13, a14) (nI d) := by
  have main : ∃ k, wX_tryNext_14 post (nI d) (nI x) (nI N) gx gy pn be hb a1 a2 a3 a4 a5 a6 a7 a8 a9 a10 a11 a12 a13 a14 k (nI (7 + j)) :=
    pk_loop (σ := Unit) (fun k i _ => wX_tryNext_14 post (nI d) (nI x) (nI N) gx gy pn be hb a1 a2 a3 a4 a5 a6 a7 a8 a9 a10 a11 a12 a13 a14 k (nI (7 + i))) (fun i _ => j ≤ i ∧ ∀ w, j ≤ w → w < i → c (7 + w) ≠ c x) N j () hj ⟨Nat.le_refl j, fun w h1 h2 => absurd h1 (by omega)⟩
      (fun k _ h => pk_le (7 + N) (7 + N) (fun _ => H0 h.2) (fun z => absurd z (by omega)) (nI_add 7 N) rfl)
      (fun k i _ hi h hw => pk_le (7 + N) (7 + i) (fun z => absurd z (by omega)) (fun _ => ⟨tg_ixin (by omega) (by omega), tg_ixin (by omega) (by omega), ek_if (tg_pe (by omega) hc (show 7 + i < 14 by omega) (show x < 14 by omega))
        (fun g => ⟨vp_in_nI (by omega) (by omega), nm_r (e' := upd a8 d (nI (7 + (i + 1)))) (by rw [nI_clamp (by omega), tg_n1]) (tg_tn62 hd (by omega) (by omega) hc (fun a4' a5' a6' c' => H1 i a4' a5' a6' c' h.1 hi g h.2))⟩)
        (fun g => nm_r (tg_n1 7 i) (hw () ⟨by omega, fun w h1 h2 => by
          by_cases t : w = i
          · rw [t]
            exact g
          · exact h.2 w h1 (by omega)⟩))⟩) (nI_add 7 N) rfl)
  exact ⟨vp_in_nI (by omega) (by omega), nm_r (e' := nI x) (by rw [nI_clamp (by omega), h7]) ⟨vp_in_nI (by omega) (by omega), nm_r (e' := nI (7 + j)) (by rw [nI_clamp (by omega), h8]) main⟩⟩
end
end
section
/-! exists: the search -/
def tg_T : Nat → Nat
  | 0 => 2
  | k + 1 => 2 + (k + 1) * (1 + tg_T k)
theorem tg_T2 (k : Nat) : 2 ≤ tg_T k := by
  cases k with
  | zero => exact Nat.le_refl 2
  | succ k =>
    show 2 ≤ 2 + (k + 1) * (1 + tg_T k)
    omega
def tg_xc (N : Nat) (A B : Nat → Nat → Nat) (c : Nat → Nat) : Prop := ∃ s, tg_iso N A B s ∧ tg_pres N c s
theorem tg_xc_ref {N : Nat} {A B : Nat → Nat → Nat} {c c' : Nat → Nat} (hN : N ≤ 7) (h : tg_ref N A B c c') : tg_xc N A B c ↔ tg_xc N A B c' := by
  constructor
  · intro ⟨s, hs, hp⟩
    exact ⟨s, hs, h.2 s hs hp⟩
  · intro ⟨s, hs, hp⟩
    refine ⟨s, hs, fun v hv => ?_⟩
    have := hs.1.1 v hv
    exact h.1 v (7 + s v) (by omega) (by omega) (hp v hv)
theorem tg_mulstep {r r' X a b t : Nat} (h : r' < r) (h1 : b ≤ a + X) (h2 : a + r * X ≤ t) : b + r' * X ≤ a + r * X := by
  have h3 : (r' + 1) * X ≤ r * X := Nat.mul_le_mul_right X h
  rw [Nat.add_mul, Nat.one_mul] at h3
  omega
section
variable {fn gx gy pn : Int32} {be : Int64} {hb : Int32} {a1 a2 a3 a4 a5 : Nat → Int32} {a6 : Nat → Int64} {a7 a8 a9 a10 a11 : Nat → Int32} {a12 a13 : Nat → Int64} {a14 : Nat → Int32} {N gX gY K : Nat} {C px py : Nat → Nat}
/-- the loop at a depth whose point x is chosen, the points of Y below j done with -/
theorem tg_xR {post : Int32 → St2 → Prop} {m : Nat} (hX : gX ≤ 1) (hY : gY ≤ 1) (hN : N ≤ 7) (hC : tg_col C a1)
    (IH : ∀ (d t f : Nat) (c : Nat → Nat) (b4 b5 : Nat → Int32) (b6 : Nat → Int64) (b7 b8 b9 : Nat → Int32), d ≤ tg_ns N c → N ≤ tg_ns N c + m → tg_pt b4 d c → t + tg_T m ≤ 60000 → f + t = 60001 →
      (tg_xc N (tg_g C gX) (tg_g C gY) c → ∀ (s4 s5 : Nat → Int32) (s6 : Nat → Int64) (s7 s8 s9 : Nat → Int32), post 1 (nI N, nI gX, nI gY, pn, be, hb, a1, a2, a3, s4, s5, s6, s7, s8, s9, a10, a11, a12, a13, a14)) →
      (¬ tg_xc N (tg_g C gX) (tg_g C gY) c → ∀ (t' f' : Nat) (s4 s5 : Nat → Int32) (s6 : Nat → Int64) (s7 s8 s9 : Nat → Int32), t' ≤ t + tg_T m → f' + t' = 60001 → (∀ j, j < 14 * d → s4 j = b4 j) → (∀ j, j < d → s7 j = b7 j) → (∀ j, j < d → s8 j = b8 j) →
        wX_exists_10 post f' (nI d + (-1)) 0 (nI t') (nI N) (nI gX) (nI gY) pn be hb a1 a2 a3 s4 s5 s6 s7 s8 s9 a10 a11 a12 a13 a14) →
      wX_exists_10 post f (nI d) 1 (nI t) (nI N) (nI gX) (nI gY) pn be hb a1 a2 a3 b4 b5 b6 b7 b8 b9 a10 a11 a12 a13 a14)
    {d x : Nat} {c : Nat → Nat} (hd : d ≤ tg_ns N c) (hd7 : d ≤ 7) (hm : N ≤ tg_ns N c + (m + 1)) (hx : x < N) (hs : tg_shr N c x)
    (H1 : tg_xc N (tg_g C gX) (tg_g C gY) c → ∀ (s4 s5 : Nat → Int32) (s6 : Nat → Int64) (s7 s8 s9 : Nat → Int32), post 1 (nI N, nI gX, nI gY, pn, be, hb, a1, a2, a3, s4, s5, s6, s7, s8, s9, a10, a11, a12, a13, a14)) :
    ∀ (u j t f : Nat) (b4 b5 : Nat → Int32) (b6 : Nat → Int64) (b7 b8 b9 : Nat → Int32), N ≤ j + u → j ≤ N → tg_pt b4 d c → b7 d = nI x → b8 d = nI (7 + j) → t + 1 + tg_cnt (fun w => j ≤ w ∧ c (7 + w) = c x) N * (1 + tg_T m) ≤ 60000 → f + t = 60001 →
      (∀ s, tg_iso N (tg_g C gX) (tg_g C gY) s → tg_pres N c s → j ≤ s x) →
      (¬ tg_xc N (tg_g C gX) (tg_g C gY) c → ∀ (t' f' : Nat) (s4 s5 : Nat → Int32) (s6 : Nat → Int64) (s7 s8 s9 : Nat → Int32), t' ≤ t + 1 + tg_cnt (fun w => j ≤ w ∧ c (7 + w) = c x) N * (1 + tg_T m) → f' + t' = 60001 → (∀ j, j < 14 * d → s4 j = b4 j) → (∀ j, j < d → s7 j = b7 j) → (∀ j, j < d → s8 j = b8 j) →
        wX_exists_10 post f' (nI d + (-1)) 0 (nI t') (nI N) (nI gX) (nI gY) pn be hb a1 a2 a3 s4 s5 s6 s7 s8 s9 a10 a11 a12 a13 a14) →
      wX_exists_10 post f (nI d) 0 (nI t) (nI N) (nI gX) (nI gY) pn be hb a1 a2 a3 b4 b5 b6 b7 b8 b9 a10 a11 a12 a13 a14 := by
  intro u
  induction u with
  | zero =>
    intro j t f b4 b5 b6 b7 b8 b9 hu hj hc h7 h8 ht hf hno H0
    obtain ⟨f', rfl⟩ : ∃ f', f = f' + 1 := ⟨f - 1, by omega⟩
    refine pk_le 60000 t (fun z => absurd z (by omega)) (fun _ => br_f (nI_pos (by omega)) (br_t rfl (tg_tn hN hd7 hc hx h7 h8 hj (fun g => br_t rfl (nm_e (nm_r (nI_1 t) (H0 ?_ (t + 1) f' b4 b5 b6 b7 b8 b9 (by omega) (by omega) (fun _ _ => rfl) (fun _ _ => rfl) (fun _ _ => rfl))))) (fun y _ _ _ _ h1 h2 => absurd h2 (by omega)))))
    intro ⟨s, hiso, hp⟩
    have h1 := hno s hiso hp
    exact g (s x) h1 (hiso.1.1 x hx) (hp x hx).symm
  | succ u ihu =>
    intro j t f b4 b5 b6 b7 b8 b9 hu hj hc h7 h8 ht hf hno H0
    obtain ⟨f', rfl⟩ : ∃ f', f = f' + 1 := ⟨f - 1, by omega⟩
    refine pk_le 60000 t (fun z => absurd z (by omega)) (fun _ => br_f (nI_pos (by omega)) (br_t rfl (tg_tn hN hd7 hc hx h7 h8 hj (fun g => br_t rfl (nm_e (nm_r (nI_1 t) (H0 ?_ (t + 1) f' b4 b5 b6 b7 b8 b9 (by omega) (by omega) (fun _ _ => rfl) (fun _ _ => rfl) (fun _ _ => rfl))))) (fun y a4' a5' a6' c' hjy hyN hcy hmin hpt hag hiff => br_f (by decide) (nm_r (nI_1 d) (nm_r (nI_1 t) ?_))))))
    · intro ⟨s, hiso, hp⟩
      have h1 := hno s hiso hp
      exact g (s x) h1 (hiso.1.1 x hx) (hp x hx).symm
    · have hrf : ∀ v w, v < 14 → w < 14 → c' v = c' w → c v = c w := fun v w hv hw e => ((hiff v w hv hw).mp e).1
      have hsg : tg_sg N c' x := by
        intro u hu2 e
        have z := ((hiff u x (by omega) (by omega)).mp e).2.mpr (Or.inl rfl)
        omega
      have hns := tg_ns_child hN hx hs hrf hsg
      have hlt : tg_cnt (fun w => y + 1 ≤ w ∧ c (7 + w) = c x) N < tg_cnt (fun w => j ≤ w ∧ c (7 + w) = c x) N := tg_cnt_lt (x := y) (fun v _ z => ⟨by omega, z.2⟩) hyN (fun z => by omega) ⟨hjy, hcy⟩
      have hbig := tg_mulstep (X := 1 + tg_T m) (a := t + 1) (b := t + 1 + (1 + tg_T m)) hlt (by omega) ht
      refine IH (d + 1) (t + 1) f' c' a4' a5' a6' b7 (upd b8 d (nI (7 + (y + 1)))) b9 (by omega) (by omega) hpt (by omega) (by omega) (fun hex => H1 ?_) (fun hne t' f'' s4 s5 s6 s7 s8 s9 ht' hf' g4 g7 g8 => ?_)
      · obtain ⟨s, hiso, hp⟩ := hex
        refine ⟨s, hiso, fun v hv => ?_⟩
        have := hiso.1.1 v hv
        exact hrf v (7 + s v) (by omega) (by omega) (hp v hv)
      · rw [pk_m1]
        have hbig2 := tg_mulstep (X := 1 + tg_T m) (a := t + 1) (b := t' + 1) hlt (by omega) ht
        refine ihu (y + 1) t' f'' s4 s5 s6 s7 s8 s9 (by omega) (by omega) (fun v hv => ⟨?_, (hc v hv).2⟩) ?_ ?_ (by omega) hf' (fun s hiso hp => ?_) (fun hne2 t3 f3 r4 r5 r6 r7 r8 r9 ht3 hf3 k4 k7 k8 => H0 hne2 t3 f3 r4 r5 r6 r7 r8 r9 (by omega) hf3 (fun i hi => ?_) (fun i hi => ?_) (fun i hi => ?_))
        · rw [g4 _ (by omega), hag _ (by omega)]
          exact (hc v hv).1
        · rw [g7 d (by omega)]
          exact h7
        · rw [g8 d (by omega), pk_us]
        · have h1 := hno s hiso hp
          have h2 := (hp x hx).symm
          have h3 := hiso.1.1 x hx
          rcases Nat.lt_trichotomy (s x) y with z | z | z
          · exact absurd h2 (hmin (s x) h1 z)
          · refine absurd ⟨s, hiso, fun v hv => ?_⟩ hne
            have h4 := hiso.1.1 v hv
            refine (hiff v (7 + s v) (by omega) (by omega)).mpr ⟨hp v hv, ⟨fun q => Or.inr ?_, fun q => Or.inl ?_⟩⟩
            · have : v = x := by omega
              rw [this, z]
            · have e : s v = s x := by omega
              exact hiso.1.2 v x hv hx e
          · omega
        · rw [k4 i hi, g4 i (by omega), hag i (by omega)]
        · rw [k7 i hi, g7 i (by omega)]
        · rw [k8 i hi, g8 i (by omega), pk_un (by omega)]
theorem tg_xE {post : Int32 → St2 → Prop} (hX : gX ≤ 1) (hY : gY ≤ 1) (hN : N ≤ 7) (hC : tg_col C a1) :
    ∀ (m d t f : Nat) (c : Nat → Nat) (b4 b5 : Nat → Int32) (b6 : Nat → Int64) (b7 b8 b9 : Nat → Int32), d ≤ tg_ns N c → N ≤ tg_ns N c + m → tg_pt b4 d c → t + tg_T m ≤ 60000 → f + t = 60001 →
      (tg_xc N (tg_g C gX) (tg_g C gY) c → ∀ (s4 s5 : Nat → Int32) (s6 : Nat → Int64) (s7 s8 s9 : Nat → Int32), post 1 (nI N, nI gX, nI gY, pn, be, hb, a1, a2, a3, s4, s5, s6, s7, s8, s9, a10, a11, a12, a13, a14)) →
      (¬ tg_xc N (tg_g C gX) (tg_g C gY) c → ∀ (t' f' : Nat) (s4 s5 : Nat → Int32) (s6 : Nat → Int64) (s7 s8 s9 : Nat → Int32), t' ≤ t + tg_T m → f' + t' = 60001 → (∀ j, j < 14 * d → s4 j = b4 j) → (∀ j, j < d → s7 j = b7 j) → (∀ j, j < d → s8 j = b8 j) →
        wX_exists_10 post f' (nI d + (-1)) 0 (nI t') (nI N) (nI gX) (nI gY) pn be hb a1 a2 a3 s4 s5 s6 s7 s8 s9 a10 a11 a12 a13 a14) →
      wX_exists_10 post f (nI d) 1 (nI t) (nI N) (nI gX) (nI gY) pn be hb a1 a2 a3 b4 b5 b6 b7 b8 b9 a10 a11 a12 a13 a14 := by
  intro m
  induction m with
  | zero =>
    intro d t f c b4 b5 b6 b7 b8 b9 hd hm hc ht hf H1 H0
    have hT := tg_T2 0
    have hns := tg_cnt_le (tg_sg N c) N
    have hd7 : d ≤ 7 := by
      unfold tg_ns at hd
      omega
    obtain ⟨f', rfl⟩ : ∃ f', f = f' + 1 := ⟨f - 1, by omega⟩
    refine pk_le 60000 t (fun z => absurd z (by omega)) (fun _ => br_f (nI_pos (by omega)) (br_f (by decide) (tg_rf hX hY hN hC (by omega) hc (fun s4 s5 s6 c' g1 g2 g3 => ?_))))
    have hiff := tg_xc_ref hN g2
    have out : ¬ tg_xc N (tg_g C gX) (tg_g C gY) c' → ∀ s9 : Nat → Int32, wX_exists_10 post f' (nI d + (-1)) 0 (nI (t + 1)) (nI N) (nI gX) (nI gY) pn be hb a1 a2 a3 s4 s5 s6 b7 b8 s9 a10 a11 a12 a13 a14 := fun hne s9 =>
      H0 (fun z => hne (hiff.mp z)) (t + 1) f' s4 s5 s6 b7 b8 s9 (by omega) (by omega) (fun j hj => g3 j (Or.inl hj)) (fun _ _ => rfl) (fun _ _ => rfl)
    refine tg_bl hN (by omega) g1 (fun hg => br_f (by decide) (br_f (by decide) (nm_e (nm_r (nI_1 t) (out ?_ b9))))) (fun hg => br_t rfl ?_) (fun hg hg2 => ?_)
    · intro ⟨s, hs, hp⟩
      obtain ⟨g, hne⟩ := hg
      exact hne (tg_bal hs hp g)
    · obtain ⟨im, hp, him⟩ := tg_im (fun v hv => (g1 v (by omega)).2) hg
      refine tg_il hN hX hY hC (by omega) g1 hp him (fun r s9 h => ?_)
      rcases h with ⟨e, h⟩ | ⟨e, h⟩
      · rw [e]
        exact br_f (by decide) (H1 (hiff.mpr ⟨im, h, fun v hv => ((him v hv (im v) (hp.1 v hv)).mpr rfl).symm⟩) _ _ _ _ _ _)
      · rw [e]
        refine br_t rfl (br_f (by decide) (nm_e (nm_r (nI_1 t) (out ?_ s9))))
        intro ⟨s, hs, hps⟩
        exact h (tg_iso_ext hs (fun v hv => ((him v hv (s v) (hs.1.1 v hv)).mp (hps v hv).symm).symm))
    · exfalso
      obtain ⟨g, h2⟩ := hg2
      obtain ⟨x, y, hx, hy, hne, e1, e2⟩ := tg_cnt_ex2 h2
      have h3 := tg_size (c := c') hx ⟨y, hy, fun z => hne z.symm, e2.trans e1.symm⟩
      have h4 := tg_cnt_pos (p := fun u => c' u = c' x) hx rfl
      have h5 := tg_ns_mono hN g2.1
      omega
  | succ m ih =>
    intro d t f c b4 b5 b6 b7 b8 b9 hd hm hc ht hf H1 H0
    have hT := tg_T2 (m + 1)
    have hns := tg_cnt_le (tg_sg N c) N
    have hd7 : d ≤ 7 := by
      unfold tg_ns at hd
      omega
    obtain ⟨f', rfl⟩ : ∃ f', f = f' + 1 := ⟨f - 1, by omega⟩
    refine pk_le 60000 t (fun z => absurd z (by omega)) (fun _ => br_f (nI_pos (by omega)) (br_f (by decide) (tg_rf hX hY hN hC (by omega) hc (fun s4 s5 s6 c' g1 g2 g3 => ?_))))
    have hiff := tg_xc_ref hN g2
    have out : ¬ tg_xc N (tg_g C gX) (tg_g C gY) c' → ∀ s9 : Nat → Int32, wX_exists_10 post f' (nI d + (-1)) 0 (nI (t + 1)) (nI N) (nI gX) (nI gY) pn be hb a1 a2 a3 s4 s5 s6 b7 b8 s9 a10 a11 a12 a13 a14 := fun hne s9 =>
      H0 (fun z => hne (hiff.mp z)) (t + 1) f' s4 s5 s6 b7 b8 s9 (by omega) (by omega) (fun j hj => g3 j (Or.inl hj)) (fun _ _ => rfl) (fun _ _ => rfl)
    refine tg_bl hN (by omega) g1 (fun hg => br_f (by decide) (br_f (by decide) (nm_e (nm_r (nI_1 t) (out ?_ b9))))) (fun hg => br_t rfl ?_) (fun hg hg2 => ?_)
    · intro ⟨s, hs, hp⟩
      obtain ⟨g, hne⟩ := hg
      exact hne (tg_bal hs hp g)
    · obtain ⟨im, hp, him⟩ := tg_im (fun v hv => (g1 v (by omega)).2) hg
      refine tg_il hN hX hY hC (by omega) g1 hp him (fun r s9 h => ?_)
      rcases h with ⟨e, h⟩ | ⟨e, h⟩
      · rw [e]
        exact br_f (by decide) (H1 (hiff.mpr ⟨im, h, fun v hv => ((him v hv (im v) (hp.1 v hv)).mpr rfl).symm⟩) _ _ _ _ _ _)
      · rw [e]
        refine br_t rfl (br_f (by decide) (nm_e (nm_r (nI_1 t) (out ?_ s9))))
        intro ⟨s, hs, hps⟩
        exact h (tg_iso_ext hs (fun v hv => ((him v hv (s v) (hs.1.1 v hv)).mp (hps v hv).symm).symm))
    · have hex : ∃ v, v < N ∧ tg_shr N c' v := by
        obtain ⟨g, h2⟩ := hg2
        obtain ⟨x, y, hx, hy, hne, e1, e2⟩ := tg_cnt_ex2 h2
        exact ⟨x, hx, y, hy, fun z => hne z.symm, e2.trans e1.symm⟩
      have h5 := tg_ns_mono hN g2.1
      refine br_f (by decide) (br_t rfl (tg_chx hN (by omega) g1 hex (fun x hx hs => nm_r (nI_1 t) ?_)))
      have h6 := tg_size hx hs
      have h7 : tg_cnt (fun w => 0 ≤ w ∧ c' (7 + w) = c' x) N = tg_cnt (fun u => c' u = c' x) N := by
        rw [hg (c' x) (g1 x (by omega)).2]
        exact tg_cnt_congr (fun v _ => ⟨fun z => z.2, fun z => ⟨Nat.zero_le v, z⟩⟩)
      have h8 : tg_cnt (fun w => 0 ≤ w ∧ c' (7 + w) = c' x) N * (1 + tg_T m) ≤ (m + 1) * (1 + tg_T m) := Nat.mul_le_mul_right _ (by omega)
      have h9 : tg_T (m + 1) = 2 + (m + 1) * (1 + tg_T m) := rfl
      refine tg_xR hX hY hN hC ih (by omega) hd7 (by omega) hx hs (fun z => H1 (hiff.mpr z)) N 0 (t + 1) f' s4 s5 s6 _ _ b9 (by omega) (by omega) g1 pk_us pk_us (by omega) (by omega) (fun _ _ _ => Nat.zero_le _) (fun hne t3 f3 r4 r5 r6 r7 r8 r9 ht3 hf3 k4 k7 k8 => H0 (fun z => hne (hiff.mp z)) t3 f3 r4 r5 r6 r7 r8 r9 (by omega) hf3 (fun i hi => (k4 i hi).trans (g3 i (Or.inl hi))) (fun i hi => ?_) (fun i hi => ?_))
      · rw [k7 i hi, pk_un (by omega)]
      · rw [k8 i hi, pk_un (by omega)]
/-- exists answers whether some isomorphism keeps the pins -/
theorem tg_exi {post : Int32 → St2 → Prop} (hN : N ≤ 7) (hX : gX ≤ 1) (hY : gY ≤ 1) (hK : K ≤ 7) (hC : tg_col C a1) (hP : tg_pin N K px py a2 a3)
    (H : ∀ (r : Int32) (s4 s5 : Nat → Int32) (s6 : Nat → Int64) (s7 s8 s9 : Nat → Int32), (r = 1 ∧ tg_ex N (tg_g C gX) (tg_g C gY) K px py) ∨ (r = 0 ∧ ¬ tg_ex N (tg_g C gX) (tg_g C gY) K px py) →
      post r (nI N, nI gX, nI gY, nI K, be, hb, a1, a2, a3, s4, s5, s6, s7, s8, s9, a10, a11, a12, a13, a14)) :
    wpX_exists post (nI N, nI gX, nI gY, nI K, be, hb, a1, a2, a3, a4, a5, a6, a7, a8, a9, a10, a11, a12, a13, a14) := by
  refine tg_sc hN hX hY hK hC hP (fun a4' a5' a6' c h1 h2 h3 => ⟨60001, ?_⟩)
  have hT : tg_T 7 = 41099 := by decide
  refine tg_xE hX hY hN hC 7 0 0 60001 c a4' a5' a6' a7 a8 a9 (Nat.zero_le _) (by omega) h1 (by omega) (by omega) (fun hex s4 s5 s6 s7 s8 s9 => H 1 s4 s5 s6 s7 s8 s9 (Or.inl ⟨rfl, ?_⟩)) (fun hne t' f' s4 s5 s6 s7 s8 s9 ht hf _ _ _ => ?_)
  · obtain ⟨s, hs, hp⟩ := hex
    exact ⟨s, hs, h3 s hs.1.1 hp⟩
  · obtain ⟨f'', rfl⟩ : ∃ f'', f' = f'' + 1 := ⟨f' - 1, by omega⟩
    refine pk_le 60000 t' (fun z => absurd z (by omega)) (fun _ => br_t (by decide) (H 0 s4 s5 s6 s7 s8 s9 (Or.inr ⟨rfl, ?_⟩)))
    intro ⟨s, hs, hp⟩
    exact hne ⟨s, hs, h2 s hs hp⟩
end
end
section
/-! the methods printed a second time -/
section
variable {fn gx gy pn : Int32} {be : Int64} {hb : Int32} {a1 a2 a3 a4 a5 : Nat → Int32} {a6 : Nat → Int64} {a7 a8 a9 a10 a11 : Nat → Int32} {a12 a13 : Nat → Int64} {a14 : Nat → Int32} {N gX gY K : Nat} {C px py : Nat → Nat} {d : Nat} {c : Nat → Nat}
theorem th_rg18 {post : Int32 → St2 → Prop} {J : Int32 → (Nat → Int32) → (Nat → Int32) → (Nat → Int32) → (Nat → Int32) → (Nat → Int32) → (Nat → Int64) → (Nat → Int32) → (Nat → Int32) → (Nat → Int32) → (Nat → Int32) → (Nat → Int32) → (Nat → Int64) → (Nat → Int64) → (Nat → Int32) → Prop} {x2 : Int32} {d v : Nat} {c : Nat → Nat} (hd : d ≤ 8) (hv : v < 14) (hc : tg_pt a4 d c)
    (H : ∀ m, m ≤ v → c m = c v → a6 m = a6 v → (∀ u, u < m → ¬ (c u = c v ∧ a6 u = a6 v)) → J (nI (v + 1)) a1 a2 a3 a4 (upd a5 v (nI m)) a6 a7 a8 a9 a10 a11 a12 a13 a14) :
    ∀ i m, i ≤ m → m ≤ v → c m = c v → a6 m = a6 v → (∀ u, i ≤ u → u < m → ¬ (c u = c v ∧ a6 u = a6 v)) → wX_regroup_2_18 post J (nI d) x2 (nI v) fn gx gy pn be hb a1 a2 a3 a4 a5 a6 a7 a8 a9 a10 a11 a12 a13 a14 (i + 1) (nI m) (nI i + (-1)) := by
  intro i
  induction i with
  | zero =>
    intro m _ h1 h2 h3 h4
    refine br_t (by decide) ⟨vp_in_nI (by omega) (by omega), ?_⟩
    exact nm_r (by rw [nI_clamp (by omega)]) (nm_r (nI_1 v) (H m h1 h2 h3 (fun u hu => h4 u (by omega) hu)))
  | succ i ih =>
    intro m h0 h1 h2 h3 h4
    rw [pk_m1]
    refine br_f (nI_pos (by omega)) ⟨tg_ixin hd (by omega), tg_ixin hd hv, ?_⟩
    refine ek_if (tg_pe hd hc (show i < 14 by omega) hv) (fun g => ⟨vp_in_nI (by omega) (by omega), vp_in_nI (by omega) (by omega), ?_⟩) (fun g => nm_e (ih m (by omega) h1 h2 h3 (fun u hu hm z => ?_)))
    · refine br_c (fun e => nm_e (ih i (by omega) (by omega) g ?_ (fun u hu hm z => by omega))) (fun e => nm_e (ih m (by omega) h1 h2 h3 (fun u hu hm z => ?_)))
      · rw [nI_clamp (show i < 2 ^ 31 by omega), nI_clamp (show v < 2 ^ 31 by omega)] at e
        exact e
      · rw [nI_clamp (show i < 2 ^ 31 by omega), nI_clamp (show v < 2 ^ 31 by omega)] at e
        by_cases t : u = i
        · rw [t] at z
          exact e z.2
        · exact h4 u (by omega) hm z
    · by_cases t : u = i
      · rw [t] at z
        exact g z.1
      · exact h4 u (by omega) hm z
theorem th_rg4 {post : Int32 → St2 → Prop} {d : Nat} {c lst : Nat → Nat} (hd : d ≤ 8) (hc : tg_pt a4 d c)
    (hl : ∀ v, v < 14 → lst v ≤ v ∧ (c (lst v) = c v ∧ a6 (lst v) = a6 v) ∧ ∀ u, u < lst v → ¬ (c u = c v ∧ a6 u = a6 v))
    (H : ∀ s : Nat → Int32, (∀ u, u < 14 → s u = nI (lst u)) → ∃ k, wX_regroup_2_92 post (nI d) fn gx gy pn be hb k 0 0 a1 a2 a3 a4 s a6 a7 a8 a9 a10 a11 a12 a13 a14) : ∃ k, wX_regroup_2_4 post (nI d) 0 fn gx gy pn be hb k 0 a1 a2 a3 a4 a5 a6 a7 a8 a9 a10 a11 a12 a13 a14 :=
  pk_loop (fun k i s => wX_regroup_2_4 post (nI d) 0 fn gx gy pn be hb k (nI i) a1 a2 a3 a4 s a6 a7 a8 a9 a10 a11 a12 a13 a14) (fun i s => ∀ u, u < i → s u = nI (lst u)) 14 0 a5 (by omega) (fun u hu => absurd hu (by omega))
    (fun k s h => pk_le 14 14 (fun _ => H s h) (fun z => absurd z (by omega)))
    (fun k i s hi h hw => pk_le 14 i (fun z => absurd z (by omega)) (fun _ => nm_r (tg_sub1 (nI i)) ⟨i + 1, th_rg18 (c := c) hd hi hc (fun m h1 h2 h3 h4 => hw _ (fun u hu => by
      have hm : m = lst i := by
        have g := hl i hi
        rcases Nat.lt_trichotomy m (lst i) with z | z | z
        · exact absurd ⟨h2, h3⟩ (g.2.2 m z)
        · exact z
        · exact absurd g.2.1 (h4 _ z)
      by_cases e : u = i
      · rw [e, pk_us, hm]
      · rw [pk_un e]
        exact h u (by omega))) i i (Nat.le_refl i) (Nat.le_refl i) rfl rfl (fun u h1 h2 => absurd h1 (by omega))⟩))
theorem th_rg92 {post : Int32 → St2 → Prop} {d : Nat} {lst : Nat → Nat} (hd : d ≤ 8) (h5 : ∀ u, u < 14 → a5 u = nI (lst u))
    (H : ∀ (r : Int32) (s : Nat → Int32), (∀ u, u < 14 → s (14 * d + u) = nI (lst u)) → (∀ j, (j < 14 * d ∨ 14 * d + 14 ≤ j) → s j = a4 j) → post r (fn, gx, gy, pn, be, hb, a1, a2, a3, s, a5, a6, a7, a8, a9, a10, a11, a12, a13, a14)) : ∃ k, wX_regroup_2_92 post (nI d) fn gx gy pn be hb k 0 0 a1 a2 a3 a4 a5 a6 a7 a8 a9 a10 a11 a12 a13 a14 :=
  pk_loop (fun k i (s : Int32 × (Nat → Int32)) => wX_regroup_2_92 post (nI d) fn gx gy pn be hb k s.1 (nI i) a1 a2 a3 s.2 a5 a6 a7 a8 a9 a10 a11 a12 a13 a14) (fun i s => (s.1 = 0 ∨ s.1 = 1) ∧ (∀ u, u < i → s.2 (14 * d + u) = nI (lst u)) ∧ (∀ j, (j < 14 * d ∨ 14 * d + i ≤ j) → s.2 j = a4 j)) 14 0 (0, a4) (by omega)
    ⟨Or.inl rfl, fun u hu => absurd hu (by omega), fun _ _ => rfl⟩
    (fun k s h => pk_le 14 14 (fun _ => ⟨tg_nar h.1, H s.1 s.2 h.2.1 h.2.2⟩) (fun z => absurd z (by omega)))
    (fun k i s hi h hw => pk_le 14 i (fun z => absurd z (by omega)) (fun _ => ⟨tg_ixin hd hi, vp_in_nI hi (by omega), br_c
      (fun e => nm_r (nI_1 i) (hw s ⟨h.1, fun u hu => by
        by_cases t : u = i
        · rw [tg_ixc hd hi, nI_clamp (show i < 2 ^ 31 by omega), h5 i hi] at e
          rw [t]
          exact e
        · exact h.2.1 u (by omega), fun j hj => h.2.2 j (by omega)⟩))
      (fun e => ⟨vp_in_nI hi (by omega), tg_ixin hd hi, nm_r (by rw [tg_ixc hd hi, nI_clamp (show i < 2 ^ 31 by omega), h5 i hi]) (nm_r (nI_1 i) (hw (1, upd s.2 (14 * d + i) (nI (lst i))) ⟨Or.inr rfl, fun u hu => by
        show upd s.2 (14 * d + i) (nI (lst i)) (14 * d + u) = nI (lst u)
        by_cases t : u = i
        · rw [t, pk_us]
        · rw [pk_un (by omega)]
          exact h.2.1 u (by omega), fun j hj => by
        show upd s.2 (14 * d + i) (nI (lst i)) j = a4 j
        rw [pk_un (by omega)]
        exact h.2.2 j (by omega)⟩))⟩)⟩))
theorem th_rg {post : Int32 → St2 → Prop} {d : Nat} {c : Nat → Nat} (hd : d ≤ 8) (hc : tg_pt a4 d c)
    (H : ∀ (r : Int32) (a4' a5' : Nat → Int32) (c' : Nat → Nat), tg_pt a4' d c' → (∀ j, (j < 14 * d ∨ 14 * d + 14 ≤ j) → a4' j = a4 j) → (∀ v w, v < 14 → w < 14 → (c' v = c' w ↔ c v = c w ∧ a6 v = a6 w)) → post r (fn, gx, gy, pn, be, hb, a1, a2, a3, a4', a5', a6, a7, a8, a9, a10, a11, a12, a13, a14)) :
    wpX_regroup_2 post (fn, gx, gy, pn, be, hb, a1, a2, a3, a4, a5, a6, a7, a8, a9, a10, a11, a12, a13, a14) (nI d) := by
  have hch : ∀ v : Nat, ∃ m : Nat, v < 14 → m ≤ v ∧ (c m = c v ∧ a6 m = a6 v) ∧ ∀ u, u < m → ¬ (c u = c v ∧ a6 u = a6 v) := by
    intro v
    obtain ⟨m, h1, h2⟩ := pk_least (fun m => c m = c v ∧ a6 m = a6 v) ⟨v, rfl, rfl⟩
    refine ⟨m, fun _ => ⟨?_, h1, h2⟩⟩
    rcases Nat.lt_or_ge v m with z | z
    · exact absurd ⟨rfl, rfl⟩ (h2 v z)
    · exact z
  obtain ⟨lst, hl⟩ := Classical.skolem.mp hch
  refine th_rg4 hd hc hl (fun s hs => th_rg92 hd hs (fun r a4' h1 h2 => H r a4' s lst (fun v hv => ⟨h1 v hv, ?_⟩) h2 (fun v w hv hw => ⟨fun e => ?_, fun e => ?_⟩)))
  · have := (hl v hv).1
    omega
  · have g1 := (hl v hv).2.1
    have g2 := (hl w hw).2.1
    rw [e] at g1
    exact ⟨g1.1.symm.trans g2.1, g1.2.symm.trans g2.2⟩
  · have g1 := hl v hv
    have g2 := hl w hw
    rcases Nat.lt_trichotomy (lst v) (lst w) with z | z | z
    · exact absurd ⟨g1.2.1.1.trans e.1, g1.2.1.2.trans e.2⟩ (g2.2.2 _ z)
    · exact z
    · exact absurd ⟨g2.2.1.1.trans e.1.symm, g2.2.1.2.trans e.2.symm⟩ (g1.2.2 _ z)
theorem th_sc26 {post : St2 → Prop} {J : Int32 → (Nat → Int32) → (Nat → Int32) → (Nat → Int32) → (Nat → Int32) → (Nat → Int32) → (Nat → Int64) → (Nat → Int32) → (Nat → Int32) → (Nat → Int32) → (Nat → Int32) → (Nat → Int32) → (Nat → Int64) → (Nat → Int64) → (Nat → Int32) → Prop} {z : Int32} {v : Nat} (hX : gX ≤ 1) (hY : gY ≤ 1) (hN : N ≤ 7) (hC : tg_col C a1) (hv : v < 14)
    (H : J (nI (v + 1)) a1 a2 a3 (upd a4 v z) a5 (vp_updL a6 v (lN (tg_bs N gX gY C v))) a7 a8 a9 a10 a11 a12 a13 a14) : wX_startClasses_2_26 post J (nI v) z (nI v) (nI N) (nI gX) (nI gY) pn be hb a1 a2 a3 a4 a5 a6 a7 a8 a9 a10 a11 a12 a13 a14 := by
  refine ⟨vp_in_nI (by omega) (by omega), nm_r (by rw [nI_clamp (by omega)]) (tg_iu hv hN (fun hu => br_f (by decide) (tg_shS hX hY hN hC hv hu ⟨vp_in_nI (by omega) (by omega), nm_r ?_ (nm_r (nI_1 v) H)⟩)) (fun hu => br_t rfl ⟨vp_in_nI (by omega) (by omega), nm_r ?_ (nm_r (nI_1 v) H)⟩))⟩
  · have := tg_bs4 hN hX hY hC v
    rw [nI_clamp (by omega), nI_l (by omega)]
  · rw [nI_clamp (by omega), tg_bs0 hu]
    rfl
theorem th_sc2 {post : St2 → Prop} (hX : gX ≤ 1) (hY : gY ≤ 1) (hN : N ≤ 7) (hC : tg_col C a1)
    (H : ∀ (s4 : Nat → Int32) (s6 : Nat → Int64), (∀ u, u < 14 → s4 u = nI (tg_c0 N u)) → (∀ u, u < 14 → s6 u = lN (tg_bs N gX gY C u)) → ∃ k, wX_startClasses_2_60 post (nI N) (nI gX) (nI gY) pn be hb k 0 a1 a2 a3 s4 a5 s6 a7 a8 a9 a10 a11 a12 a13 a14) :
    ∃ k, wX_startClasses_2_2 post (nI N) (nI gX) (nI gY) pn be hb k 0 a1 a2 a3 a4 a5 a6 a7 a8 a9 a10 a11 a12 a13 a14 :=
  pk_loop (fun k i (s : (Nat → Int32) × (Nat → Int64)) => wX_startClasses_2_2 post (nI N) (nI gX) (nI gY) pn be hb k (nI i) a1 a2 a3 s.1 a5 s.2 a7 a8 a9 a10 a11 a12 a13 a14) (fun i s => (∀ u, u < i → s.1 u = nI (tg_c0 N u)) ∧ (∀ u, u < i → s.2 u = lN (tg_bs N gX gY C u))) 14 0 (a4, a6) (by omega)
    ⟨fun u hu => absurd hu (by omega), fun u hu => absurd hu (by omega)⟩
    (fun k s h => pk_le 14 14 (fun _ => H s.1 s.2 h.1 h.2) (fun z => absurd z (by omega)))
    (fun k i s hi h hw => by
      have h6 : ∀ u, u < i + 1 → vp_updL s.2 i (lN (tg_bs N gX gY C i)) u = lN (tg_bs N gX gY C u) := by
        intro u hu
        by_cases t : u = i
        · rw [t, pk_uLs]
        · rw [pk_uLn t]
          exact h.2 u (by omega)
      have h4 : ∀ z : Int32, z = nI (tg_c0 N i) → ∀ u, u < i + 1 → upd s.1 i z u = nI (tg_c0 N u) := by
        intro z hz u hu
        by_cases t : u = i
        · rw [t, pk_us, hz]
        · rw [pk_un t]
          exact h.1 u (by omega)
      refine pk_le 14 i (fun z => absurd z (by omega)) (fun _ => tg_iu hi hN (fun hu => br_f (by decide) (th_sc26 hX hY hN hC hi (hw (upd s.1 i 0, vp_updL s.2 i (lN (tg_bs N gX gY C i))) ⟨h4 0 ?_, h6⟩))) (fun hu => br_t rfl (th_sc26 hX hY hN hC hi (hw (upd s.1 i (nI i), vp_updL s.2 i (lN (tg_bs N gX gY C i))) ⟨h4 (nI i) ?_, h6⟩))))
      · unfold tg_c0
        rw [if_pos hu]
        rfl
      · unfold tg_c0
        rw [if_neg hu])
theorem th_sc60 {post : St2 → Prop} {base : Nat → Nat} (hN : N ≤ 7) (hK : K ≤ 7) (h4 : ∀ v, base v < 4) (hP : tg_pin N K px py a2 a3) (h6 : ∀ u, u < 14 → a6 u = lN (base u))
    (H : ∀ s6 : Nat → Int64, (∀ u, u < 14 → s6 u = lN (tg_mk base px py K u)) → wpX_regroup_2 (fun _ u => post u) (fn, gx, gy, nI K, be, hb, a1, a2, a3, a4, a5, s6, a7, a8, a9, a10, a11, a12, a13, a14) (nI 0)) : ∃ k, wX_startClasses_2_60 post fn gx gy (nI K) be hb k 0 a1 a2 a3 a4 a5 a6 a7 a8 a9 a10 a11 a12 a13 a14 :=
  pk_loop (fun k i s => wX_startClasses_2_60 post fn gx gy (nI K) be hb k (nI i) a1 a2 a3 a4 a5 s a7 a8 a9 a10 a11 a12 a13 a14) (fun i s => ∀ u, u < 14 → s u = lN (tg_mk base px py i u)) K 0 a6 (by omega) h6
    (fun k s h => pk_le K K (fun _ => H s h) (fun z => absurd z (by omega)))
    (fun k i s hi h hw => by
      obtain ⟨e2, e3, hx, hy⟩ := hP.1 i hi
      have c2 : (a2 (nI i).toNatClampNeg) = nI (px i) := by rw [nI_clamp (by omega)]; exact e2
      have c3 : (7 : Int32) + (a3 (nI i).toNatClampNeg) = nI (7 + py i) := by
        rw [nI_clamp (by omega), e3, show (7 : Int32) = nI 7 from rfl, nI_add]
      have hw2 := hw (vp_updL (vp_updL s (px i) (s (px i) + lN (4 * (i + 1)))) (7 + py i) (vp_updL s (px i) (s (px i) + lN (4 * (i + 1))) (7 + py i) + lN (4 * (i + 1)))) (fun u hu => by
        rw [tg_mk_s]
        by_cases t : u = 7 + py i
        · rw [t, pk_uLs, pk_uLn (by omega), h _ (by omega), if_neg (show ¬ 7 + py i = px i by omega), if_pos rfl, lN_add]
          rfl
        · rw [pk_uLn t, if_neg t, Nat.add_zero]
          by_cases t2 : u = px i
          · rw [t2, pk_uLs, h _ (by omega), if_pos rfl, lN_add]
            rfl
          · rw [pk_uLn t2, if_neg t2, Nat.add_zero]
            exact h u hu)
      refine pk_le K i (fun z => absurd z (by omega)) (fun _ => ⟨vp_in_nI (by omega) (by omega), ?_⟩)
      rw [c2, c3, tg_lN4 (show i < 7 by omega), nI_clamp (show px i < 2 ^ 31 by omega), nI_clamp (show 7 + py i < 2 ^ 31 by omega)]
      exact ⟨vp_in_nI (by omega) (by omega), vp_in_nI (by omega) (by omega), nm_e ⟨vp_in_nI (by omega) (by omega), vp_in_nI (by omega) (by omega), vp_in_nI (by omega) (by omega), nm_e (nm_r (nI_1 i) hw2)⟩⟩)
theorem th_sc {post : St2 → Prop} (hN : N ≤ 7) (hX : gX ≤ 1) (hY : gY ≤ 1) (hK : K ≤ 7) (hC : tg_col C a1) (hP : tg_pin N K px py a2 a3)
    (H : ∀ (a4' a5' : Nat → Int32) (a6' : Nat → Int64) (c : Nat → Nat), tg_pt a4' 0 c → (∀ s, tg_iso N (tg_g C gX) (tg_g C gY) s → (∀ k, k < K → s (px k) = py k) → tg_pres N c s) →
      (∀ s, (∀ v, v < N → s v < N) → tg_pres N c s → ∀ k, k < K → s (px k) = py k) → post (nI N, nI gX, nI gY, nI K, be, hb, a1, a2, a3, a4', a5', a6', a7, a8, a9, a10, a11, a12, a13, a14)) :
    wpX_startClasses_2 post (nI N, nI gX, nI gY, nI K, be, hb, a1, a2, a3, a4, a5, a6, a7, a8, a9, a10, a11, a12, a13, a14) := by
  refine th_sc2 hX hY hN hC (fun s4 s6 h4 h6 => th_sc60 hN hK (tg_bs4 hN hX hY hC) hP h6 (fun m6 hm => th_rg (d := 0) (c := tg_c0 N) (by omega) (fun v hv => ?_) (fun r a4' a5' c' g1 g2 g3 => H a4' a5' m6 c' g1 (fun s hs hp v hv => ?_) (fun s hs hp k hk => ?_))))
  · have e : 14 * 0 + v = v := by omega
    rw [e]
    refine ⟨h4 v hv, ?_⟩
    unfold tg_c0
    split
    · omega
    · exact hv
  · have hsv := hs.1.1 v hv
    refine (g3 v (7 + s v) (by omega) (by omega)).mpr ⟨?_, ?_⟩
    · unfold tg_c0
      rw [if_pos (show tg_use N v by omega), if_pos (show tg_use N (7 + s v) by omega)]
    · rw [hm v (by omega), hm (7 + s v) (by omega), tg_mk_inv hN hs.1 (fun k hk => (hP.1 k hk).2.2.1) hp (fun u hu => ?_) K (Nat.le_refl K) v hv]
      rw [tg_bsX hN hu, tg_bsY hN (hs.1.1 u hu)]
      exact hs.2 u u hu hu
  · have hx := (hP.1 k hk).2.2.1
    have hsx := hs _ hx
    have g4 := ((g3 (px k) (7 + s (px k)) (by omega) (by omega)).mp (hp _ hx)).2
    have b1 := tg_mk_bd (px := px) (py := py) (tg_bs4 hN hX hY hC) (px k) K hK
    have b2 := tg_mk_bd (px := px) (py := py) (tg_bs4 hN hX hY hC) (7 + s (px k)) K hK
    rw [hm _ (by omega), hm _ (by omega), pk_lEQ (by omega) (by omega)] at g4
    exact tg_mk_pins hN (fun j hj => (hP.1 j hj).2.2.1) (fun j hj => (hP.1 j hj).2.2.2) hP.2.1 hP.2.2 (tg_bs4 hN hX hY hC) hk hsx g4
theorem th_mb33 {post : St2 → Prop} {J : Int32 → (Nat → Int32) → (Nat → Int32) → (Nat → Int32) → (Nat → Int32) → (Nat → Int32) → (Nat → Int64) → (Nat → Int32) → (Nat → Int32) → (Nat → Int32) → (Nat → Int32) → (Nat → Int32) → (Nat → Int64) → (Nat → Int64) → (Nat → Int32) → Prop} {d g v : Nat} {c : Nat → Nat} (hX : gX ≤ 1) (hY : gY ≤ 1) (hN : N ≤ 7) (hC : tg_col C a1) (hd : d ≤ 8) (hg : g < 14) (hv : v < 14) (hc : tg_pt a4 d c) (h0 : a6 v = 0)
    (H : ∀ s : Nat → Int64, s v = tg_sum (tg_mf N gX gY C c g v) N → (∀ u, u ≠ v → s u = a6 u) → J (nI (v + 1)) a1 a2 a3 a4 a5 s a7 a8 a9 a10 a11 a12 a13 a14) :
    ∃ k, wX_markBy_2_33 post J (nI d) (nI g) (nI v) (nI (tg_off v)) (nI N) (nI gX) (nI gY) pn be hb k (nI (tg_off v + 0)) a1 a2 a3 a4 a5 a6 a7 a8 a9 a10 a11 a12 a13 a14 :=
  pk_loop (fun k i s => wX_markBy_2_33 post J (nI d) (nI g) (nI v) (nI (tg_off v)) (nI N) (nI gX) (nI gY) pn be hb k (nI (tg_off v + i)) a1 a2 a3 a4 a5 s a7 a8 a9 a10 a11 a12 a13 a14) (fun i s => s v = tg_sum (tg_mf N gX gY C c g v) i ∧ ∀ u, u ≠ v → s u = a6 u) N 0 a6 (by omega) ⟨h0, fun _ _ => rfl⟩
    (fun k s h => pk_le (tg_off v + N) (tg_off v + N) (fun _ => nm_r (nI_1 v) (H s h.1 h.2)) (fun z => absurd z (by omega)) (nI_add _ _) rfl (by have := tg_off_le v; omega) (by have := tg_off_le v; omega))
    (fun k i s hi h hw => by
      have ho := tg_off_le v
      have skip : ¬ (tg_use N v ∧ tg_off v + i ≠ v ∧ c (tg_off v + i) = g) → s v = tg_sum (tg_mf N gX gY C c g v) (i + 1) := by
        intro z
        have e : tg_mf N gX gY C c g v i = 0 := by
          unfold tg_mf
          rw [if_neg z]
        show s v = tg_sum (tg_mf N gX gY C c g v) i + tg_mf N gX gY C c g v i
        rw [e, Int64.add_zero]
        exact h.1
      refine pk_le (tg_off v + N) (tg_off v + i) (fun z => absurd z (by omega)) (fun _ => tg_iu hv hN (fun hu => br_f (by decide) (pk_eq (tg_off v + i) v (fun e => nm_r (tg_n1 _ _) (hw s ⟨skip (fun z => z.2.1 e), h.2⟩)) (fun e => ⟨tg_ixin hd (by omega), br_c (fun z => ⟨vp_in_nI (by omega) (by omega), tg_shM hX hY hN hC hv hi ⟨vp_in_nI (by omega) (by omega), nm_e (nm_r (tg_n1 _ _) (hw _ ?_))⟩⟩) (fun z => nm_r (tg_n1 _ _) (hw s ⟨skip (fun t => z ?_), h.2⟩))⟩))) (fun hu => br_t rfl (nm_r (tg_n1 _ _) (hw s ⟨skip (fun z => hu z.1), h.2⟩)))) (nI_add _ _) rfl
      · have hci := (hc (tg_off v + i) (by omega)).2
        rw [tg_pv hd hc (by omega), nI_eq (by omega) (by omega)] at z
        have e2 : tg_mf N gX gY C c g v i = tg_F (tg_sh gX gY C v i) := by
          unfold tg_mf
          rw [if_pos ⟨hu, e, z⟩]
        constructor
        · rw [nI_clamp (show v < 2 ^ 31 by omega), pk_uLs, h.1]
          show _ = tg_sum (tg_mf N gX gY C c g v) i + tg_mf N gX gY C c g v i
          rw [e2]
          rfl
        · intro u hne
          rw [nI_clamp (show v < 2 ^ 31 by omega), pk_uLn hne]
          exact h.2 u hne
      · rw [tg_pv hd hc (by omega), t.2.2])
theorem th_mb {post : St2 → Prop} {d g : Nat} {c : Nat → Nat} (hX : gX ≤ 1) (hY : gY ≤ 1) (hN : N ≤ 7) (hC : tg_col C a1) (hd : d ≤ 8) (hg : g < 14) (hc : tg_pt a4 d c)
    (H : ∀ m6 : Nat → Int64, (∀ s, tg_iso N (tg_g C gX) (tg_g C gY) s → tg_pres N c s → ∀ v, v < N → m6 v = m6 (7 + s v)) → post (nI N, nI gX, nI gY, pn, be, hb, a1, a2, a3, a4, a5, m6, a7, a8, a9, a10, a11, a12, a13, a14)) :
    wpX_markBy_2 post (nI N, nI gX, nI gY, pn, be, hb, a1, a2, a3, a4, a5, a6, a7, a8, a9, a10, a11, a12, a13, a14) (nI d) (nI g) := by
  have main : ∃ k, wX_markBy_2_2 post (nI d) (nI g) (nI N) (nI gX) (nI gY) pn be hb k 0 a1 a2 a3 a4 a5 a6 a7 a8 a9 a10 a11 a12 a13 a14 :=
    pk_loop (fun k i s => wX_markBy_2_2 post (nI d) (nI g) (nI N) (nI gX) (nI gY) pn be hb k (nI i) a1 a2 a3 a4 a5 s a7 a8 a9 a10 a11 a12 a13 a14) (fun i s => ∀ u, u < i → s u = tg_sum (tg_mf N gX gY C c g u) N) 14 0 a6 (by omega) (fun u hu => absurd hu (by omega))
      (fun k s h => pk_le 14 14 (fun _ => H s (fun t ht hp v hv => by
        have htv := ht.1.1 v hv
        rw [h v (by omega), h (7 + t v) (by omega), tg_mfX hN hv, tg_mfY hN htv]
        exact tg_see_inv ht hp hv)) (fun z => absurd z (by omega)))
      (fun k i s hi h hw => by
        have inner := th_mb33 (pn := pn) (be := be) (hb := hb) (post := post) (J := wX_markBy_2_2 post (nI d) (nI g) (nI N) (nI gX) (nI gY) pn be hb k) (a6 := vp_updL s i 0) (v := i) hX hY hN hC hd hg hi hc pk_uLs (fun s' h1 h2 => hw s' (fun u hu => by
          by_cases e : u = i
          · rw [e, h1]
          · rw [h2 u e, pk_uLn e]
            exact h u (by omega)))
        refine pk_le 14 i (fun z => absurd z (by omega)) (fun _ => ⟨vp_in_nI hi (by omega), nm_r (by rw [nI_clamp (by omega)]) (pk_le 7 i (fun z => ?_) (fun z => ?_))⟩)
        · have e : tg_off i = 7 := by
            unfold tg_off
            rw [if_neg (by omega)]
          rw [e] at inner
          exact inner
        · have e : tg_off i = 0 := by
            unfold tg_off
            rw [if_pos (by omega)]
          rw [e] at inner
          exact inner)
  exact main
theorem th_rf19 {post : St2 → Prop} {J : Int32 → Int32 → Int32 → Int32 → Int32 → Int32 → Int64 → Int32 → (Nat → Int32) → (Nat → Int32) → (Nat → Int32) → (Nat → Int32) → (Nat → Int32) → (Nat → Int64) → (Nat → Int32) → (Nat → Int32) → (Nat → Int32) → (Nat → Int32) → (Nat → Int32) → (Nat → Int64) → (Nat → Int64) → (Nat → Int32) → Prop} {d i3 : Nat} {c : Nat → Nat} (hX : gX ≤ 1) (hY : gY ≤ 1) (hN : N ≤ 7) (hC : tg_col C a1) (hd : d ≤ 8) (hc : tg_pt a4 d c)
    (H : ∀ (x : Int32) (s4 s5 : Nat → Int32) (s6 : Nat → Int64) (c' : Nat → Nat), tg_pt s4 d c' → tg_ref N (tg_g C gX) (tg_g C gY) c c' → (∀ j, (j < 14 * d ∨ 14 * d + 14 ≤ j) → s4 j = a4 j) → J x (nI (i3 + 1)) (nI N) (nI gX) (nI gY) pn be hb a1 a2 a3 s4 s5 s6 a7 a8 a9 a10 a11 a12 a13 a14) :
    ∃ k, wX_refine_2_19 post J (nI d) (nI i3) k 0 0 (nI N) (nI gX) (nI gY) pn be hb a1 a2 a3 a4 a5 a6 a7 a8 a9 a10 a11 a12 a13 a14 :=
  pk_loop (fun k i (s : Int32 × (Nat → Int32) × (Nat → Int32) × (Nat → Int64)) => wX_refine_2_19 post J (nI d) (nI i3) k s.1 (nI i) (nI N) (nI gX) (nI gY) pn be hb a1 a2 a3 s.2.1 s.2.2.1 s.2.2.2 a7 a8 a9 a10 a11 a12 a13 a14)
    (fun _ s => ∃ c', tg_pt s.2.1 d c' ∧ tg_ref N (tg_g C gX) (tg_g C gY) c c' ∧ ∀ j, (j < 14 * d ∨ 14 * d + 14 ≤ j) → s.2.1 j = a4 j) 14 0 (0, a4, a5, a6) (by omega) ⟨c, hc, tg_ref_refl _ _ _ _, fun _ _ => rfl⟩
    (fun k s h => pk_le 14 14 (fun _ => by
      obtain ⟨c', h1, h2, h3⟩ := h
      exact nm_r (nI_1 i3) (H s.1 s.2.1 s.2.2.1 s.2.2.2 c' h1 h2 h3)) (fun z => absurd z (by omega)))
    (fun k i s hi h hw => by
      have hw1 := hw s h
      obtain ⟨c', h1, h2, h3⟩ := h
      refine pk_le 14 i (fun z => absurd z (by omega)) (fun _ => tg_iu hi hN (fun hu => br_f (by decide) ⟨tg_ixin hd hi, br_c (fun z => ?_) (fun z => nm_r (nI_1 i) hw1)⟩) (fun hu => br_t rfl (nm_r (nI_1 i) hw1)))
      refine th_mb hX hY hN hC hd hi h1 (fun m6 hm => th_rg hd h1 (fun r a4' a5' c'' g1 g2 g3 => ?_))
      have hI : ∀ x : Int32, wX_refine_2_19 post J (nI d) (nI i3) k x (nI (i + 1)) (nI N) (nI gX) (nI gY) pn be hb a1 a2 a3 a4' a5' m6 a7 a8 a9 a10 a11 a12 a13 a14 := fun x => hw (x, a4', a5', m6) ⟨c'', g1, tg_ref_trans h2 (tg_ref_mk hN g3 hm), fun j hj => (g2 j hj).trans (h3 j hj)⟩
      exact br_c (fun _ => br_c (fun _ => nm_r (nI_1 i) (hI 0)) (fun _ => nm_r (nI_1 i) (hI 1))) (fun _ => nm_r (nI_1 i) (hI 1)))
theorem th_rf {post : St2 → Prop} {d : Nat} {c : Nat → Nat} (hX : gX ≤ 1) (hY : gY ≤ 1) (hN : N ≤ 7) (hC : tg_col C a1) (hd : d ≤ 8) (hc : tg_pt a4 d c)
    (H : ∀ (s4 s5 : Nat → Int32) (s6 : Nat → Int64) (c' : Nat → Nat), tg_pt s4 d c' → tg_ref N (tg_g C gX) (tg_g C gY) c c' → (∀ j, (j < 14 * d ∨ 14 * d + 14 ≤ j) → s4 j = a4 j) → post (nI N, nI gX, nI gY, pn, be, hb, a1, a2, a3, s4, s5, s6, a7, a8, a9, a10, a11, a12, a13, a14)) :
    wpX_refine_2 post (nI N, nI gX, nI gY, pn, be, hb, a1, a2, a3, a4, a5, a6, a7, a8, a9, a10, a11, a12, a13, a14) (nI d) := by
  have main : ∃ k, wX_refine_2_4 post (nI d) k 1 0 (nI N) (nI gX) (nI gY) pn be hb a1 a2 a3 a4 a5 a6 a7 a8 a9 a10 a11 a12 a13 a14 :=
    pk_loop (fun k i (s : Int32 × (Nat → Int32) × (Nat → Int32) × (Nat → Int64)) => wX_refine_2_4 post (nI d) k s.1 (nI i) (nI N) (nI gX) (nI gY) pn be hb a1 a2 a3 s.2.1 s.2.2.1 s.2.2.2 a7 a8 a9 a10 a11 a12 a13 a14)
      (fun _ s => ∃ c', tg_pt s.2.1 d c' ∧ tg_ref N (tg_g C gX) (tg_g C gY) c c' ∧ ∀ j, (j < 14 * d ∨ 14 * d + 14 ≤ j) → s.2.1 j = a4 j) 15 0 (1, a4, a5, a6) (by omega) ⟨c, hc, tg_ref_refl _ _ _ _, fun _ _ => rfl⟩
      (fun k s h => pk_le 15 15 (fun _ => by
        obtain ⟨c', h1, h2, h3⟩ := h
        exact H s.2.1 s.2.2.1 s.2.2.2 c' h1 h2 h3) (fun z => absurd z (by omega)))
      (fun k i s hi h hw => by
        obtain ⟨c', h1, h2, h3⟩ := h
        refine pk_le 15 i (fun z => absurd z (by omega)) (fun _ => br_c (fun _ => H s.2.1 s.2.2.1 s.2.2.2 c' h1 h2 h3) (fun _ => ?_))
        exact th_rf19 hX hY hN hC hd h1 (fun x s4 s5 s6 c'' g1 g2 g3 => hw (x, s4, s5, s6) ⟨c'', g1, tg_ref_trans h2 g2, fun j hj => (g3 j hj).trans (h3 j hj)⟩))
  exact main
theorem th_chx17 {post : St2 → Prop} (hN : N ≤ 7) (hd : d ≤ 8) (hc : tg_pt a4 d c) (hex : ∃ v, v < N ∧ tg_shr N c v) (H : ∀ x, x < N → tg_shr N c x → post (nI N, gx, gy, pn, be, hb, a1, a2, a3, a4, a5, a6, upd a7 d (nI x), a8, a9, a10, a11, a12, a13, a14)) :
    ∀ i x, i ≤ N → x < N → (∀ v, i ≤ v → v < N → tg_shr N c v → tg_shr N c x) → wX_chooseX_2_17 post (nI d) (nI N) gx gy pn be hb a1 a2 a3 a4 a5 a6 a7 a8 a9 a10 a11 a12 a13 a14 (i + 1) (nI x) (nI i + (-1)) := by
  intro i
  induction i with
  | zero =>
    intro x _ hx h
    obtain ⟨v, hv, hs⟩ := hex
    exact br_t (by decide) ⟨vp_in_nI (by omega) (by omega), nm_r (by rw [nI_clamp (by omega)]) (H x hx (h v (by omega) hv hs))⟩
  | succ i ih =>
    intro x hi hx h
    rw [pk_m1]
    refine br_f (nI_pos (by omega)) (tg_shd hN hd (show i < N by omega) hc (fun g => br_f (by decide) (nm_e (ih i (by omega) (by omega) (fun _ _ _ _ => g)))) (fun g => br_t rfl (nm_e (ih x (by omega) hx (fun v h1 h2 h3 => ?_)))))
    by_cases t : v = i
    · rw [t] at h3
      exact absurd h3 g
    · exact h v (by omega) h2 h3
theorem th_chx {post : St2 → Prop} (hN : N ≤ 7) (hd : d ≤ 8) (hc : tg_pt a4 d c) (hex : ∃ v, v < N ∧ tg_shr N c v) (H : ∀ x, x < N → tg_shr N c x → post (nI N, gx, gy, pn, be, hb, a1, a2, a3, a4, a5, a6, upd a7 d (nI x), upd a8 d (nI (7 + 0)), a9, a10, a11, a12, a13, a14)) :
    wpX_chooseX_2 post (nI N, gx, gy, pn, be, hb, a1, a2, a3, a4, a5, a6, a7, a8, a9, a10, a11, a12, a13, a14) (nI d) := by
  have hN1 : 0 < N := by
    obtain ⟨v, hv, _⟩ := hex
    omega
  refine ⟨vp_in_nI (by omega) (by omega), nm_r (e' := upd a8 d (nI (7 + 0))) (by rw [nI_clamp (by omega)]; rfl) (nm_r (tg_sub1 (nI N)) ⟨N + 1, ?_⟩)⟩
  exact th_chx17 hN hd hc hex H N 0 (Nat.le_refl N) hN1 (fun v h1 h2 => absurd h1 (by omega))
theorem th_il12 {post : Int32 → St2 → Prop} {J : Int32 → (Nat → Int32) → (Nat → Int32) → (Nat → Int32) → (Nat → Int32) → (Nat → Int32) → (Nat → Int64) → (Nat → Int32) → (Nat → Int32) → (Nat → Int32) → (Nat → Int32) → (Nat → Int32) → (Nat → Int64) → (Nat → Int64) → (Nat → Int32) → Prop} {v : Nat} {im : Nat → Nat} (hN : N ≤ 7) (hd : d ≤ 8) (hc : tg_pt a4 d c) (hv : v < N) (him : ∀ w, w < N → (c (7 + w) = c v ↔ w = im v)) (hi : im v < N)
    (H : ∀ s : Nat → Int32, s v = nI (7 + im v) → (∀ u, u ≠ v → s u = a9 u) → J (nI (v + 1)) a1 a2 a3 a4 a5 a6 a7 a8 s a10 a11 a12 a13 a14) : ∃ k, wX_isLaying_2_12 post J (nI d) (nI v) (nI N) gx gy pn be hb k 0 a1 a2 a3 a4 a5 a6 a7 a8 a9 a10 a11 a12 a13 a14 :=
  pk_loop (fun k i s => wX_isLaying_2_12 post J (nI d) (nI v) (nI N) gx gy pn be hb k (nI i) a1 a2 a3 a4 a5 a6 a7 a8 s a10 a11 a12 a13 a14) (fun i s => (im v < i → s v = nI (7 + im v)) ∧ ∀ u, u ≠ v → s u = a9 u) N 0 a9 (by omega) ⟨fun z => absurd z (by omega), fun _ _ => rfl⟩
    (fun k s h => pk_le N N (fun _ => nm_r (nI_1 v) (H s (h.1 hi) h.2)) (fun z => absurd z (by omega)))
    (fun k i s hi h hw => by
      have hcj := hc (7 + i) (by omega)
      have hcv := hc v (by omega)
      refine pk_le N i (fun z => absurd z (by omega)) (fun _ => ?_)
      rw [tg_ix7', nI_clamp (show 14 * d + (7 + i) < 2 ^ 31 by omega), hcj.1, tg_pv hd hc (show v < 14 by omega)]
      refine ⟨vp_in_nI (by omega) (by omega), tg_ixin hd (by omega), pk_eq (c (7 + i)) (c v) (fun e => ⟨vp_in_nI (by omega) (by omega), nm_r (e' := upd s v (nI (7 + i))) ?_ (nm_r (nI_1 i) (hw _ ⟨fun z => ?_, fun u hu => ?_⟩))⟩) (fun e => nm_r (nI_1 i) (hw s ⟨fun z => ?_, h.2⟩))⟩
      · rw [nI_clamp (by omega), show (7 : Int32) = nI 7 from rfl, nI_add]
      · rw [pk_us, (him i hi).mp e]
      · rw [pk_un hu]
        exact h.2 u hu
      · by_cases t : im v = i
        · exact absurd ((him i hi).mpr t.symm) e
        · exact h.1 (by omega))
theorem th_il82 {post : Int32 → St2 → Prop} {J : Int32 → Prop} {v : Nat} {im : Nat → Nat} (hN : N ≤ 7) (hX : gX ≤ 1) (hY : gY ≤ 1) (hC : tg_col C a1) (hv : v < N) (him : ∀ w, w < N → im w < N) (h9 : ∀ w, w < N → a9 w = nI (7 + im w))
    (H1 : (∀ w, w < N → tg_g C gX v w = tg_g C gY (im v) (im w)) → J (nI (v + 1))) (H0 : ∀ w, w < N → tg_g C gX v w ≠ tg_g C gY (im v) (im w) → post 0 (nI N, nI gX, nI gY, pn, be, hb, a1, a2, a3, a4, a5, a6, a7, a8, a9, a10, a11, a12, a13, a14)) :
    ∃ k, wX_isLaying_2_82 post J (nI v) (nI N) (nI gX) (nI gY) pn be hb a1 a2 a3 a4 a5 a6 a7 a8 a9 a10 a11 a12 a13 a14 k 0 :=
  pk_loop (σ := Unit) (fun k i _ => wX_isLaying_2_82 post J (nI v) (nI N) (nI gX) (nI gY) pn be hb a1 a2 a3 a4 a5 a6 a7 a8 a9 a10 a11 a12 a13 a14 k (nI i)) (fun i _ => ∀ w, w < i → tg_g C gX v w = tg_g C gY (im v) (im w)) N 0 () (by omega) (fun w hw => absurd hw (by omega))
    (fun k _ h => pk_le N N (fun _ => nm_r (nI_1 v) (H1 h)) (fun z => absurd z (by omega)))
    (fun k i _ hi h hw => by
      have e1 : a9 (nI v).toNatClampNeg = nI (7 + im v) := by rw [nI_clamp (by omega), h9 v hv]
      have e2 : a9 (nI i).toNatClampNeg = nI (7 + im i) := by rw [nI_clamp (by omega), h9 i hi]
      have h1 := him v hv
      have h2 := him i hi
      have c1 := tg_col4 hC hX hN v i hv hi
      have c2 := tg_col4 hC hY hN (im v) (im i) h1 h2
      refine pk_le N i (fun z => absurd z (by omega)) (fun _ => tg_shX hX (by omega) (by omega) hC ⟨vp_in_nI (by omega) (by omega), vp_in_nI (by omega) (by omega), ?_⟩)
      rw [e1, e2]
      refine tg_shY hY (by omega) (by omega) hC (pk_eq (tg_g C gX v i) (tg_g C gY (im v) (im i)) (fun e => nm_r (nI_1 i) (hw () (fun w hw2 => ?_))) (fun e => H0 i hi e))
      by_cases t : w = i
      · rw [t]
        exact e
      · exact h w (by omega))
theorem th_il {post : Int32 → St2 → Prop} {im : Nat → Nat} (hN : N ≤ 7) (hX : gX ≤ 1) (hY : gY ≤ 1) (hC : tg_col C a1) (hd : d ≤ 8) (hc : tg_pt a4 d c) (hp : tg_perm N im) (him : ∀ v, v < N → ∀ w, w < N → (c (7 + w) = c v ↔ w = im v))
    (H : ∀ (r : Int32) (s : Nat → Int32), (r = 1 ∧ tg_iso N (tg_g C gX) (tg_g C gY) im) ∨ (r = 0 ∧ ¬ tg_iso N (tg_g C gX) (tg_g C gY) im) → post r (nI N, nI gX, nI gY, pn, be, hb, a1, a2, a3, a4, a5, a6, a7, a8, s, a10, a11, a12, a13, a14)) :
    wpX_isLaying_2 post (nI N, nI gX, nI gY, pn, be, hb, a1, a2, a3, a4, a5, a6, a7, a8, a9, a10, a11, a12, a13, a14) (nI d) := by
  have second : ∀ s : Nat → Int32, (∀ w, w < N → s w = nI (7 + im w)) → ∃ k, wX_isLaying_2_72 post (nI N) (nI gX) (nI gY) pn be hb a1 a2 a3 a4 a5 a6 a7 a8 s a10 a11 a12 a13 a14 k 0 := fun s hs =>
    pk_loop (σ := Unit) (fun k i _ => wX_isLaying_2_72 post (nI N) (nI gX) (nI gY) pn be hb a1 a2 a3 a4 a5 a6 a7 a8 s a10 a11 a12 a13 a14 k (nI i)) (fun i _ => ∀ v, v < i → ∀ w, w < N → tg_g C gX v w = tg_g C gY (im v) (im w)) N 0 () (by omega) (fun v hv => absurd hv (by omega))
      (fun k _ h => pk_le N N (fun _ => H 1 s (Or.inl ⟨rfl, hp, fun v w hv hw => h v hv w hw⟩)) (fun z => absurd z (by omega)))
      (fun k i _ hi h hw => pk_le N i (fun z => absurd z (by omega)) (fun _ => th_il82 hN hX hY hC hi hp.1 hs (fun g => hw () (fun v hv w hw2 => by
        by_cases t : v = i
        · rw [t]
          exact g w hw2
        · exact h v (by omega) w hw2)) (fun w hw2 g => H 0 s (Or.inr ⟨rfl, fun z => g (z.2 i w hi hw2)⟩))))
  have main : ∃ k, wX_isLaying_2_2 post (nI d) (nI N) (nI gX) (nI gY) pn be hb k 0 a1 a2 a3 a4 a5 a6 a7 a8 a9 a10 a11 a12 a13 a14 :=
    pk_loop (fun k i s => wX_isLaying_2_2 post (nI d) (nI N) (nI gX) (nI gY) pn be hb k (nI i) a1 a2 a3 a4 a5 a6 a7 a8 s a10 a11 a12 a13 a14) (fun i s => ∀ w, w < i → s w = nI (7 + im w)) N 0 a9 (by omega) (fun v hv => absurd hv (by omega))
      (fun k s h => pk_le N N (fun _ => second s h) (fun z => absurd z (by omega)))
      (fun k i s hi h hw => pk_le N i (fun z => absurd z (by omega)) (fun _ => th_il12 hN hd hc hi (him i hi) (hp.1 i hi) (fun s' h1 h2 => hw s' (fun w hw2 => by
        by_cases t : w = i
        · rw [t, h1]
        · rw [h2 w t]
          exact h w (by omega)))))
  exact main
theorem th_tn62 {post : Int32 → St2 → Prop} {x y : Nat} (hd : d ≤ 7) (hx : x < 14) (hy : y < 14) (hc : tg_pt a4 d c)
    (H : ∀ (a4' a5' : Nat → Int32) (a6' : Nat → Int64) (c' : Nat → Nat), tg_pt a4' (d + 1) c' → (∀ i, i < 14 * (d + 1) → a4' i = a4 i) →
      (∀ v w, v < 14 → w < 14 → (c' v = c' w ↔ c v = c w ∧ ((v = x ∨ v = y) ↔ (w = x ∨ w = y)))) → post 1 (fn, gx, gy, pn, be, hb, a1, a2, a3, a4', a5', a6', a7, a8, a9, a10, a11, a12, a13, a14)) :
    ∃ k, wX_tryNext_2_62 post (nI d) (nI x) (nI y) fn gx gy pn be hb k 0 a1 a2 a3 a4 a5 a6 a7 a8 a9 a10 a11 a12 a13 a14 :=
  pk_loop (fun k i (s : (Nat → Int32) × (Nat → Int64)) => wX_tryNext_2_62 post (nI d) (nI x) (nI y) fn gx gy pn be hb k (nI i) a1 a2 a3 s.1 a5 s.2 a7 a8 a9 a10 a11 a12 a13 a14) (fun i s => (∀ j, j < 14 * (d + 1) → s.1 j = a4 j) ∧ (∀ u, u < i → s.1 (14 * (d + 1) + u) = a4 (14 * d + u)) ∧ (∀ u, u < i → s.2 u = if u = x ∨ u = y then 1 else 0)) 14 0 (a4, a6) (by omega)
    ⟨fun _ _ => rfl, fun u hu => absurd hu (by omega), fun u hu => absurd hu (by omega)⟩
    (fun k s h => pk_le 14 14 (fun _ => by
      rw [nI_1]
      refine th_rg (d := d + 1) (c := c) (by omega) (fun v hv => ⟨?_, (hc v hv).2⟩) (fun r a4' a5' c' g1 g2 g3 => H a4' a5' s.2 c' g1 (fun i hi => (g2 i (Or.inl hi)).trans (h.1 i hi)) (fun v w hv hw => ?_))
      · rw [h.2.1 v hv]
        exact (hc v hv).1
      · rw [g3 v w hv hw, h.2.2 v hv, h.2.2 w hw, tg_b01]) (fun z => absurd z (by omega)))
    (fun k i s hi h hw => by
      have hw2 : ∀ z : Int64, z = (if i = x ∨ i = y then 1 else 0) → wX_tryNext_2_62 post (nI d) (nI x) (nI y) fn gx gy pn be hb k (nI (i + 1)) a1 a2 a3 (upd s.1 (14 * (d + 1) + i) (s.1 (14 * d + i))) a5 (vp_updL s.2 i z) a7 a8 a9 a10 a11 a12 a13 a14 := by
        intro z hz
        refine hw (upd s.1 (14 * (d + 1) + i) (s.1 (14 * d + i)), vp_updL s.2 i z) ⟨fun j hj => ?_, fun u hu => ?_, fun u hu => ?_⟩
        · show upd s.1 (14 * (d + 1) + i) (s.1 (14 * d + i)) j = a4 j
          rw [pk_un (by omega)]
          exact h.1 j hj
        · show upd s.1 (14 * (d + 1) + i) (s.1 (14 * d + i)) (14 * (d + 1) + u) = a4 (14 * d + u)
          by_cases t : u = i
          · rw [t, pk_us]
            exact h.1 _ (by omega)
          · rw [pk_un (by omega)]
            exact h.2.1 u (by omega)
        · show vp_updL s.2 i z u = if u = x ∨ u = y then 1 else 0
          by_cases t : u = i
          · rw [t, pk_uLs, hz]
          · rw [pk_uLn t]
            exact h.2.2 u (by omega)
      refine pk_le 14 i (fun z => absurd z (by omega)) (fun _ => ?_)
      rw [tg_ix14, tg_ix, nI_clamp (show 14 * (d + 1) + i < 2 ^ 31 by omega), nI_clamp (show 14 * d + i < 2 ^ 31 by omega), nI_clamp (show i < 2 ^ 31 by omega)]
      refine ⟨vp_in_nI (by omega) (by omega), vp_in_nI (by omega) (by omega), nm_e (pk_eq i x (fun e => ⟨vp_in_nI (by omega) (by omega), nm_e (nm_r (nI_1 i) (hw2 1 ?_))⟩) (fun e => pk_eq i y (fun e2 => ⟨vp_in_nI (by omega) (by omega), nm_e (nm_r (nI_1 i) (hw2 1 ?_))⟩) (fun e2 => ⟨vp_in_nI (by omega) (by omega), nm_e (nm_r (nI_1 i) (hw2 0 ?_))⟩)))⟩
      · rw [if_pos (Or.inl e)]
      · rw [if_pos (Or.inr e2)]
      · rw [if_neg (fun t => t.elim e e2)])
theorem th_tn {post : Int32 → St2 → Prop} {x j : Nat} (hN : N ≤ 7) (hd : d ≤ 7) (hc : tg_pt a4 d c) (hx : x < N) (h7 : a7 d = nI x) (h8 : a8 d = nI (7 + j)) (hj : j ≤ N)
    (H0 : (∀ y, j ≤ y → y < N → c (7 + y) ≠ c x) → post 0 (nI N, gx, gy, pn, be, hb, a1, a2, a3, a4, a5, a6, a7, a8, a9, a10, a11, a12, a13, a14))
    (H1 : ∀ (y : Nat) (a4' a5' : Nat → Int32) (a6' : Nat → Int64) (c' : Nat → Nat), j ≤ y → y < N → c (7 + y) = c x → (∀ w, j ≤ w → w < y → c (7 + w) ≠ c x) → tg_pt a4' (d + 1) c' → (∀ i, i < 14 * (d + 1) → a4' i = a4 i) →
      (∀ v w, v < 14 → w < 14 → (c' v = c' w ↔ c v = c w ∧ ((v = x ∨ v = 7 + y) ↔ (w = x ∨ w = 7 + y)))) → post 1 (nI N, gx, gy, pn, be, hb, a1, a2, a3, a4', a5', a6', a7, upd a8 d (nI (7 + (y + 1))), a9, a10, a11, a12, a13, a14)) :
    wpX_tryNext_2 post (nI N, gx, gy, pn, be, hb, a1, a2, a3, a4, a5, a6, a7, a8, a9, a10, a11, a12, a13, a14) (nI d) := by
  have main : ∃ k, wX_tryNext_2_14 post (nI d) (nI x) (nI N) gx gy pn be hb a1 a2 a3 a4 a5 a6 a7 a8 a9 a10 a11 a12 a13 a14 k (nI (7 + j)) :=
    pk_loop (σ := Unit) (fun k i _ => wX_tryNext_2_14 post (nI d) (nI x) (nI N) gx gy pn be hb a1 a2 a3 a4 a5 a6 a7 a8 a9 a10 a11 a12 a13 a14 k (nI (7 + i))) (fun i _ => j ≤ i ∧ ∀ w, j ≤ w → w < i → c (7 + w) ≠ c x) N j () hj ⟨Nat.le_refl j, fun w h1 h2 => absurd h1 (by omega)⟩
      (fun k _ h => pk_le (7 + N) (7 + N) (fun _ => H0 h.2) (fun z => absurd z (by omega)) (nI_add 7 N) rfl)
      (fun k i _ hi h hw => pk_le (7 + N) (7 + i) (fun z => absurd z (by omega)) (fun _ => ⟨tg_ixin (by omega) (by omega), tg_ixin (by omega) (by omega), ek_if (tg_pe (by omega) hc (show 7 + i < 14 by omega) (show x < 14 by omega))
        (fun g => ⟨vp_in_nI (by omega) (by omega), nm_r (e' := upd a8 d (nI (7 + (i + 1)))) (by rw [nI_clamp (by omega), tg_n1]) (th_tn62 hd (by omega) (by omega) hc (fun a4' a5' a6' c' => H1 i a4' a5' a6' c' h.1 hi g h.2))⟩)
        (fun g => nm_r (tg_n1 7 i) (hw () ⟨by omega, fun w h1 h2 => by
          by_cases t : w = i
          · rw [t]
            exact g
          · exact h.2 w h1 (by omega)⟩))⟩) (nI_add 7 N) rfl)
  exact ⟨vp_in_nI (by omega) (by omega), nm_r (e' := nI x) (by rw [nI_clamp (by omega), h7]) ⟨vp_in_nI (by omega) (by omega), nm_r (e' := nI (7 + j)) (by rw [nI_clamp (by omega), h8]) main⟩⟩
theorem th_xR {post : Int32 → St2 → Prop} {m : Nat} (hX : gX ≤ 1) (hY : gY ≤ 1) (hN : N ≤ 7) (hC : tg_col C a1)
    (IH : ∀ (d t f : Nat) (c : Nat → Nat) (b4 b5 : Nat → Int32) (b6 : Nat → Int64) (b7 b8 b9 : Nat → Int32), d ≤ tg_ns N c → N ≤ tg_ns N c + m → tg_pt b4 d c → t + tg_T m ≤ 60000 → f + t = 60001 →
      (tg_xc N (tg_g C gX) (tg_g C gY) c → ∀ (s4 s5 : Nat → Int32) (s6 : Nat → Int64) (s7 s8 s9 : Nat → Int32), post 1 (nI N, nI gX, nI gY, pn, be, hb, a1, a2, a3, s4, s5, s6, s7, s8, s9, a10, a11, a12, a13, a14)) →
      (¬ tg_xc N (tg_g C gX) (tg_g C gY) c → ∀ (t' f' : Nat) (s4 s5 : Nat → Int32) (s6 : Nat → Int64) (s7 s8 s9 : Nat → Int32), t' ≤ t + tg_T m → f' + t' = 60001 → (∀ j, j < 14 * d → s4 j = b4 j) → (∀ j, j < d → s7 j = b7 j) → (∀ j, j < d → s8 j = b8 j) →
        wX_exists_2_10 post f' (nI d + (-1)) 0 (nI t') (nI N) (nI gX) (nI gY) pn be hb a1 a2 a3 s4 s5 s6 s7 s8 s9 a10 a11 a12 a13 a14) →
      wX_exists_2_10 post f (nI d) 1 (nI t) (nI N) (nI gX) (nI gY) pn be hb a1 a2 a3 b4 b5 b6 b7 b8 b9 a10 a11 a12 a13 a14)
    {d x : Nat} {c : Nat → Nat} (hd : d ≤ tg_ns N c) (hd7 : d ≤ 7) (hm : N ≤ tg_ns N c + (m + 1)) (hx : x < N) (hs : tg_shr N c x)
    (H1 : tg_xc N (tg_g C gX) (tg_g C gY) c → ∀ (s4 s5 : Nat → Int32) (s6 : Nat → Int64) (s7 s8 s9 : Nat → Int32), post 1 (nI N, nI gX, nI gY, pn, be, hb, a1, a2, a3, s4, s5, s6, s7, s8, s9, a10, a11, a12, a13, a14)) :
    ∀ (u j t f : Nat) (b4 b5 : Nat → Int32) (b6 : Nat → Int64) (b7 b8 b9 : Nat → Int32), N ≤ j + u → j ≤ N → tg_pt b4 d c → b7 d = nI x → b8 d = nI (7 + j) → t + 1 + tg_cnt (fun w => j ≤ w ∧ c (7 + w) = c x) N * (1 + tg_T m) ≤ 60000 → f + t = 60001 →
      (∀ s, tg_iso N (tg_g C gX) (tg_g C gY) s → tg_pres N c s → j ≤ s x) →
      (¬ tg_xc N (tg_g C gX) (tg_g C gY) c → ∀ (t' f' : Nat) (s4 s5 : Nat → Int32) (s6 : Nat → Int64) (s7 s8 s9 : Nat → Int32), t' ≤ t + 1 + tg_cnt (fun w => j ≤ w ∧ c (7 + w) = c x) N * (1 + tg_T m) → f' + t' = 60001 → (∀ j, j < 14 * d → s4 j = b4 j) → (∀ j, j < d → s7 j = b7 j) → (∀ j, j < d → s8 j = b8 j) →
        wX_exists_2_10 post f' (nI d + (-1)) 0 (nI t') (nI N) (nI gX) (nI gY) pn be hb a1 a2 a3 s4 s5 s6 s7 s8 s9 a10 a11 a12 a13 a14) →
      wX_exists_2_10 post f (nI d) 0 (nI t) (nI N) (nI gX) (nI gY) pn be hb a1 a2 a3 b4 b5 b6 b7 b8 b9 a10 a11 a12 a13 a14 := by
  intro u
  induction u with
  | zero =>
    intro j t f b4 b5 b6 b7 b8 b9 hu hj hc h7 h8 ht hf hno H0
    obtain ⟨f', rfl⟩ : ∃ f', f = f' + 1 := ⟨f - 1, by omega⟩
    refine pk_le 60000 t (fun z => absurd z (by omega)) (fun _ => br_f (nI_pos (by omega)) (br_t rfl (th_tn hN hd7 hc hx h7 h8 hj (fun g => br_t rfl (nm_e (nm_r (nI_1 t) (H0 ?_ (t + 1) f' b4 b5 b6 b7 b8 b9 (by omega) (by omega) (fun _ _ => rfl) (fun _ _ => rfl) (fun _ _ => rfl))))) (fun y _ _ _ _ h1 h2 => absurd h2 (by omega)))))
    intro ⟨s, hiso, hp⟩
    have h1 := hno s hiso hp
    exact g (s x) h1 (hiso.1.1 x hx) (hp x hx).symm
  | succ u ihu =>
    intro j t f b4 b5 b6 b7 b8 b9 hu hj hc h7 h8 ht hf hno H0
    obtain ⟨f', rfl⟩ : ∃ f', f = f' + 1 := ⟨f - 1, by omega⟩
    refine pk_le 60000 t (fun z => absurd z (by omega)) (fun _ => br_f (nI_pos (by omega)) (br_t rfl (th_tn hN hd7 hc hx h7 h8 hj (fun g => br_t rfl (nm_e (nm_r (nI_1 t) (H0 ?_ (t + 1) f' b4 b5 b6 b7 b8 b9 (by omega) (by omega) (fun _ _ => rfl) (fun _ _ => rfl) (fun _ _ => rfl))))) (fun y a4' a5' a6' c' hjy hyN hcy hmin hpt hag hiff => br_f (by decide) (nm_r (nI_1 d) (nm_r (nI_1 t) ?_))))))
    · intro ⟨s, hiso, hp⟩
      have h1 := hno s hiso hp
      exact g (s x) h1 (hiso.1.1 x hx) (hp x hx).symm
    · have hrf : ∀ v w, v < 14 → w < 14 → c' v = c' w → c v = c w := fun v w hv hw e => ((hiff v w hv hw).mp e).1
      have hsg : tg_sg N c' x := by
        intro u hu2 e
        have z := ((hiff u x (by omega) (by omega)).mp e).2.mpr (Or.inl rfl)
        omega
      have hns := tg_ns_child hN hx hs hrf hsg
      have hlt : tg_cnt (fun w => y + 1 ≤ w ∧ c (7 + w) = c x) N < tg_cnt (fun w => j ≤ w ∧ c (7 + w) = c x) N := tg_cnt_lt (x := y) (fun v _ z => ⟨by omega, z.2⟩) hyN (fun z => by omega) ⟨hjy, hcy⟩
      have hbig := tg_mulstep (X := 1 + tg_T m) (a := t + 1) (b := t + 1 + (1 + tg_T m)) hlt (by omega) ht
      refine IH (d + 1) (t + 1) f' c' a4' a5' a6' b7 (upd b8 d (nI (7 + (y + 1)))) b9 (by omega) (by omega) hpt (by omega) (by omega) (fun hex => H1 ?_) (fun hne t' f'' s4 s5 s6 s7 s8 s9 ht' hf' g4 g7 g8 => ?_)
      · obtain ⟨s, hiso, hp⟩ := hex
        refine ⟨s, hiso, fun v hv => ?_⟩
        have := hiso.1.1 v hv
        exact hrf v (7 + s v) (by omega) (by omega) (hp v hv)
      · rw [pk_m1]
        have hbig2 := tg_mulstep (X := 1 + tg_T m) (a := t + 1) (b := t' + 1) hlt (by omega) ht
        refine ihu (y + 1) t' f'' s4 s5 s6 s7 s8 s9 (by omega) (by omega) (fun v hv => ⟨?_, (hc v hv).2⟩) ?_ ?_ (by omega) hf' (fun s hiso hp => ?_) (fun hne2 t3 f3 r4 r5 r6 r7 r8 r9 ht3 hf3 k4 k7 k8 => H0 hne2 t3 f3 r4 r5 r6 r7 r8 r9 (by omega) hf3 (fun i hi => ?_) (fun i hi => ?_) (fun i hi => ?_))
        · rw [g4 _ (by omega), hag _ (by omega)]
          exact (hc v hv).1
        · rw [g7 d (by omega)]
          exact h7
        · rw [g8 d (by omega), pk_us]
        · have h1 := hno s hiso hp
          have h2 := (hp x hx).symm
          have h3 := hiso.1.1 x hx
          rcases Nat.lt_trichotomy (s x) y with z | z | z
          · exact absurd h2 (hmin (s x) h1 z)
          · refine absurd ⟨s, hiso, fun v hv => ?_⟩ hne
            have h4 := hiso.1.1 v hv
            refine (hiff v (7 + s v) (by omega) (by omega)).mpr ⟨hp v hv, ⟨fun q => Or.inr ?_, fun q => Or.inl ?_⟩⟩
            · have : v = x := by omega
              rw [this, z]
            · have e : s v = s x := by omega
              exact hiso.1.2 v x hv hx e
          · omega
        · rw [k4 i hi, g4 i (by omega), hag i (by omega)]
        · rw [k7 i hi, g7 i (by omega)]
        · rw [k8 i hi, g8 i (by omega), pk_un (by omega)]
theorem th_xE {post : Int32 → St2 → Prop} (hX : gX ≤ 1) (hY : gY ≤ 1) (hN : N ≤ 7) (hC : tg_col C a1) :
    ∀ (m d t f : Nat) (c : Nat → Nat) (b4 b5 : Nat → Int32) (b6 : Nat → Int64) (b7 b8 b9 : Nat → Int32), d ≤ tg_ns N c → N ≤ tg_ns N c + m → tg_pt b4 d c → t + tg_T m ≤ 60000 → f + t = 60001 →
      (tg_xc N (tg_g C gX) (tg_g C gY) c → ∀ (s4 s5 : Nat → Int32) (s6 : Nat → Int64) (s7 s8 s9 : Nat → Int32), post 1 (nI N, nI gX, nI gY, pn, be, hb, a1, a2, a3, s4, s5, s6, s7, s8, s9, a10, a11, a12, a13, a14)) →
      (¬ tg_xc N (tg_g C gX) (tg_g C gY) c → ∀ (t' f' : Nat) (s4 s5 : Nat → Int32) (s6 : Nat → Int64) (s7 s8 s9 : Nat → Int32), t' ≤ t + tg_T m → f' + t' = 60001 → (∀ j, j < 14 * d → s4 j = b4 j) → (∀ j, j < d → s7 j = b7 j) → (∀ j, j < d → s8 j = b8 j) →
        wX_exists_2_10 post f' (nI d + (-1)) 0 (nI t') (nI N) (nI gX) (nI gY) pn be hb a1 a2 a3 s4 s5 s6 s7 s8 s9 a10 a11 a12 a13 a14) →
      wX_exists_2_10 post f (nI d) 1 (nI t) (nI N) (nI gX) (nI gY) pn be hb a1 a2 a3 b4 b5 b6 b7 b8 b9 a10 a11 a12 a13 a14 := by
  intro m
  induction m with
  | zero =>
    intro d t f c b4 b5 b6 b7 b8 b9 hd hm hc ht hf H1 H0
    have hT := tg_T2 0
    have hns := tg_cnt_le (tg_sg N c) N
    have hd7 : d ≤ 7 := by
      unfold tg_ns at hd
      omega
    obtain ⟨f', rfl⟩ : ∃ f', f = f' + 1 := ⟨f - 1, by omega⟩
    refine pk_le 60000 t (fun z => absurd z (by omega)) (fun _ => br_f (nI_pos (by omega)) (br_f (by decide) (th_rf hX hY hN hC (by omega) hc (fun s4 s5 s6 c' g1 g2 g3 => ?_))))
    have hiff := tg_xc_ref hN g2
    have out : ¬ tg_xc N (tg_g C gX) (tg_g C gY) c' → ∀ s9 : Nat → Int32, wX_exists_2_10 post f' (nI d + (-1)) 0 (nI (t + 1)) (nI N) (nI gX) (nI gY) pn be hb a1 a2 a3 s4 s5 s6 b7 b8 s9 a10 a11 a12 a13 a14 := fun hne s9 =>
      H0 (fun z => hne (hiff.mp z)) (t + 1) f' s4 s5 s6 b7 b8 s9 (by omega) (by omega) (fun j hj => g3 j (Or.inl hj)) (fun _ _ => rfl) (fun _ _ => rfl)
    refine tg_bl hN (by omega) g1 (fun hg => br_f (by decide) (br_f (by decide) (nm_e (nm_r (nI_1 t) (out ?_ b9))))) (fun hg => br_t rfl ?_) (fun hg hg2 => ?_)
    · intro ⟨s, hs, hp⟩
      obtain ⟨g, hne⟩ := hg
      exact hne (tg_bal hs hp g)
    · obtain ⟨im, hp, him⟩ := tg_im (fun v hv => (g1 v (by omega)).2) hg
      refine th_il hN hX hY hC (by omega) g1 hp him (fun r s9 h => ?_)
      rcases h with ⟨e, h⟩ | ⟨e, h⟩
      · rw [e]
        exact br_f (by decide) (H1 (hiff.mpr ⟨im, h, fun v hv => ((him v hv (im v) (hp.1 v hv)).mpr rfl).symm⟩) _ _ _ _ _ _)
      · rw [e]
        refine br_t rfl (br_f (by decide) (nm_e (nm_r (nI_1 t) (out ?_ s9))))
        intro ⟨s, hs, hps⟩
        exact h (tg_iso_ext hs (fun v hv => ((him v hv (s v) (hs.1.1 v hv)).mp (hps v hv).symm).symm))
    · exfalso
      obtain ⟨g, h2⟩ := hg2
      obtain ⟨x, y, hx, hy, hne, e1, e2⟩ := tg_cnt_ex2 h2
      have h3 := tg_size (c := c') hx ⟨y, hy, fun z => hne z.symm, e2.trans e1.symm⟩
      have h4 := tg_cnt_pos (p := fun u => c' u = c' x) hx rfl
      have h5 := tg_ns_mono hN g2.1
      omega
  | succ m ih =>
    intro d t f c b4 b5 b6 b7 b8 b9 hd hm hc ht hf H1 H0
    have hT := tg_T2 (m + 1)
    have hns := tg_cnt_le (tg_sg N c) N
    have hd7 : d ≤ 7 := by
      unfold tg_ns at hd
      omega
    obtain ⟨f', rfl⟩ : ∃ f', f = f' + 1 := ⟨f - 1, by omega⟩
    refine pk_le 60000 t (fun z => absurd z (by omega)) (fun _ => br_f (nI_pos (by omega)) (br_f (by decide) (th_rf hX hY hN hC (by omega) hc (fun s4 s5 s6 c' g1 g2 g3 => ?_))))
    have hiff := tg_xc_ref hN g2
    have out : ¬ tg_xc N (tg_g C gX) (tg_g C gY) c' → ∀ s9 : Nat → Int32, wX_exists_2_10 post f' (nI d + (-1)) 0 (nI (t + 1)) (nI N) (nI gX) (nI gY) pn be hb a1 a2 a3 s4 s5 s6 b7 b8 s9 a10 a11 a12 a13 a14 := fun hne s9 =>
      H0 (fun z => hne (hiff.mp z)) (t + 1) f' s4 s5 s6 b7 b8 s9 (by omega) (by omega) (fun j hj => g3 j (Or.inl hj)) (fun _ _ => rfl) (fun _ _ => rfl)
    refine tg_bl hN (by omega) g1 (fun hg => br_f (by decide) (br_f (by decide) (nm_e (nm_r (nI_1 t) (out ?_ b9))))) (fun hg => br_t rfl ?_) (fun hg hg2 => ?_)
    · intro ⟨s, hs, hp⟩
      obtain ⟨g, hne⟩ := hg
      exact hne (tg_bal hs hp g)
    · obtain ⟨im, hp, him⟩ := tg_im (fun v hv => (g1 v (by omega)).2) hg
      refine th_il hN hX hY hC (by omega) g1 hp him (fun r s9 h => ?_)
      rcases h with ⟨e, h⟩ | ⟨e, h⟩
      · rw [e]
        exact br_f (by decide) (H1 (hiff.mpr ⟨im, h, fun v hv => ((him v hv (im v) (hp.1 v hv)).mpr rfl).symm⟩) _ _ _ _ _ _)
      · rw [e]
        refine br_t rfl (br_f (by decide) (nm_e (nm_r (nI_1 t) (out ?_ s9))))
        intro ⟨s, hs, hps⟩
        exact h (tg_iso_ext hs (fun v hv => ((him v hv (s v) (hs.1.1 v hv)).mp (hps v hv).symm).symm))
    · have hex : ∃ v, v < N ∧ tg_shr N c' v := by
        obtain ⟨g, h2⟩ := hg2
        obtain ⟨x, y, hx, hy, hne, e1, e2⟩ := tg_cnt_ex2 h2
        exact ⟨x, hx, y, hy, fun z => hne z.symm, e2.trans e1.symm⟩
      have h5 := tg_ns_mono hN g2.1
      refine br_f (by decide) (br_t rfl (th_chx hN (by omega) g1 hex (fun x hx hs => nm_r (nI_1 t) ?_)))
      have h6 := tg_size hx hs
      have h7 : tg_cnt (fun w => 0 ≤ w ∧ c' (7 + w) = c' x) N = tg_cnt (fun u => c' u = c' x) N := by
        rw [hg (c' x) (g1 x (by omega)).2]
        exact tg_cnt_congr (fun v _ => ⟨fun z => z.2, fun z => ⟨Nat.zero_le v, z⟩⟩)
      have h8 : tg_cnt (fun w => 0 ≤ w ∧ c' (7 + w) = c' x) N * (1 + tg_T m) ≤ (m + 1) * (1 + tg_T m) := Nat.mul_le_mul_right _ (by omega)
      have h9 : tg_T (m + 1) = 2 + (m + 1) * (1 + tg_T m) := rfl
      refine th_xR hX hY hN hC ih (by omega) hd7 (by omega) hx hs (fun z => H1 (hiff.mpr z)) N 0 (t + 1) f' s4 s5 s6 _ _ b9 (by omega) (by omega) g1 pk_us pk_us (by omega) (by omega) (fun _ _ _ => Nat.zero_le _) (fun hne t3 f3 r4 r5 r6 r7 r8 r9 ht3 hf3 k4 k7 k8 => H0 (fun z => hne (hiff.mp z)) t3 f3 r4 r5 r6 r7 r8 r9 (by omega) hf3 (fun i hi => (k4 i hi).trans (g3 i (Or.inl hi))) (fun i hi => ?_) (fun i hi => ?_))
      · rw [k7 i hi, pk_un (by omega)]
      · rw [k8 i hi, pk_un (by omega)]
theorem th_exi {post : Int32 → St2 → Prop} (hN : N ≤ 7) (hX : gX ≤ 1) (hY : gY ≤ 1) (hK : K ≤ 7) (hC : tg_col C a1) (hP : tg_pin N K px py a2 a3)
    (H : ∀ (r : Int32) (s4 s5 : Nat → Int32) (s6 : Nat → Int64) (s7 s8 s9 : Nat → Int32), (r = 1 ∧ tg_ex N (tg_g C gX) (tg_g C gY) K px py) ∨ (r = 0 ∧ ¬ tg_ex N (tg_g C gX) (tg_g C gY) K px py) →
      post r (nI N, nI gX, nI gY, nI K, be, hb, a1, a2, a3, s4, s5, s6, s7, s8, s9, a10, a11, a12, a13, a14)) :
    wpX_exists_2 post (nI N, nI gX, nI gY, nI K, be, hb, a1, a2, a3, a4, a5, a6, a7, a8, a9, a10, a11, a12, a13, a14) := by
  refine th_sc hN hX hY hK hC hP (fun a4' a5' a6' c h1 h2 h3 => ⟨60001, ?_⟩)
  have hT : tg_T 7 = 41099 := by decide
  refine th_xE hX hY hN hC 7 0 0 60001 c a4' a5' a6' a7 a8 a9 (Nat.zero_le _) (by omega) h1 (by omega) (by omega) (fun hex s4 s5 s6 s7 s8 s9 => H 1 s4 s5 s6 s7 s8 s9 (Or.inl ⟨rfl, ?_⟩)) (fun hne t' f' s4 s5 s6 s7 s8 s9 ht hf _ _ _ => ?_)
  · obtain ⟨s, hs, hp⟩ := hex
    exact ⟨s, hs, h3 s hs.1.1 hp⟩
  · obtain ⟨f'', rfl⟩ : ∃ f'', f' = f'' + 1 := ⟨f' - 1, by omega⟩
    refine pk_le 60000 t' (fun z => absurd z (by omega)) (fun _ => br_t (by decide) (H 0 s4 s5 s6 s7 s8 s9 (Or.inr ⟨rfl, ?_⟩)))
    intro ⟨s, hs, hp⟩
    exact hne ⟨s, hs, h2 s hs hp⟩
end
end
section
/-! pins, leastPartner -/
def tg_sn (p : Nat → Nat) (K x : Nat) : Nat → Nat := fun k => if k = K then x else p k
theorem tg_sn_s (p : Nat → Nat) (K x : Nat) : tg_sn p K x K = x := if_pos rfl
theorem tg_sn_o {p : Nat → Nat} {K x k : Nat} (h : k ≠ K) : tg_sn p K x k = p k := if_neg h
theorem tg_inj_add {p : Nat → Nat} {K x : Nat} (h : ∀ i j, i < K → j < K → p i = p j → i = j) (hx : ∀ k, k < K → p k ≠ x) : ∀ i j, i < K + 1 → j < K + 1 → tg_sn p K x i = tg_sn p K x j → i = j := by
  intro i j hi hj e
  by_cases t1 : i = K
  · by_cases t2 : j = K
    · omega
    · rw [t1, tg_sn_s, tg_sn_o t2] at e
      exact absurd e.symm (hx j (by omega))
  · by_cases t2 : j = K
    · rw [t2, tg_sn_s, tg_sn_o t1] at e
      exact absurd e (hx i (by omega))
    · rw [tg_sn_o t1, tg_sn_o t2] at e
      exact h i j (by omega) (by omega) e
theorem tg_pin_add {N K x y : Nat} {px py : Nat → Nat} {a2 a3 : Nat → Int32} (h : tg_pin N K px py a2 a3) (hx : x < N) (hy : y < N) (nx : ∀ k, k < K → px k ≠ x) (ny : ∀ k, k < K → py k ≠ y) :
    tg_pin N (K + 1) (tg_sn px K x) (tg_sn py K y) (upd a2 K (nI x)) (upd a3 K (nI y)) := by
  refine ⟨fun k hk => ?_, tg_inj_add h.2.1 nx, tg_inj_add h.2.2 ny⟩
  by_cases t : k = K
  · rw [t, tg_sn_s, tg_sn_s, pk_us, pk_us]
    exact ⟨rfl, rfl, hx, hy⟩
  · rw [tg_sn_o t, tg_sn_o t, pk_un t, pk_un t]
    exact h.1 k (by omega)
theorem tg_pin_keep {N K : Nat} {px py : Nat → Nat} {a2 a3 : Nat → Int32} {x y : Int32} (h : tg_pin N K px py a2 a3) : tg_pin N K px py (upd a2 K x) (upd a3 K y) := by
  refine ⟨fun k hk => ?_, h.2⟩
  rw [pk_un (by omega), pk_un (by omega)]
  exact h.1 k hk
theorem tg_pin_ext {N K : Nat} {px py qx qy : Nat → Nat} {a2 a3 : Nat → Int32} (h : tg_pin N K px py a2 a3) (ex : ∀ k, k < K → qx k = px k) (ey : ∀ k, k < K → qy k = py k) : tg_pin N K qx qy a2 a3 := by
  refine ⟨fun k hk => ?_, fun i j hi hj e => ?_, fun i j hi hj e => ?_⟩
  · rw [ex k hk, ey k hk]
    exact h.1 k hk
  · rw [ex i hi, ex j hj] at e
    exact h.2.1 i j hi hj e
  · rw [ey i hi, ey j hj] at e
    exact h.2.2 i j hi hj e
theorem tg_pin_0 {N : Nat} {px py : Nat → Nat} {a2 a3 : Nat → Int32} : tg_pin N 0 px py a2 a3 := ⟨fun k hk => absurd hk (by omega), fun i j hi => absurd hi (by omega), fun i j hi => absurd hi (by omega)⟩
section
variable {fn gx gy pn : Int32} {be : Int64} {hb : Int32} {a1 a2 a3 a4 a5 : Nat → Int32} {a6 : Nat → Int64} {a7 a8 a9 a10 a11 : Nat → Int32} {a12 a13 : Nat → Int64} {a14 : Nat → Int32} {N gX gY K : Nat} {C px py : Nat → Nat}
theorem tg_pinw {post : St2 → Prop} {x y : Int32} (hK : K < 7) (H : post (fn, gx, gy, nI (K + 1), be, hb, a1, upd a2 K x, upd a3 K y, a4, a5, a6, a7, a8, a9, a10, a11, a12, a13, a14)) : wpX_pin post (fn, gx, gy, nI K, be, hb, a1, a2, a3, a4, a5, a6, a7, a8, a9, a10, a11, a12, a13, a14) x y :=
  ⟨vp_in_nI hK (by omega), nm_r (by rw [nI_clamp (by omega)]) ⟨vp_in_nI hK (by omega), nm_r (by rw [nI_clamp (by omega)]) (nm_r (nI_1 K) H)⟩⟩
theorem tg_pto {post : Int32 → Prop} {b : Nat} (hN : N ≤ 7) (hK : K ≤ 7) (hb' : b < N) (hP : tg_pin N K px py a2 a3) (H1 : ∀ k, k < K → py k = b → post 1) (H0 : (∀ k, k < K → py k ≠ b) → post 0) : wpX_pinnedTo post (fn, gx, gy, nI K, be, hb, a1, a2, a3, a4, a5, a6, a7, a8, a9, a10, a11, a12, a13, a14) (nI b) := by
  have main : ∃ k, wX_pinnedTo_2 post (nI b) fn gx gy (nI K) be hb a1 a2 a3 a4 a5 a6 a7 a8 a9 a10 a11 a12 a13 a14 k 0 :=
    pk_loop (σ := Unit) (fun k i _ => wX_pinnedTo_2 post (nI b) fn gx gy (nI K) be hb a1 a2 a3 a4 a5 a6 a7 a8 a9 a10 a11 a12 a13 a14 k (nI i)) (fun i _ => ∀ k, k < i → py k ≠ b) K 0 () (by omega) (fun u hu => absurd hu (by omega))
      (fun k _ h => pk_le K K (fun _ => H0 h) (fun z => absurd z (by omega)))
      (fun k i _ hi h hw => pk_le K i (fun z => absurd z (by omega)) (fun _ => ⟨vp_in_nI (by omega) (by omega), by
        have h3 := hP.1 i hi
        rw [nI_clamp (show i < 2 ^ 31 by omega), h3.2.1]
        exact pk_eq (py i) b (fun e => H1 i hi e) (fun e => nm_r (nI_1 i) (hw () (fun u hu => by
          by_cases t : u = i
          · rw [t]
            exact e
          · exact h u (by omega))))⟩))
  exact main
theorem tg_lp {post : Int32 → St2 → Prop} {a : Nat} (hN : N ≤ 7) (hX : gX ≤ 1) (hY : gY ≤ 1) (hC : tg_col C a1) (hK : K < 7) (ha : a < N) (nx : ∀ k, k < K → px k ≠ a) (hP : tg_pin N K px py a2 a3)
    (H1 : ∀ (b : Nat) (s2 s3 s4 s5 : Nat → Int32) (s6 : Nat → Int64) (s7 s8 s9 : Nat → Int32), b < N → tg_ex N (tg_g C gX) (tg_g C gY) (K + 1) (tg_sn px K a) (tg_sn py K b) → (∀ b', b' < b → ¬ tg_ex N (tg_g C gX) (tg_g C gY) (K + 1) (tg_sn px K a) (tg_sn py K b')) →
      tg_pin N (K + 1) (tg_sn px K a) (tg_sn py K b) s2 s3 → post (nI b) (nI N, nI gX, nI gY, nI (K + 1), be, hb, a1, s2, s3, s4, s5, s6, s7, s8, s9, a10, a11, a12, a13, a14))
    (H0 : ∀ (s2 s3 s4 s5 : Nat → Int32) (s6 : Nat → Int64) (s7 s8 s9 : Nat → Int32), (∀ b, b < N → ¬ tg_ex N (tg_g C gX) (tg_g C gY) (K + 1) (tg_sn px K a) (tg_sn py K b)) → tg_pin N K px py s2 s3 →
      post (-1) (nI N, nI gX, nI gY, nI K, be, hb, a1, s2, s3, s4, s5, s6, s7, s8, s9, a10, a11, a12, a13, a14)) :
    wpX_leastPartner_2 post (nI N, nI gX, nI gY, nI K, be, hb, a1, a2, a3, a4, a5, a6, a7, a8, a9, a10, a11, a12, a13, a14) (nI a) := by
  have main : ∀ (u i : Nat) (s2 s3 s4 s5 : Nat → Int32) (s6 : Nat → Int64) (s7 s8 s9 : Nat → Int32), i + u = N → tg_pin N K px py s2 s3 → (∀ b', b' < i → ¬ tg_ex N (tg_g C gX) (tg_g C gY) (K + 1) (tg_sn px K a) (tg_sn py K b')) →
      wX_leastPartner_2_2 post (nI a) (u + 1) (nI i) (nI N) (nI gX) (nI gY) (nI K) be hb a1 s2 s3 s4 s5 s6 s7 s8 s9 a10 a11 a12 a13 a14 := by
    intro u
    induction u with
    | zero =>
      intro i s2 s3 s4 s5 s6 s7 s8 s9 hi hp hno
      exact pk_le N i (fun _ => H0 s2 s3 s4 s5 s6 s7 s8 s9 (fun b hb' => hno b (by omega)) hp) (fun z => absurd z (by omega))
    | succ u ih =>
      intro i s2 s3 s4 s5 s6 s7 s8 s9 hi hp hno
      have more : ¬ tg_ex N (tg_g C gX) (tg_g C gY) (K + 1) (tg_sn px K a) (tg_sn py K i) → ∀ b', b' < i + 1 → ¬ tg_ex N (tg_g C gX) (tg_g C gY) (K + 1) (tg_sn px K a) (tg_sn py K b') := by
        intro h b' hb'
        by_cases t : b' = i
        · rw [t]
          exact h
        · exact hno b' (by omega)
      refine pk_le N i (fun z => absurd z (by omega)) (fun _ => tg_pto hN (by omega) (show i < N by omega) hp (fun k hk e => br_f (by decide) (nm_r (nI_1 i) (ih (i + 1) s2 s3 s4 s5 s6 s7 s8 s9 (by omega) hp (more ?_)))) (fun hny => br_t rfl (tg_pinw hK (tg_exi hN hX hY (by omega) hC (tg_pin_add hp ha (show i < N by omega) nx hny) (fun r r4 r5 r6 r7 r8 r9 h => ?_)))))
      · intro ⟨s, hs, hps⟩
        have e1 := hps k (by omega)
        have e2 := hps K (by omega)
        rw [tg_sn_o (show k ≠ K by omega), tg_sn_o (show k ≠ K by omega), e] at e1
        rw [tg_sn_s, tg_sn_s] at e2
        exact nx k hk (hs.1.2 _ _ (hP.1 k hk).2.2.1 ha (e1.trans e2.symm))
      · rcases h with ⟨e, h⟩ | ⟨e, h⟩
        · rw [e]
          exact br_f (by decide) (H1 i _ _ r4 r5 r6 r7 r8 r9 (by omega) h hno (tg_pin_add hp ha (show i < N by omega) nx hny))
        · rw [e]
          exact br_t rfl (nm_r (nI_pred K) (nm_r (nI_1 i) (ih (i + 1) _ _ r4 r5 r6 r7 r8 r9 (by omega) (tg_pin_keep hp) (more h))))
  exact ⟨N + 1, main N 0 a2 a3 a4 a5 a6 a7 a8 a9 (by omega) hP (fun b' hb' => absurd hb' (by omega))⟩
end
end
section
/-! pin and leastPartner as printed the other time -/
section
variable {fn gx gy pn : Int32} {be : Int64} {hb : Int32} {a1 a2 a3 a4 a5 : Nat → Int32} {a6 : Nat → Int64} {a7 a8 a9 a10 a11 : Nat → Int32} {a12 a13 : Nat → Int64} {a14 : Nat → Int32} {N gX gY K : Nat} {C px py : Nat → Nat}
theorem th_pinw {post : St2 → Prop} {x y : Int32} (hK : K < 7) (H : post (fn, gx, gy, nI (K + 1), be, hb, a1, upd a2 K x, upd a3 K y, a4, a5, a6, a7, a8, a9, a10, a11, a12, a13, a14)) : wpX_pin_2 post (fn, gx, gy, nI K, be, hb, a1, a2, a3, a4, a5, a6, a7, a8, a9, a10, a11, a12, a13, a14) x y :=
  ⟨vp_in_nI hK (by omega), nm_r (by rw [nI_clamp (by omega)]) ⟨vp_in_nI hK (by omega), nm_r (by rw [nI_clamp (by omega)]) (nm_r (nI_1 K) H)⟩⟩
theorem th_lp {post : Int32 → St2 → Prop} {a : Nat} (hN : N ≤ 7) (hX : gX ≤ 1) (hY : gY ≤ 1) (hC : tg_col C a1) (hK : K < 7) (ha : a < N) (nx : ∀ k, k < K → px k ≠ a) (hP : tg_pin N K px py a2 a3)
    (H1 : ∀ (b : Nat) (s2 s3 s4 s5 : Nat → Int32) (s6 : Nat → Int64) (s7 s8 s9 : Nat → Int32), b < N → tg_ex N (tg_g C gX) (tg_g C gY) (K + 1) (tg_sn px K a) (tg_sn py K b) → (∀ b', b' < b → ¬ tg_ex N (tg_g C gX) (tg_g C gY) (K + 1) (tg_sn px K a) (tg_sn py K b')) →
      tg_pin N (K + 1) (tg_sn px K a) (tg_sn py K b) s2 s3 → post (nI b) (nI N, nI gX, nI gY, nI (K + 1), be, hb, a1, s2, s3, s4, s5, s6, s7, s8, s9, a10, a11, a12, a13, a14))
    (H0 : ∀ (s2 s3 s4 s5 : Nat → Int32) (s6 : Nat → Int64) (s7 s8 s9 : Nat → Int32), (∀ b, b < N → ¬ tg_ex N (tg_g C gX) (tg_g C gY) (K + 1) (tg_sn px K a) (tg_sn py K b)) → tg_pin N K px py s2 s3 →
      post (-1) (nI N, nI gX, nI gY, nI K, be, hb, a1, s2, s3, s4, s5, s6, s7, s8, s9, a10, a11, a12, a13, a14)) :
    wpX_leastPartner post (nI N, nI gX, nI gY, nI K, be, hb, a1, a2, a3, a4, a5, a6, a7, a8, a9, a10, a11, a12, a13, a14) (nI a) := by
  have main : ∀ (u i : Nat) (s2 s3 s4 s5 : Nat → Int32) (s6 : Nat → Int64) (s7 s8 s9 : Nat → Int32), i + u = N → tg_pin N K px py s2 s3 → (∀ b', b' < i → ¬ tg_ex N (tg_g C gX) (tg_g C gY) (K + 1) (tg_sn px K a) (tg_sn py K b')) →
      wX_leastPartner_2 post (nI a) (u + 1) (nI i) (nI N) (nI gX) (nI gY) (nI K) be hb a1 s2 s3 s4 s5 s6 s7 s8 s9 a10 a11 a12 a13 a14 := by
    intro u
    induction u with
    | zero =>
      intro i s2 s3 s4 s5 s6 s7 s8 s9 hi hp hno
      exact pk_le N i (fun _ => H0 s2 s3 s4 s5 s6 s7 s8 s9 (fun b hb' => hno b (by omega)) hp) (fun z => absurd z (by omega))
    | succ u ih =>
      intro i s2 s3 s4 s5 s6 s7 s8 s9 hi hp hno
      have more : ¬ tg_ex N (tg_g C gX) (tg_g C gY) (K + 1) (tg_sn px K a) (tg_sn py K i) → ∀ b', b' < i + 1 → ¬ tg_ex N (tg_g C gX) (tg_g C gY) (K + 1) (tg_sn px K a) (tg_sn py K b') := by
        intro h b' hb'
        by_cases t : b' = i
        · rw [t]
          exact h
        · exact hno b' (by omega)
      refine pk_le N i (fun z => absurd z (by omega)) (fun _ => tg_pto hN (by omega) (show i < N by omega) hp (fun k hk e => br_f (by decide) (nm_r (nI_1 i) (ih (i + 1) s2 s3 s4 s5 s6 s7 s8 s9 (by omega) hp (more ?_)))) (fun hny => br_t rfl (th_pinw hK (th_exi hN hX hY (by omega) hC (tg_pin_add hp ha (show i < N by omega) nx hny) (fun r r4 r5 r6 r7 r8 r9 h => ?_)))))
      · intro ⟨s, hs, hps⟩
        have e1 := hps k (by omega)
        have e2 := hps K (by omega)
        rw [tg_sn_o (show k ≠ K by omega), tg_sn_o (show k ≠ K by omega), e] at e1
        rw [tg_sn_s, tg_sn_s] at e2
        exact nx k hk (hs.1.2 _ _ (hP.1 k hk).2.2.1 ha (e1.trans e2.symm))
      · rcases h with ⟨e, h⟩ | ⟨e, h⟩
        · rw [e]
          exact br_f (by decide) (H1 i _ _ r4 r5 r6 r7 r8 r9 (by omega) h hno (tg_pin_add hp ha (show i < N by omega) nx hny))
        · rw [e]
          exact br_t rfl (nm_r (nI_pred K) (nm_r (nI_1 i) (ih (i + 1) _ _ r4 r5 r6 r7 r8 r9 (by omega) (tg_pin_keep hp) (more h))))
  exact ⟨N + 1, main N 0 a2 a3 a4 a5 a6 a7 a8 a9 (by omega) hP (fun b' hb' => absurd hb' (by omega))⟩
end
end
section
/-! countSymmetries, layings, symmetries, laid: a state u of the object: its n and its colours count -/
def tg_is (N : Nat) (a1 : Nat → Int32) (u : St2) : Prop := u.1 = nI N ∧ u.2.2.2.2.2.2.1 = a1
section
variable {fn gx gy pn : Int32} {be : Int64} {hb : Int32} {a1 a2 a3 a4 a5 : Nat → Int32} {a6 : Nat → Int64} {a7 a8 a9 a10 a11 : Nat → Int32} {a12 a13 : Nat → Int64} {a14 : Nat → Int32} {N gX gY K : Nat} {C px py : Nat → Nat}
theorem tg_cs26 {post : Int32 → St2 → Prop} {J : Int32 → Int32 → Int32 → Int32 → Int32 → Int32 → Int64 → Int32 → (Nat → Int32) → (Nat → Int32) → (Nat → Int32) → (Nat → Int32) → (Nat → Int32) → (Nat → Int64) → (Nat → Int32) → (Nat → Int32) → (Nat → Int32) → (Nat → Int32) → (Nat → Int32) → (Nat → Int64) → (Nat → Int64) → (Nat → Int32) → Prop} {g a : Nat} {x2 : Int32} (hN : N ≤ 7) (hg : g ≤ 1) (hC : tg_col C a1) (ha : a < N)
    (H : ∀ (s2 s3 s4 s5 : Nat → Int32) (s6 : Nat → Int64) (s7 s8 s9 : Nat → Int32), tg_pin N (a + 1) (fun k => k) (fun k => k) s2 s3 → J (x2 * nI (tg_cnt (tg_E N (tg_g C g) a) N)) (nI (a + 1)) (nI N) (nI g) (nI g) (nI (a + 1)) be hb a1 s2 s3 s4 s5 s6 s7 s8 s9 a10 a11 a12 a13 a14) :
    ∀ (u i : Nat) (s2 s3 s4 s5 : Nat → Int32) (s6 : Nat → Int64) (s7 s8 s9 : Nat → Int32), i + u = N → a < i → tg_pin N a (fun k => k) (fun k => k) s2 s3 →
      wX_countSymmetries_26 post J x2 (nI a) (u + 1) (nI (tg_cnt (tg_E N (tg_g C g) a) i)) (nI i) (nI N) (nI g) (nI g) (nI a) be hb a1 s2 s3 s4 s5 s6 s7 s8 s9 a10 a11 a12 a13 a14 := by
  intro u
  induction u with
  | zero =>
    intro i s2 s3 s4 s5 s6 s7 s8 s9 hi hai hp
    have e : i = N := by omega
    rw [e]
    refine pk_le N N (fun _ => nm_e (tg_pinw (by omega) (nm_r (nI_1 a) (H _ _ s4 s5 s6 s7 s8 s9 ?_)))) (fun z => absurd z (by omega))
    refine tg_pin_ext (tg_pin_add hp ha ha (fun k hk => by omega) (fun k hk => by omega)) (fun k hk => ?_) (fun k hk => ?_)
    · by_cases t : k = a
      · rw [t, tg_sn_s]
      · rw [tg_sn_o t]
    · by_cases t : k = a
      · rw [t, tg_sn_s]
      · rw [tg_sn_o t]
  | succ u ih =>
    intro i s2 s3 s4 s5 s6 s7 s8 s9 hi hai hp
    have hE : tg_ex N (tg_g C g) (tg_g C g) (a + 1) (tg_sn (fun k => k) a a) (tg_sn (fun k => k) a i) ↔ tg_E N (tg_g C g) a i :=
      tg_ex_E (fun k hk => tg_sn_o (by omega)) (fun k hk => tg_sn_o (by omega)) (tg_sn_s _ _ _) (tg_sn_s _ _ _)
    refine pk_le N i (fun z => absurd z (by omega)) (fun _ => tg_pinw (by omega) (tg_exi hN hg hg (by omega) hC (tg_pin_add hp ha (show i < N by omega) (fun k hk => by omega) (fun k hk => by omega)) (fun r r4 r5 r6 r7 r8 r9 h => ?_)))
    have next := ih (i + 1) (upd s2 a (nI a)) (upd s3 a (nI i)) r4 r5 r6 r7 r8 r9 (by omega) (by omega) (tg_pin_keep hp)
    rcases h with ⟨e, h⟩ | ⟨e, h⟩
    · rw [e]
      rw [tg_cnt_s, tg_b_t (hE.mp h)] at next
      exact br_f (by decide) (nm_r (nI_1 _) (nm_r (nI_pred a) (nm_r (nI_1 i) next)))
    · rw [e]
      rw [tg_cnt_s, tg_b_f (fun z => h (hE.mpr z)), Nat.add_zero] at next
      exact br_t rfl (nm_r (nI_pred a) (nm_r (nI_1 i) next))
theorem tg_cs10 {post : Int32 → St2 → Prop} {g : Nat} (hN : N ≤ 7) (hg : g ≤ 1) (hC : tg_col C a1)
    (H : ∀ (p : Int32) (s2 s3 s4 s5 : Nat → Int32) (s6 : Nat → Int64) (s7 s8 s9 : Nat → Int32), post (nI (tg_pr N (tg_g C g) N)) (nI N, nI g, nI g, p, be, hb, a1, s2, s3, s4, s5, s6, s7, s8, s9, a10, a11, a12, a13, a14)) :
    ∀ (u i : Nat) (s2 s3 s4 s5 : Nat → Int32) (s6 : Nat → Int64) (s7 s8 s9 : Nat → Int32), i + u = N → tg_pin N i (fun k => k) (fun k => k) s2 s3 →
      wX_countSymmetries_10 post (u + 1) (nI (tg_pr N (tg_g C g) i)) (nI i) (nI N) (nI g) (nI g) (nI i) be hb a1 s2 s3 s4 s5 s6 s7 s8 s9 a10 a11 a12 a13 a14 := by
  intro u
  induction u with
  | zero =>
    intro i s2 s3 s4 s5 s6 s7 s8 s9 hi hp
    have e : i = N := by omega
    rw [e]
    exact pk_le N N (fun _ => H _ s2 s3 s4 s5 s6 s7 s8 s9) (fun z => absurd z (by omega))
  | succ u ih =>
    intro i s2 s3 s4 s5 s6 s7 s8 s9 hi hp
    have h1 : nI (tg_cnt (tg_E N (tg_g C g) i) (i + 1)) = 1 := by
      rw [tg_E_1 (show i < N by omega)]
      rfl
    have inner := tg_cs26 (be := be) (hb := hb) (a10 := a10) (a11 := a11) (a12 := a12) (a13 := a13) (a14 := a14) (post := post) (J := wX_countSymmetries_10 post (u + 1)) (x2 := nI (tg_pr N (tg_g C g) i)) hN hg hC (show i < N by omega) (fun r2 r3 r4 r5 r6 r7 r8 r9 hp2 => by
      rw [pk_mul]
      exact ih (i + 1) r2 r3 r4 r5 r6 r7 r8 r9 (by omega) hp2) u (i + 1) s2 s3 s4 s5 s6 s7 s8 s9 (by omega) (by omega) hp
    rw [h1] at inner
    exact pk_le N i (fun z => absurd z (by omega)) (fun _ => nm_r (nI_1 i) ⟨u + 1, inner⟩)
theorem tg_cs {post : Int32 → St2 → Prop} {g : Nat} {u : St2} (hN : N ≤ 7) (hg : g ≤ 1) (hC : tg_col C a1) (hu : tg_is N a1 u) (H : ∀ u', tg_is N a1 u' → post (nI (tg_pr N (tg_g C g) N)) u') : wpX_countSymmetries post u (nI g) := by
  obtain ⟨fn_1, gx_1, gy_1, pn_1, be_1, hb_1, a1_1, a2_1, a3_1, a4_1, a5_1, a6_1, a7_1, a8_1, a9_1, a10_1, a11_1, a12_1, a13_1, a14_1⟩ := u
  obtain ⟨e1, e2⟩ := hu
  simp only at e1 e2
  rw [e1, e2]
  exact ⟨N + 1, tg_cs10 hN hg hC (fun p s2 s3 s4 s5 s6 s7 s8 s9 => H _ ⟨rfl, rfl⟩) N 0 _ _ _ _ _ _ _ _ (by omega) tg_pin_0⟩
theorem tg_sy {post : Int32 → St2 → Prop} {g : Nat} {u : St2} (hN : N ≤ 7) (hg : g ≤ 1) (hC : tg_col C a1) (hu : tg_is N a1 u) (H : ∀ u', tg_is N a1 u' → post (nI (tg_pr N (tg_g C g) N)) u') : wpX_symmetries post u (nI g) := by
  obtain ⟨fn_1, gx_1, gy_1, pn_1, be_1, hb_1, a1_1, a2_1, a3_1, a4_1, a5_1, a6_1, a7_1, a8_1, a9_1, a10_1, a11_1, a12_1, a13_1, a14_1⟩ := u
  refine br_f (nI_pos (by omega)) (br_t (nI_le (b := 1) hg (by decide)) (tg_cs hN hg hC hu (fun u' hu' => ?_)))
  obtain ⟨fn_2, gx_2, gy_2, pn_2, be_2, hb_2, a1_2, a2_2, a3_2, a4_2, a5_2, a6_2, a7_2, a8_2, a9_2, a10_2, a11_2, a12_2, a13_2, a14_2⟩ := u'
  exact H _ hu'
theorem tg_ly {post : Int32 → St2 → Prop} {u : St2} (hN : N ≤ 7) (hC : tg_col C a1) (hu : tg_is N a1 u)
    (H1 : (∃ s, tg_iso N (tg_g C 0) (tg_g C 1) s) → ∀ u', tg_is N a1 u' → post (nI (tg_pr N (tg_g C 0) N)) u')
    (H0 : (¬ ∃ s, tg_iso N (tg_g C 0) (tg_g C 1) s) → ∀ u', tg_is N a1 u' → post 0 u') : wpX_layings post u := by
  obtain ⟨fn_1, gx_1, gy_1, pn_1, be_1, hb_1, a1_1, a2_1, a3_1, a4_1, a5_1, a6_1, a7_1, a8_1, a9_1, a10_1, a11_1, a12_1, a13_1, a14_1⟩ := u
  obtain ⟨e1, e2⟩ := hu
  simp only at e1 e2
  rw [e1, e2]
  refine tg_exi (gX := 0) (gY := 1) (K := 0) (px := fun k => k) (py := fun k => k) hN (by omega) (by omega) (by omega) hC tg_pin_0 (fun r s4 s5 s6 s7 s8 s9 h => ?_)
  rcases h with ⟨e, h⟩ | ⟨e, h⟩
  · rw [e]
    refine br_f (by decide) (tg_cs (g := 0) hN (by omega) hC ⟨rfl, rfl⟩ (fun u' hu' => ?_))
    obtain ⟨fn_2, gx_2, gy_2, pn_2, be_2, hb_2, a1_2, a2_2, a3_2, a4_2, a5_2, a6_2, a7_2, a8_2, a9_2, a10_2, a11_2, a12_2, a13_2, a14_2⟩ := u'
    obtain ⟨s, hs, _⟩ := h
    exact H1 ⟨s, hs⟩ _ hu'
  · rw [e]
    exact br_t rfl (H0 (fun ⟨s, hs⟩ => h ⟨s, hs, fun k hk => absurd hk (by omega)⟩) _ ⟨rfl, rfl⟩)
theorem tg_ip {post : Int32 → Prop} {a : Nat} (hN : N ≤ 7) (ha : a < N) (H : post 1) : wpX_isPoint post (nI N, gx, gy, pn, be, hb, a1, a2, a3, a4, a5, a6, a7, a8, a9, a10, a11, a12, a13, a14) (nI a) :=
  br_f (nI_pos (by omega)) (pk_le N a (fun z => absurd z (by omega)) (fun _ => H))
theorem tg_ld23 {post : Int32 → St2 → Prop} {a : Nat} {f : Nat → Nat} (hN : N ≤ 7) (hC : tg_col C a1) (ha : a < N) (hf : tg_iso N (tg_g C 0) (tg_g C 1) f) (hl : tg_lx N (tg_g C 0) (tg_g C 1) f N)
    (H : ∀ u', tg_is N a1 u' → post (nI (f a)) u') :
    ∀ (u i : Nat) (x : Int32) (s2 s3 s4 s5 : Nat → Int32) (s6 : Nat → Int64) (s7 s8 s9 : Nat → Int32), i + u = a + 1 → (u = 0 → x = nI (f a)) → tg_pin N i (fun k => k) f s2 s3 →
      wX_laid_23 post (nI a) (u + 1) x 1 (nI i) (nI N) (nI 0) (nI 1) (nI i) be hb a1 s2 s3 s4 s5 s6 s7 s8 s9 a10 a11 a12 a13 a14 := by
  intro u
  induction u with
  | zero =>
    intro i x s2 s3 s4 s5 s6 s7 s8 s9 hi hx hp
    rw [hx rfl]
    exact pk_lt a i (fun _ => H _ ⟨rfl, rfl⟩) (fun z => absurd z (by omega))
  | succ u ih =>
    intro i x s2 s3 s4 s5 s6 s7 s8 s9 hi hx hp
    have hE : ∀ b, tg_ex N (tg_g C 0) (tg_g C 1) (i + 1) (tg_sn (fun k => k) i i) (tg_sn f i b) ↔ tg_exf N (tg_g C 0) (tg_g C 1) i f b := fun b =>
      tg_ex_exf (fun k hk => tg_sn_o (by omega)) (fun k hk => tg_sn_o (by omega)) (tg_sn_s _ _ _) (tg_sn_s _ _ _)
    have hli := hl i (by omega)
    refine pk_lt a i (fun z => absurd z (by omega)) (fun _ => br_f (by decide) (tg_lp (gX := 0) (gY := 1) hN (by omega) (by omega) hC (by omega) (show i < N by omega) (fun k hk => by omega) hp (fun b r2 r3 r4 r5 r6 r7 r8 r9 hb' hex hmin hp2 => ?_) (fun r2 r3 r4 r5 r6 r7 r8 r9 hno hp2 => absurd ((hE (f i)).mpr hli.1) (hno (f i) (hf.1.1 i (by omega))))))
    have hbf : b = f i := by
      rcases Nat.lt_trichotomy b (f i) with z | z | z
      · exact absurd ((hE b).mp hex) (hli.2 b z)
      · exact z
      · exact absurd ((hE (f i)).mpr hli.1) (hmin (f i) z)
    refine br_f (nI_pos (by omega)) (nm_r (nI_1 i) (ih (i + 1) (nI b) r2 r3 r4 r5 r6 r7 r8 r9 (by omega) (fun z => ?_) (tg_pin_ext hp2 (fun k hk => ?_) (fun k hk => ?_))))
    · rw [hbf, show i = a by omega]
    · by_cases t : k = i
      · rw [t, tg_sn_s]
      · rw [tg_sn_o t]
    · by_cases t : k = i
      · rw [t, tg_sn_s, hbf]
      · rw [tg_sn_o t]
theorem tg_ld {post : Int32 → St2 → Prop} {a : Nat} {f : Nat → Nat} {u : St2} (hN : N ≤ 7) (hC : tg_col C a1) (ha : a < N) (hf : tg_iso N (tg_g C 0) (tg_g C 1) f) (hl : tg_lx N (tg_g C 0) (tg_g C 1) f N) (hu : tg_is N a1 u)
    (H : ∀ u', tg_is N a1 u' → post (nI (f a)) u') : wpX_laid post u (nI a) := by
  obtain ⟨fn_1, gx_1, gy_1, pn_1, be_1, hb_1, a1_1, a2_1, a3_1, a4_1, a5_1, a6_1, a7_1, a8_1, a9_1, a10_1, a11_1, a12_1, a13_1, a14_1⟩ := u
  obtain ⟨e1, e2⟩ := hu
  simp only at e1 e2
  rw [e1, e2]
  unfold wpX_laid
  refine tg_ip hN ha (br_f (by decide) ?_)
  exact ⟨a + 1 + 1, tg_ld23 hN hC ha hf hl H (a + 1) 0 (-1) _ _ _ _ _ _ _ _ (by omega) (fun z => absurd z (by omega)) tg_pin_0⟩
theorem tg_ld0 {post : Int32 → St2 → Prop} {u : St2} (hN : N ≤ 7) (hN1 : 1 ≤ N) (hC : tg_col C a1) (hno : ¬ ∃ s, tg_iso N (tg_g C 0) (tg_g C 1) s) (hu : tg_is N a1 u)
    (H : ∀ u', tg_is N a1 u' → post (-1) u') : wpX_laid post u (nI 0) := by
  obtain ⟨fn_1, gx_1, gy_1, pn_1, be_1, hb_1, a1_1, a2_1, a3_1, a4_1, a5_1, a6_1, a7_1, a8_1, a9_1, a10_1, a11_1, a12_1, a13_1, a14_1⟩ := u
  obtain ⟨e1, e2⟩ := hu
  simp only at e1 e2
  rw [e1, e2]
  unfold wpX_laid
  refine tg_ip hN (show 0 < N by omega) (br_f (by decide) ⟨2, pk_lt 0 0 (fun z => absurd z (by omega)) (fun _ => br_f (by decide) (tg_lp (gX := 0) (gY := 1) (K := 0) (a := 0) (px := fun k => k) (py := fun k => k) hN (by omega) (by omega) hC (by omega) (by omega) (fun k hk => by omega) tg_pin_0 (fun b r2 r3 r4 r5 r6 r7 r8 r9 hb' hex hmin hp2 => ?_) (fun r2 r3 r4 r5 r6 r7 r8 r9 _ hp2 => ?_)))⟩)
  · obtain ⟨s, hs, _⟩ := hex
    exact absurd ⟨s, hs⟩ hno
  · exact br_t (by decide) (nm_r (nI_1 0) (pk_lt 0 1 (fun _ => H _ ⟨rfl, rfl⟩) (fun z => absurd z (by omega))))
end
end
section
/-! ===== lN n to 2^64: shifts, and, or, masks, one bit ===== -/
theorem wb_tb (n : Nat) : (lN n).toBitVec = BitVec.ofNat 64 n := rfl
theorem wb_inj {a b : Int64} (h : a.toBitVec = b.toBitVec) : a = b := Int64.toBitVec_inj.mp h
theorem wb_tn {n : Nat} (h : n < 2 ^ 64) : (lN n).toBitVec.toNat = n := by rw [wb_tb, BitVec.toNat_ofNat, Nat.mod_eq_of_lt h]
theorem wb_of (x : Int64) : ∃ n, n < 2 ^ 64 ∧ x = lN n := ⟨x.toBitVec.toNat, x.toBitVec.isLt, wb_inj (by rw [wb_tb]; simp)⟩
theorem wb_of32 (x : Int32) : ∃ n, n < 2 ^ 32 ∧ x = nI n := ⟨x.toBitVec.toNat, x.toBitVec.isLt, Int32.toBitVec_inj.mp (by show _ = BitVec.ofNat 32 _; simp)⟩
theorem wb_c : ∀ k, k < 64 → ((nI k).toInt64 &&& 63) = lN k := by decide +kernel
theorem wb_cu : ∀ k, k < 64 → ((nI k).toInt64.toUInt64 &&& Int64.toUInt64 63) = UInt64.ofNat k := by decide +kernel
theorem wb_sm : ∀ k, k < 64 → (BitVec.ofNat 64 k).smod 64 = BitVec.ofNat 64 k := by decide +kernel
theorem wb_pw {a b : Nat} (h : a ≤ b) : 2 ^ b = 2 ^ a * 2 ^ (b - a) := by rw [← Nat.pow_add]; congr 1; omega
theorem wb_lt2 {a b : Nat} (h : a < b) : 2 ^ a < 2 ^ b := Nat.pow_lt_pow_right (by decide) h
theorem wb_mod (n : Nat) : lN n = lN (n % 2 ^ 64) := wb_inj (by rw [wb_tb, wb_tb]; apply BitVec.eq_of_toNat_eq; rw [BitVec.toNat_ofNat, BitVec.toNat_ofNat, Nat.mod_mod])
theorem wb_shr {n k : Nat} (hn : n < 2 ^ 64) (hk : k < 64) : ((lN n).toUInt64 >>> ((nI k).toInt64.toUInt64 &&& Int64.toUInt64 63)).toInt64 = lN (n / 2 ^ k) := by
  rw [wb_cu k hk]
  apply wb_inj
  apply BitVec.eq_of_toNat_eq
  show ((lN n).toUInt64 >>> UInt64.ofNat k).toNat = (BitVec.ofNat 64 _).toNat
  have h1 : (UInt64.ofNat k).toNat = k := by
    show (BitVec.ofNat 64 k).toNat = k
    rw [BitVec.toNat_ofNat, Nat.mod_eq_of_lt (by omega)]
  have h2 : (lN n).toUInt64.toNat = n := wb_tn hn
  rw [UInt64.toNat_shiftRight, h1, h2, Nat.mod_eq_of_lt hk, Nat.shiftRight_eq_div_pow, BitVec.toNat_ofNat, Nat.mod_eq_of_lt (Nat.lt_of_le_of_lt (Nat.div_le_self _ _) hn)]
theorem wb_shl (n : Nat) {k : Nat} (hk : k < 64) : lN n <<< ((nI k).toInt64 &&& 63) = lN (n * 2 ^ k) := by
  rw [wb_c k hk]
  apply wb_inj
  rw [Int64.toBitVec_shiftLeft, wb_tb, wb_tb, wb_tb, wb_sm k hk]
  apply BitVec.eq_of_toNat_eq
  rw [BitVec.shiftLeft_eq', BitVec.toNat_shiftLeft, BitVec.toNat_ofNat, BitVec.toNat_ofNat, BitVec.toNat_ofNat, Nat.mod_eq_of_lt (show k < 2 ^ 64 by omega), Nat.shiftLeft_eq, Nat.mul_mod, Nat.mod_mod, ← Nat.mul_mod]
theorem wb_and {a b : Nat} (ha : a < 2 ^ 64) (hb : b < 2 ^ 64) : lN a &&& lN b = lN (a &&& b) := by
  apply wb_inj
  rw [Int64.toBitVec_and, wb_tb, wb_tb, wb_tb]
  apply BitVec.eq_of_toNat_eq
  rw [BitVec.toNat_and, BitVec.toNat_ofNat, BitVec.toNat_ofNat, BitVec.toNat_ofNat, Nat.mod_eq_of_lt ha, Nat.mod_eq_of_lt hb, Nat.mod_eq_of_lt (Nat.and_lt_two_pow _ hb)]
theorem wb_or {a b : Nat} (ha : a < 2 ^ 64) (hb : b < 2 ^ 64) : lN a ||| lN b = lN (a ||| b) := by
  apply wb_inj
  rw [Int64.toBitVec_or, wb_tb, wb_tb, wb_tb]
  apply BitVec.eq_of_toNat_eq
  rw [BitVec.toNat_or, BitVec.toNat_ofNat, BitVec.toNat_ofNat, BitVec.toNat_ofNat, Nat.mod_eq_of_lt ha, Nat.mod_eq_of_lt hb, Nat.mod_eq_of_lt (Nat.or_lt_two_pow ha hb)]
theorem wb_mask {n k : Nat} (hn : n < 2 ^ 64) (hk : k < 64) : lN n &&& lN (2 ^ k - 1) = lN (n % 2 ^ k) := by
  rw [wb_and hn (by have := wb_lt2 hk; omega), Nat.and_two_pow_sub_one_eq_mod]
theorem wb_a1 {n : Nat} (hn : n < 2 ^ 64) : lN n &&& 1 = lN (n % 2) := wb_mask (k := 1) hn (by decide)
theorem wb_bit {n k : Nat} (hn : n < 2 ^ 64) (hk : k < 64) : ((lN n).toUInt64 >>> ((nI k).toInt64.toUInt64 &&& Int64.toUInt64 63)).toInt64 &&& 1 = lN (n / 2 ^ k % 2) := by
  rw [wb_shr hn hk, wb_a1 (Nat.lt_of_le_of_lt (Nat.div_le_self _ _) hn)]
theorem wb_xor {q k : Nat} (hk : k < 63) (h : 2 ^ k ≤ q) (h2 : q < 2 ^ (k + 1)) : lN q ^^^ lN (2 ^ k) = lN (q - 2 ^ k) := by
  obtain ⟨r, rfl⟩ : ∃ r, q = 2 ^ k + r := ⟨q - 2 ^ k, by omega⟩
  have hr : r < 2 ^ k := by rw [Nat.pow_succ] at h2; omega
  have hx : (2 ^ k + r) ^^^ 2 ^ k = r := by
    apply Nat.eq_of_testBit_eq
    intro i
    rw [Nat.testBit_xor, Nat.testBit_two_pow]
    rcases Nat.lt_trichotomy i k with h | h | h
    · rw [Nat.testBit_two_pow_add_gt h]
      simp [show ¬ k = i by omega]
    · subst h
      rw [Nat.testBit_two_pow_add_eq]
      simp
    · have a1 : 2 ^ (k + 1) ≤ 2 ^ i := Nat.pow_le_pow_right (by decide) h
      rw [Nat.testBit_lt_two_pow (show 2 ^ k + r < 2 ^ i by omega), Nat.testBit_lt_two_pow (show r < 2 ^ i by omega)]
      simp [show ¬ k = i by omega]
  have b1 := wb_lt2 (show k + 1 < 64 by omega)
  have b2 := wb_lt2 (show k < 64 by omega)
  apply wb_inj
  rw [Int64.toBitVec_xor, wb_tb, wb_tb, wb_tb]
  apply BitVec.eq_of_toNat_eq
  rw [BitVec.toNat_xor, BitVec.toNat_ofNat, BitVec.toNat_ofNat, BitVec.toNat_ofNat, Nat.mod_eq_of_lt (by omega : 2 ^ k + r < 2 ^ 64), Nat.mod_eq_of_lt b2, hx, Nat.add_sub_cancel_left, Nat.mod_eq_of_lt (by omega)]
/-! ===== lN: masks, 'or' of parts that don't overlap is a sum ===== -/
theorem u_tn {n : Nat} (h : n < 2 ^ 64) : (UInt64.ofNat n).toNat = n := Nat.mod_eq_of_lt h
theorem g_and {a b c : Nat} (ha : a < 2 ^ 64) (hb : b < 2 ^ 64) (hc : a &&& b = c) : lN a &&& lN b = lN c := by
  subst hc
  have h : UInt64.ofNat a &&& UInt64.ofNat b = UInt64.ofNat (a &&& b) := UInt64.toNat_inj.mp (by rw [UInt64.toNat_and, u_tn ha, u_tn hb, u_tn (Nat.and_lt_two_pow a hb)])
  have h2 := congrArg UInt64.toInt64 h
  exact h2
theorem g_and1 {a : Nat} (ha : a < 2 ^ 64) : lN a &&& 1 = lN (a % 2) := g_and (b := 1) ha (by decide) (Nat.and_two_pow_sub_one_eq_mod a 1)
theorem g_mask {a s p : Nat} (hp : 2 ^ s = p) (hs : s < 64) (ha : a < 2 ^ 64) : lN a &&& lN (p - 1) = lN (a % p) := by
  subst hp
  have := Nat.pow_lt_pow_right (show 1 < 2 by decide) hs
  exact g_and ha (by omega) (Nat.and_two_pow_sub_one_eq_mod a s)
theorem g_or {k p a b : Nat} (hp : 2 ^ k = p) (ha : a < p) (h : b * p + a < 2 ^ 64) : lN (b * p) ||| lN a = lN (b * p + a) := by
  subst hp
  have h1 : b * 2 ^ k ||| a = b * 2 ^ k + a := by rw [← Nat.shiftLeft_eq, Nat.shiftLeft_add_eq_or_of_lt ha]
  have h3 : UInt64.ofNat (b * 2 ^ k) ||| UInt64.ofNat a = UInt64.ofNat (b * 2 ^ k + a) := UInt64.toNat_inj.mp (by rw [UInt64.toNat_or, u_tn (by omega), u_tn (by omega), u_tn h, h1])
  have h2 := congrArg UInt64.toInt64 h3
  exact h2
theorem g_or' {k p a b : Nat} (hp : 2 ^ k = p) (ha : a < p) (h : a + b * p < 2 ^ 64) : lN a ||| lN (b * p) = lN (a + b * p) := by
  rw [Int64.or_comm, g_or hp ha (by omega), Nat.add_comm]
theorem g_ushr {a k p : Nat} {y : UInt64} (hy : y = UInt64.ofNat k) (hk : k < 64) (hp : 2 ^ k = p) (ha : a < 2 ^ 64) : ((lN a).toUInt64 >>> y).toInt64 = lN (a / p) := by
  subst hy hp
  have h : UInt64.ofNat a >>> UInt64.ofNat k = UInt64.ofNat (a / 2 ^ k) := UInt64.toNat_inj.mp (by rw [UInt64.toNat_shiftRight, u_tn ha, u_tn (by omega), u_tn (Nat.lt_of_le_of_lt (Nat.div_le_self _ _) ha), Nat.mod_eq_of_lt hk, Nat.shiftRight_eq_div_pow])
  have h2 := congrArg UInt64.toInt64 h
  exact h2
theorem g_shl {a k p : Nat} {y : Int64} (hy : y.toBitVec.smod 64 = BitVec.ofNat 64 k) (hk : k < 64) (hp : 2 ^ k = p) (ha : a < 2 ^ 64) : lN a <<< y = lN (a * p) := by
  subst hp
  apply Int64.toBitVec_inj.mp
  rw [Int64.toBitVec_shiftLeft, hy]
  apply BitVec.eq_of_toNat_eq
  have hb : (lN a).toBitVec.toNat = a := Nat.mod_eq_of_lt ha
  have hk' : (BitVec.ofNat 64 k).toNat = k := Nat.mod_eq_of_lt (by omega)
  have h : ((lN a).toBitVec <<< BitVec.ofNat 64 k).toNat = (a * 2 ^ k) % 2 ^ 64 := by simp only [BitVec.shiftLeft_eq', BitVec.toNat_shiftLeft, hb, hk', Nat.shiftLeft_eq]
  exact h
end
section
/-! isPlaced, rowOf, enterForm, interchangeable, covered, nextCandidate -/
def tg_cov (N : Nat) (A : Nat → Nat → Nat) (p : Nat → Nat) (d v : Nat) : Prop := ∃ s, tg_iso N A A s ∧ (∀ k, k < d → s (p k) = p k) ∧ s v < v
def tg_fr (p : Nat → Nat) (d v : Nat) : Prop := ∀ k, k < d → p k ≠ v
def tg_pl (N d : Nat) (p : Nat → Nat) (a10 : Nat → Int32) : Prop := (∀ k, k < d → a10 k = nI (p k) ∧ p k < N) ∧ ∀ i k, i < d → k < d → p i = p k → i = k
theorem tg_rowbd {N d v gX : Nat} {C p : Nat → Nat} {a1 a10 : Nat → Int32} (hN : N ≤ 7) (hX : gX ≤ 1) (hC : tg_col C a1) (hd : d ≤ 7) (hv : v < N) (hp : tg_pl N d p a10) : tg_row (tg_g C gX) p d v < 2 ^ 16 := by
  have h1 := tg_row_lt (d := d) (tg_col4 hC hX hN) hv (fun j hj => (hp.1 j hj).2)
  have h2 : 2 ^ (2 * (d + 1)) ≤ 2 ^ 16 := Nat.pow_le_pow_right (by decide) (by omega)
  omega
section
variable {fn gx gy pn : Int32} {be : Int64} {hb : Int32} {a1 a2 a3 a4 a5 : Nat → Int32} {a6 : Nat → Int64} {a7 a8 a9 a10 a11 : Nat → Int32} {a12 a13 : Nat → Int64} {a14 : Nat → Int32} {N gX gY K : Nat} {C px py : Nat → Nat} {d : Nat} {p : Nat → Nat}
theorem tg_ipl {post : Int32 → Prop} {v : Nat} (hN : N ≤ 7) (hd : d ≤ 7) (hv : v < N) (hp : tg_pl N d p a10) (H1 : ¬ tg_fr p d v → post 1) (H0 : tg_fr p d v → post 0) : wpX_isPlaced post (fn, gx, gy, pn, be, hb, a1, a2, a3, a4, a5, a6, a7, a8, a9, a10, a11, a12, a13, a14) (nI d) (nI v) := by
  have main : ∃ k, wX_isPlaced_2 post (nI d) (nI v) fn gx gy pn be hb a1 a2 a3 a4 a5 a6 a7 a8 a9 a10 a11 a12 a13 a14 k 0 :=
    pk_loop (σ := Unit) (fun k i _ => wX_isPlaced_2 post (nI d) (nI v) fn gx gy pn be hb a1 a2 a3 a4 a5 a6 a7 a8 a9 a10 a11 a12 a13 a14 k (nI i)) (fun i _ => ∀ k, k < i → p k ≠ v) d 0 () (by omega) (fun u hu => absurd hu (by omega))
      (fun k _ h => pk_le d d (fun _ => H0 h) (fun z => absurd z (by omega)))
      (fun k i _ hi h hw => pk_le d i (fun z => absurd z (by omega)) (fun _ => ⟨vp_in_nI (by omega) (by omega), by
        have h3 := hp.1 i hi
        rw [nI_clamp (show i < 2 ^ 31 by omega), h3.1]
        exact pk_eq (p i) v (fun e => H1 (fun z => z i hi e)) (fun e => nm_r (nI_1 i) (hw () (fun u hu => by
          by_cases t : u = i
          · rw [t]
            exact e
          · exact h u (by omega))))⟩))
  exact main
theorem tg_ro {post : Int64 → Prop} {v : Nat} (hN : N ≤ 7) (hX : gX ≤ 1) (hC : tg_col C a1) (hd : d ≤ 7) (hv : v < N) (hp : tg_pl N d p a10) (H : post (lN (tg_row (tg_g C gX) p d v))) : wpX_rowOf post (fn, nI gX, gy, pn, be, hb, a1, a2, a3, a4, a5, a6, a7, a8, a9, a10, a11, a12, a13, a14) (nI d) (nI v) := by
  have st : ∀ (r c : Nat), c < 4 → (4 : Int64) * lN r + (nI c).toInt64 = lN (4 * r + c) := by
    intro r c hc
    rw [nI_l (by omega), show (4 : Int64) = lN 4 from rfl, lN_mul, lN_add]
  have main : ∃ k, wX_rowOf_5 post (nI d) (nI v) fn (nI gX) gy pn be hb a1 a2 a3 a4 a5 a6 a7 a8 a9 a10 a11 a12 a13 a14 k 0 0 :=
    pk_loop (σ := Unit) (fun k i _ => wX_rowOf_5 post (nI d) (nI v) fn (nI gX) gy pn be hb a1 a2 a3 a4 a5 a6 a7 a8 a9 a10 a11 a12 a13 a14 k (lN (tg_rw (tg_g C gX) p v i)) (nI i)) (fun _ _ => True) d 0 () (by omega) trivial
      (fun k _ _ => pk_le d d (fun _ => tg_shX hX (by omega) (by omega) hC (by
        rw [st _ _ (tg_col4 hC hX hN v v hv hv)]
        exact H)) (fun z => absurd z (by omega)))
      (fun k i _ hi _ hw => pk_le d i (fun z => absurd z (by omega)) (fun _ => ⟨vp_in_nI (by omega) (by omega), by
        have h3 := hp.1 i hi
        rw [nI_clamp (show i < 2 ^ 31 by omega), h3.1]
        exact tg_shX hX (by omega) (by omega) hC (nm_r (st _ _ (tg_col4 hC hX hN v (p i) hv h3.2)) (nm_r (nI_1 i) (hw () trivial)))⟩))
  exact main
theorem tg_ef {post : St2 → Prop} (hN : N ≤ 7) (hX : gX ≤ 1) (hC : tg_col C a1) (hd : d < N) (hp : tg_pl N d p a10)
    (H : ∀ l v0, v0 < N → tg_fr p d v0 → tg_row (tg_g C gX) p d v0 = l → (∀ v, v < N → tg_fr p d v → l ≤ tg_row (tg_g C gX) p d v) → l < 2 ^ 16 → post (nI N, nI gX, gy, pn, be, hb, a1, a2, a3, a4, a5, a6, a7, a8, a9, a10, upd a11 d (nI 0), a12, vp_updL a13 d (lN l), a14)) :
    wpX_enterForm post (nI N, nI gX, gy, pn, be, hb, a1, a2, a3, a4, a5, a6, a7, a8, a9, a10, a11, a12, a13, a14) (nI d) := by
  have hun : ∃ v, v < N ∧ tg_fr p d v := by
    apply Classical.byContradiction
    intro hn
    have hsurj : (List.range N).length ≤ ((List.range d).map p).length := by
      refine List.Nodup.length_le_of_subset List.nodup_range (fun x hx => ?_)
      apply Classical.byContradiction
      intro hm
      exact hn ⟨x, List.mem_range.mp hx, fun k hk e => hm (List.mem_map.mpr ⟨k, List.mem_range.mpr hk, e⟩)⟩
    rw [List.length_range, List.length_map, List.length_range] at hsurj
    omega
  have hneg : (-1 : Int64) < 0 := by decide
  have hpos : ∀ l, l < 2 ^ 16 → ¬ lN l < (0 : Int64) := by
    intro l hl z
    have z2 : lN l < lN 0 := z
    rw [pk_lLT (by omega) (by omega)] at z2
    omega
  have bd : ∀ v, v < N → tg_row (tg_g C gX) p d v < 2 ^ 16 := fun v hv => tg_rowbd hN hX hC (by omega) hv hp
  have main : ∀ b11 : Nat → Int32, b11 = upd a11 d (nI 0) → ∃ k, wX_enterForm_14 post (nI d) (nI N) (nI gX) gy pn be hb a1 a2 a3 a4 a5 a6 a7 a8 a9 a10 b11 a12 a13 a14 k (-1) 0 := fun b11 e11 =>
    pk_loop (fun k i (s : Int64) => wX_enterForm_14 post (nI d) (nI N) (nI gX) gy pn be hb a1 a2 a3 a4 a5 a6 a7 a8 a9 a10 b11 a12 a13 a14 k s (nI i)) (fun i s => (s = -1 ∧ ∀ v, v < i → ¬ tg_fr p d v) ∨ ∃ l v0, s = lN l ∧ v0 < i ∧ tg_fr p d v0 ∧ tg_row (tg_g C gX) p d v0 = l ∧ ∀ v, v < i → tg_fr p d v → l ≤ tg_row (tg_g C gX) p d v) N 0 (-1) (by omega)
      (Or.inl ⟨rfl, fun v hv => absurd hv (by omega)⟩)
      (fun k s h => pk_le N N (fun _ => ⟨vp_in_nI (by omega) (by omega), by
        rcases h with ⟨_, h⟩ | ⟨l, v0, h1, h2, h3, h4, h5⟩
        · obtain ⟨v, hv, hf⟩ := hun
          exact absurd hf (h v hv)
        · have := bd v0 h2
          refine nm_r (e' := vp_updL a13 d (lN l)) (by rw [nI_clamp (by omega), h1]) ?_
          rw [e11]
          exact H l v0 h2 h3 h4 h5 (by omega)⟩) (fun z => absurd z (by omega)))
      (fun k i s hi h hw => pk_le N i (fun z => absurd z (by omega)) (fun _ => tg_ipl hN (by omega) hi hp
        (fun g => br_f (by decide) (nm_r (nI_1 i) (hw s (by
          rcases h with ⟨h1, h⟩ | ⟨l, v0, h1, h2, h3, h4, h5⟩
          · refine Or.inl ⟨h1, fun v hv => ?_⟩
            by_cases t : v = i
            · rw [t]
              exact g
            · exact h v (by omega)
          · refine Or.inr ⟨l, v0, h1, by omega, h3, h4, fun v hv hf => ?_⟩
            by_cases t : v = i
            · rw [t] at hf
              exact absurd hf g
            · exact h5 v (by omega) hf))))
        (fun g => br_t rfl (tg_ro hN hX hC (by omega) hi hp (by
          have hbi := bd i hi
          rcases h with ⟨h1, h⟩ | ⟨l, v0, h1, h2, h3, h4, h5⟩
          · rw [h1]
            refine br_t hneg (nm_r (nI_1 i) (hw _ (Or.inr ⟨tg_row (tg_g C gX) p d i, i, rfl, by omega, g, rfl, fun v hv hf => ?_⟩)))
            by_cases t : v = i
            · rw [t]
              exact Nat.le_refl _
            · exact absurd hf (h v (by omega))
          · have hl := bd v0 (by omega)
            rw [h4] at hl
            rw [h1]
            refine br_f (hpos l hl) (ek_if (pk_lLE (by omega) (by omega)) (fun z => nm_r (nI_1 i) (hw _ (Or.inr ⟨l, v0, rfl, by omega, h3, h4, fun v hv hf => ?_⟩))) (fun z => nm_r (nI_1 i) (hw _ (Or.inr ⟨tg_row (tg_g C gX) p d i, i, rfl, by omega, g, rfl, fun v hv hf => ?_⟩))))
            · by_cases t : v = i
              · rw [t]
                exact z
              · exact h5 v (by omega) hf
            · by_cases t : v = i
              · rw [t]
                exact Nat.le_refl _
              · have := h5 v (by omega) hf
                omega)))))
  exact ⟨vp_in_nI (by omega) (by omega), fun b11 e11 => main b11 (by rw [e11, nI_clamp (by omega)]; rfl)⟩
theorem tg_ic {post : Int32 → Prop} {u v : Nat} (hN : N ≤ 7) (hX : gX ≤ 1) (hC : tg_col C a1) (hu : u < N) (hv : v < N) (H1 : tg_g C gX u u = tg_g C gX v v → (∀ w, w < N → w ≠ u → w ≠ v → tg_g C gX u w = tg_g C gX v w) → post 1) (H0 : post 0) : wpX_interchangeable post (nI N, nI gX, gy, pn, be, hb, a1, a2, a3, a4, a5, a6, a7, a8, a9, a10, a11, a12, a13, a14) (nI u) (nI v) := by
  have c1 := tg_col4 hC hX hN u u hu hu
  have c2 := tg_col4 hC hX hN v v hv hv
  have main : tg_g C gX u u = tg_g C gX v v → ∃ k, wX_interchangeable_19 post (nI u) (nI v) (nI N) (nI gX) gy pn be hb a1 a2 a3 a4 a5 a6 a7 a8 a9 a10 a11 a12 a13 a14 k 0 := fun e =>
    pk_loop (σ := Unit) (fun k i _ => wX_interchangeable_19 post (nI u) (nI v) (nI N) (nI gX) gy pn be hb a1 a2 a3 a4 a5 a6 a7 a8 a9 a10 a11 a12 a13 a14 k (nI i)) (fun i _ => ∀ w, w < i → w ≠ u → w ≠ v → tg_g C gX u w = tg_g C gX v w) N 0 () (by omega) (fun w hw => absurd hw (by omega))
      (fun k _ h => pk_le N N (fun _ => H1 e h) (fun z => absurd z (by omega)))
      (fun k i _ hi h hw => pk_le N i (fun z => absurd z (by omega)) (fun _ => pk_eq i u (fun e1 => nm_r (nI_1 i) (hw () (fun w hw2 n1 n2 => h w (by omega) n1 n2))) (fun e1 => pk_eq i v (fun e2 => nm_r (nI_1 i) (hw () (fun w hw2 n1 n2 => h w (by omega) n1 n2)))
        (fun e2 => tg_shX hX (by omega) (by omega) hC (tg_shX hX (by omega) (by omega) hC (by
          have c3 := tg_col4 hC hX hN u i hu hi
          have c4 := tg_col4 hC hX hN v i hv hi
          exact pk_eq (tg_g C gX u i) (tg_g C gX v i) (fun e3 => nm_r (nI_1 i) (hw () (fun w hw2 n1 n2 => by
            by_cases t : w = i
            · rw [t]
              exact e3
            · exact h w (by omega) n1 n2))) (fun _ => H0)))))))
  unfold wpX_interchangeable
  exact tg_shX hX (by omega) (by omega) hC (tg_shX hX (by omega) (by omega) hC (pk_eq (tg_g C gX u u) (tg_g C gX v v) (fun e => main e) (fun _ => H0)))
theorem tg_cv {post : Int32 → Prop} {v : Nat} {ob : Nat → Nat} (hN : N ≤ 7) (hX : gX ≤ 1) (hC : tg_col C a1) (hd : d ≤ 7) (hv : v < N) (hp : tg_pl N d p a10) (hfr : tg_fr p d v) (sA : ∀ x y, x < N → y < N → tg_g C gX x y = tg_g C gX y x)
    (h14 : ∀ w, w < N → a14 w = nI (ob w) ∧ ob w < N ∧ ∃ s, tg_iso N (tg_g C gX) (tg_g C gX) s ∧ s w = ob w) (H1 : tg_cov N (tg_g C gX) p d v → post 1) (H0 : post 0) : wpX_covered post (nI N, nI gX, gy, pn, be, hb, a1, a2, a3, a4, a5, a6, a7, a8, a9, a10, a11, a12, a13, a14) (nI d) (nI v) := by
  have main : 0 < d → ∃ k, wX_covered_22 post (nI d) (nI v) (nI N) (nI gX) gy pn be hb a1 a2 a3 a4 a5 a6 a7 a8 a9 a10 a11 a12 a13 a14 k 0 := fun h0 =>
    pk_loop (σ := Unit) (fun k i _ => wX_covered_22 post (nI d) (nI v) (nI N) (nI gX) gy pn be hb a1 a2 a3 a4 a5 a6 a7 a8 a9 a10 a11 a12 a13 a14 k (nI i)) (fun _ _ => True) v 0 () (by omega) trivial
      (fun k _ _ => pk_le v v (fun _ => H0) (fun z => absurd z (by omega)))
      (fun k i _ hi _ hw => pk_le v i (fun z => absurd z (by omega)) (fun _ => tg_ipl hN hd (show i < N by omega) hp (fun _ => br_f (by decide) (nm_r (nI_1 i) (hw () trivial)))
        (fun g => br_t rfl (tg_ic hN hX hC (show i < N by omega) hv (fun e1 e2 => br_f (by decide) (H1 ⟨tg_sw i v, tg_sw_iso sA (show i < N by omega) hv e1 e2, fun k hk => tg_sw_o (g k hk) (hfr k hk), by rw [tg_sw_r]; exact hi⟩)) (br_t rfl (nm_r (nI_1 i) (hw () trivial)))))))
  have h := h14 v hv
  refine pk_eq d 0 (fun e => ⟨vp_in_nI (by omega) (by omega), ?_⟩) (fun e => main (by omega))
  rw [nI_clamp (show v < 2 ^ 31 by omega), h.1]
  refine pk_le v (ob v) (fun _ => H0) (fun z => H1 ?_)
  obtain ⟨s, hs, es⟩ := h.2.2
  exact ⟨s, hs, fun k hk => absurd hk (by omega), by omega⟩
theorem tg_nc {post : Int32 → Prop} {ob : Nat → Nat} {j l : Nat} (hN : N ≤ 7) (hX : gX ≤ 1) (hC : tg_col C a1) (hd : d ≤ 7) (hp : tg_pl N d p a10) (sA : ∀ x y, x < N → y < N → tg_g C gX x y = tg_g C gX y x)
    (h14 : ∀ w, w < N → a14 w = nI (ob w) ∧ ob w < N ∧ ∃ s, tg_iso N (tg_g C gX) (tg_g C gX) s ∧ s w = ob w) (h11 : a11 d = nI j) (hj : j ≤ N) (h13 : a13 d = lN l) (hl : l < 2 ^ 16)
    (H1 : ∀ v, j ≤ v → v < N → tg_fr p d v → tg_row (tg_g C gX) p d v = l → (∀ w, j ≤ w → w < v → tg_fr p d w → tg_row (tg_g C gX) p d w = l → tg_cov N (tg_g C gX) p d w) → post (nI v))
    (H0 : (∀ w, j ≤ w → w < N → tg_fr p d w → tg_row (tg_g C gX) p d w = l → tg_cov N (tg_g C gX) p d w) → post (-1)) : wpX_nextCandidate post (nI N, nI gX, gy, pn, be, hb, a1, a2, a3, a4, a5, a6, a7, a8, a9, a10, a11, a12, a13, a14) (nI d) := by
  have main : ∃ k, wX_nextCandidate_7 post (nI d) (nI N) (nI gX) gy pn be hb a1 a2 a3 a4 a5 a6 a7 a8 a9 a10 a11 a12 a13 a14 k (nI j) :=
    pk_loop (σ := Unit) (fun k i _ => wX_nextCandidate_7 post (nI d) (nI N) (nI gX) gy pn be hb a1 a2 a3 a4 a5 a6 a7 a8 a9 a10 a11 a12 a13 a14 k (nI i)) (fun i _ => j ≤ i ∧ ∀ w, j ≤ w → w < i → tg_fr p d w → tg_row (tg_g C gX) p d w = l → tg_cov N (tg_g C gX) p d w) N j () hj ⟨Nat.le_refl j, fun w h1 h2 => absurd h1 (by omega)⟩
      (fun k _ h => pk_le N N (fun _ => H0 h.2) (fun z => absurd z (by omega)))
      (fun k i _ hi h hw => by
        have hbi := tg_rowbd hN hX hC hd hi hp
        have more : (tg_fr p d i → tg_row (tg_g C gX) p d i = l → tg_cov N (tg_g C gX) p d i) → wX_nextCandidate_7 post (nI d) (nI N) (nI gX) gy pn be hb a1 a2 a3 a4 a5 a6 a7 a8 a9 a10 a11 a12 a13 a14 k (nI (i + 1)) := fun hc => hw () ⟨by omega, fun w h1 h2 h3 h4 => by
          by_cases t : w = i
          · rw [t] at h3 h4 ⊢
            exact hc h3 h4
          · exact h.2 w h1 (by omega) h3 h4⟩
        refine pk_le N i (fun z => absurd z (by omega)) (fun _ => tg_ipl hN hd hi hp (fun g => br_f (by decide) (nm_r (nI_1 i) (more (fun z => absurd z g)))) (fun g => br_t rfl (tg_ro hN hX hC hd hi hp ⟨vp_in_nI (by omega) (by omega), ?_⟩)))
        rw [nI_clamp (show d < 2 ^ 31 by omega), h13]
        exact ek_if (pk_lEQ (by omega) (by omega)) (fun e => tg_cv hN hX hC hd hi hp g sA h14 (fun hc => br_f (by decide) (nm_r (nI_1 i) (more (fun _ _ => hc)))) (br_t rfl (H1 i h.1 hi g e h.2))) (fun e => nm_r (nI_1 i) (more (fun _ z => absurd z e))))
  exact ⟨vp_in_nI (by omega) (by omega), nm_r (e' := nI j) (by rw [nI_clamp (by omega), h11]) main⟩
end
end
section
/-! goOn, searchForm, leastForm -/
def tg_bst (M : Option Nat) (hb : Int32) (be : Int64) : Prop := (M = none ∧ hb = 0) ∨ ∃ m, M = some m ∧ hb = 1 ∧ be = lN m ∧ m < 2 ^ 56
def tg_vl (N : Nat) (A : Nat → Nat → Nat) (M : Option Nat) : Prop := ∀ m, M = some m → ∃ q, tg_perm N q ∧ tg_word A q N = m
def tg_TF : Nat → Nat
  | 0 => 1
  | k + 1 => 1 + (k + 1) * (1 + tg_TF k)
theorem tg_w56 {N e gX : Nat} {C p : Nat → Nat} {a1 a10 : Nat → Int32} (hN : N ≤ 7) (hX : gX ≤ 1) (hC : tg_col C a1) (he : e ≤ N) (hp : tg_pl N e p a10) : tg_word (tg_g C gX) p e < 2 ^ 56 := by
  have h1 := tg_word_lt (tg_col4 hC hX hN) e (fun j hj => (hp.1 j hj).2)
  have h3 : e * (e + 1) ≤ 7 * 8 := Nat.mul_le_mul (by omega) (by omega)
  have h2 : 2 ^ (e * (e + 1)) ≤ 2 ^ 56 := Nat.pow_le_pow_right (by decide) h3
  omega
theorem tg_pl_add {N d v : Nat} {p : Nat → Nat} {a10 : Nat → Int32} (hp : tg_pl N d p a10) (hv : v < N) (hf : tg_fr p d v) : tg_pl N (d + 1) (tg_sn p d v) (upd a10 d (nI v)) := by
  refine ⟨fun k hk => ?_, tg_inj_add hp.2 hf⟩
  by_cases t : k = d
  · rw [t, tg_sn_s, pk_us]
    exact ⟨rfl, hv⟩
  · rw [tg_sn_o t, pk_un t]
    exact hp.1 k (by omega)
theorem tg_wshl {d w l : Nat} (hd : d < 7) (hl : l < 2 ^ (2 * (d + 1))) (hb' : w * 2 ^ (2 * (d + 1)) + l < 2 ^ 56) : (lN w <<< (((2 : Int32) * nI (d + 1)).toInt64 &&& 63)) ||| lN l = lN (w * 2 ^ (2 * (d + 1)) + l) := by
  rw [show (2 : Int32) = nI 2 from rfl, pk_mul, wb_shl w (show 2 * (d + 1) < 64 by omega), g_or (k := 2 * (d + 1)) rfl hl (by omega)]
theorem tg_cnt_free {N d : Nat} {p : Nat → Nat} {a10 : Nat → Int32} (hp : tg_pl N d p a10) : tg_cnt (fun v => 0 ≤ v ∧ tg_fr p d v) N + d ≤ N := by
  have h := tg_cnt_left (n := N) (p := p) d (fun k hk => (hp.1 k hk).2) hp.2
  have e : tg_cnt (fun v => 0 ≤ v ∧ tg_fr p d v) N = tg_cnt (fun v => ∀ k, k < d → p k ≠ v) N := tg_cnt_congr (fun v _ => ⟨fun z => z.2, fun z => ⟨Nat.zero_le v, z⟩⟩)
  omega
section
variable {fn gx gy pn : Int32} {be : Int64} {hb : Int32} {a1 a2 a3 a4 a5 : Nat → Int32} {a6 : Nat → Int64} {a7 a8 a9 a10 a11 : Nat → Int32} {a12 a13 : Nat → Int64} {a14 : Nat → Int32} {N gX gY K : Nat} {C px py : Nat → Nat} {d : Nat} {p : Nat → Nat}
theorem tg_go {post : Int32 → St2 → Prop} {W : Nat} {M : Option Nat} (hN : N ≤ 7) (hX : gX ≤ 1) (hC : tg_col C a1) (hd : d < N) (hp : tg_pl N (d + 1) p a10) (hM : tg_bst M hb be) (h12 : a12 (d + 1) = lN W) (hW : W < 2 ^ 56)
    (H1 : d + 1 = N → ∀ (M' : Option Nat) (h' : Int32) (e' : Int64), tg_bst M' h' e' → (M' = M ∨ M' = some W) → tg_ge M' W → (∀ x, tg_ge M x → tg_ge M' x) → post (nI d) (nI N, nI gX, gy, pn, e', h', a1, a2, a3, a4, a5, a6, a7, a8, a9, a10, a11, a12, a13, a14))
    (H2 : d + 1 < N → ∀ m, M = some m → m / 2 ^ (N * (N + 1) - (d + 1) * (d + 1 + 1)) < W → post (nI d) (nI N, nI gX, gy, pn, be, hb, a1, a2, a3, a4, a5, a6, a7, a8, a9, a10, a11, a12, a13, a14))
    (H3 : d + 1 < N → ∀ l v0, v0 < N → tg_fr p (d + 1) v0 → tg_row (tg_g C gX) p (d + 1) v0 = l → (∀ v, v < N → tg_fr p (d + 1) v → l ≤ tg_row (tg_g C gX) p (d + 1) v) → l < 2 ^ 16 → post (nI (d + 1)) (nI N, nI gX, gy, pn, be, hb, a1, a2, a3, a4, a5, a6, a7, a8, a9, a10, upd a11 (d + 1) (nI 0), a12, vp_updL a13 (d + 1) (lN l), a14)) :
    wpX_goOn post (nI N, nI gX, gy, pn, be, hb, a1, a2, a3, a4, a5, a6, a7, a8, a9, a10, a11, a12, a13, a14) (nI (d + 1)) := by
  refine pk_eq (d + 1) N (fun e => ?_) (fun e => ?_)
  · have h12' : a12 (nI N).toNatClampNeg = lN W := by rw [nI_clamp (by omega), ← e, h12]
    have full : (∀ x, tg_ge M x → tg_ge (some W) x) → wX_goOn_32 post (nI (d + 1)) (nI N) (nI gX) gy pn be hb a1 a2 a3 a4 a5 a6 a7 a8 a9 a10 a11 a12 a13 a14 := by
      intro hx
      refine ⟨vp_in_nI (by omega) (by omega), nm_r h12' ?_⟩
      rw [nI_pred]
      exact H1 e (some W) 1 (lN W) (Or.inr ⟨W, rfl, rfl, rfl, hW⟩) (Or.inr rfl) ⟨W, rfl, Nat.le_refl W⟩ hx
    rcases hM with ⟨h1, h2⟩ | ⟨m, h1, h2, h3, h4⟩
    · refine br_t h2 (full (fun x ⟨m, hm, _⟩ => ?_))
      rw [h1] at hm
      exact absurd hm.symm (Option.some_ne_none m)
    · refine br_f (by rw [h2]; decide) ⟨vp_in_nI (by omega) (by omega), ?_⟩
      rw [h12', h3]
      refine ek_if (pk_lLE (by omega) (by omega)) (fun z => ?_) (fun z => ?_)
      · rw [nI_pred, ← h3]
        exact H1 e M hb be (Or.inr ⟨m, h1, h2, h3, h4⟩) (Or.inl rfl) ⟨m, h1, z⟩ (fun _ hx => hx)
      · rw [← h3]
        refine full (fun x ⟨m', hm, hle⟩ => ⟨W, rfl, ?_⟩)
        rw [h1] at hm
        have : m = m' := Option.some.inj hm
        omega
  · have hlt : d + 1 < N := by omega
    have hle : (d + 1) * (d + 1 + 1) ≤ N * (N + 1) := Nat.mul_le_mul (by omega) (by omega)
    have hle2 : N * (N + 1) ≤ 7 * 8 := Nat.mul_le_mul (by omega) (by omega)
    have er : nI N * (nI N + 1) - nI (d + 1) * (nI (d + 1) + 1) = nI (N * (N + 1) - (d + 1) * (d + 1 + 1)) := by
      rw [nI_1, nI_1, pk_mul, pk_mul, pk_sub hle]
    have deep : wX_goOn_99 post (nI (d + 1)) (nI N) (nI gX) gy pn be hb a1 a2 a3 a4 a5 a6 a7 a8 a9 a10 a11 a12 a13 a14 := by
      unfold wX_goOn_99
      exact tg_ef (d := d + 1) (p := p) hN hX hC hlt hp (fun l v0 g1 g2 g3 g4 g5 => H3 hlt l v0 g1 g2 g3 g4 g5)
    refine nm_r er ?_
    rcases hM with ⟨h1, h2⟩ | ⟨m, h1, h2, h3, h4⟩
    · exact br_t h2 deep
    · refine br_f (by rw [h2]; decide) ⟨vp_in_nI (by omega) (by omega), ?_⟩
      have hdiv : m / 2 ^ (N * (N + 1) - (d + 1) * (d + 1 + 1)) ≤ m := Nat.div_le_self _ _
      have es : (be.toUInt64 >>> ((nI (N * (N + 1) - (d + 1) * (d + 1 + 1))).toInt64.toUInt64 &&& Int64.toUInt64 63)).toInt64 = lN (m / 2 ^ (N * (N + 1) - (d + 1) * (d + 1 + 1))) := by
        rw [h3]
        exact wb_shr (by omega) (by omega)
      rw [es, nI_clamp (show d + 1 < 2 ^ 31 by omega), h12]
      refine ek_if (pk_lLE (by omega) (by omega)) (fun _ => deep) (fun z => ?_)
      rw [nI_pred]
      exact H2 hlt m h1 (by omega)
theorem tg_fE {post : St2 → Prop} {ob : Nat → Nat} (hN : N ≤ 7) (hX : gX ≤ 1) (hC : tg_col C a1) (sA : ∀ x y, x < N → y < N → tg_g C gX x y = tg_g C gX y x)
    (h14 : ∀ w, w < N → a14 w = nI (ob w) ∧ ob w < N ∧ ∃ s, tg_iso N (tg_g C gX) (tg_g C gX) s ∧ s w = ob w) :
    ∀ (kk d : Nat) (p : Nat → Nat) (l v0 : Nat), d + (kk + 1) = N → v0 < N → tg_fr p d v0 → tg_row (tg_g C gX) p d v0 = l → (∀ v, v < N → tg_fr p d v → l ≤ tg_row (tg_g C gX) p d v) → l < 2 ^ 16 →
    ∀ (u j t f : Nat) (M : Option Nat) (ee : Int64) (hh : Int32) (b10 b11 : Nat → Int32) (b12 b13 : Nat → Int64), N ≤ j + u → j ≤ N → tg_pl N d p b10 → b11 d = nI j → b12 d = lN (tg_word (tg_g C gX) p d) → b13 d = lN l → tg_bst M hh ee → tg_vl N (tg_g C gX) M →
      (∀ q, tg_perm N q → (∀ k, k < d → q k = p k) → tg_row (tg_g C gX) p d (q d) = l → ¬ tg_cov N (tg_g C gX) p d (q d) → q d < j → tg_ge M (tg_word (tg_g C gX) q N)) →
      t + 1 + tg_cnt (fun v => j ≤ v ∧ tg_fr p d v) N * (1 + tg_TF kk) ≤ 60000 → f + t = 60001 →
      (∀ (t' f' : Nat) (M' : Option Nat) (e' : Int64) (h' : Int32) (s10 s11 : Nat → Int32) (s12 s13 : Nat → Int64), t' ≤ t + 1 + tg_cnt (fun v => j ≤ v ∧ tg_fr p d v) N * (1 + tg_TF kk) → f' + t' = 60001 → tg_bst M' h' e' → tg_vl N (tg_g C gX) M' → (∀ x, tg_ge M x → tg_ge M' x) →
        (∀ q, tg_perm N q → (∀ k, k < d → q k = p k) → tg_ge M' (tg_word (tg_g C gX) q N)) → (∀ i, i < d → s10 i = b10 i) → (∀ i, i < d → s11 i = b11 i) → (∀ i, i ≤ d → s12 i = b12 i) → (∀ i, i < d → s13 i = b13 i) →
        wX_searchForm_16 post f' (nI d + (-1)) (nI t') (nI N) (nI gX) gy pn e' h' a1 a2 a3 a4 a5 a6 a7 a8 a9 s10 s11 s12 s13 a14) →
      wX_searchForm_16 post f (nI d) (nI t) (nI N) (nI gX) gy pn ee hh a1 a2 a3 a4 a5 a6 a7 a8 a9 b10 b11 b12 b13 a14 := by
  intro kk
  induction kk using Nat.strongRecOn with
  | ind kk IH =>
    intro d p l v0 hdk hv0 hfr0 hr0 hleast hl16 u
    induction u using Nat.strongRecOn with
    | ind u ihu =>
      intro j t f M ee hh b10 b11 b12 b13 hu hj hp h11 h12 h13 hM hV hDone ht hf H
      obtain ⟨f', rfl⟩ : ∃ f', f = f' + 1 := ⟨f - 1, by omega⟩
      refine pk_le 60000 t (fun z => absurd z (by omega)) (fun _ => br_f (nI_pos (by omega)) (tg_nc (p := p) (ob := ob) (j := j) (l := l) hN hX hC (by omega) hp sA h14 h11 hj h13 hl16 (fun v hjv hvN hfv hrv hcv => br_t (nI_pos' (by omega)) ?_) (fun hcv => br_f (by decide) (nm_e (nm_r (nI_1 t) (H (t + 1) f' M ee hh b10 b11 b12 b13 (by omega) (by omega) hM hV (fun _ z => z) ?_ (fun _ _ => rfl) (fun _ _ => rfl) (fun _ _ => rfl) (fun _ _ => rfl)))))))
      · have hW := tg_w56 (e := d + 1) hN hX hC (by omega) (tg_pl_add hp hvN hfv)
        have eW : tg_word (tg_g C gX) (tg_sn p d v) (d + 1) = tg_word (tg_g C gX) p d * 2 ^ (2 * (d + 1)) + l := by
          rw [tg_word_s, tg_sn_s, tg_word_congr d (q := p) (fun k hk => tg_sn_o (by omega)), tg_row_congr (q := p) (fun k hk => tg_sn_o (by omega)), hrv]
        have hlt2 : l < 2 ^ (2 * (d + 1)) := by
          rw [← hrv]
          exact tg_row_lt (tg_col4 hC hX hN) hvN (fun k hk => (hp.1 k hk).2)
        have e12 : (b12 d <<< (((2 : Int32) * nI (d + 1)).toInt64 &&& 63)) ||| b13 d = lN (tg_word (tg_g C gX) (tg_sn p d v) (d + 1)) := by
          rw [h12, h13, eW]
          rw [eW] at hW
          exact tg_wshl (by omega) hlt2 hW
        have hcnt : tg_cnt (fun w => v + 1 ≤ w ∧ tg_fr p d w) N < tg_cnt (fun w => j ≤ w ∧ tg_fr p d w) N := tg_cnt_lt (x := v) (fun w _ z => ⟨by omega, z.2⟩) hvN (fun z => by omega) ⟨hjv, hfv⟩
        have done' : ∀ M' : Option Nat, (∀ x, tg_ge M x → tg_ge M' x) → (∀ q, tg_perm N q → (∀ k, k < d + 1 → q k = tg_sn p d v k) → tg_ge M' (tg_word (tg_g C gX) q N)) →
            ∀ q, tg_perm N q → (∀ k, k < d → q k = p k) → tg_row (tg_g C gX) p d (q d) = l → ¬ tg_cov N (tg_g C gX) p d (q d) → q d < v + 1 → tg_ge M' (tg_word (tg_g C gX) q N) := by
          intro M' hmono hsub q hq hag hrow hnc hlt
          by_cases e : q d = v
          · refine hsub q hq (fun k hk => ?_)
            by_cases t2 : k = d
            · rw [t2, tg_sn_s]
              exact e
            · rw [tg_sn_o t2]
              exact hag k (by omega)
          · by_cases e2 : q d < j
            · exact hmono _ (hDone q hq hag hrow hnc e2)
            · refine absurd (hcv (q d) (by omega) (by omega) (fun k hk z => ?_) hrow) hnc
              rw [← hag k hk] at z
              have := hq.2 k d (by omega) (by omega) z
              omega
        rw [nI_1 d, nI_1 v, nI_clamp (show d < 2 ^ 31 by omega), nI_clamp (show d + 1 < 2 ^ 31 by omega), e12]
        refine ⟨vp_in_nI (by omega) (by omega), nm_e ⟨vp_in_nI (by omega) (by omega), nm_e ⟨vp_in_nI (by omega) (by omega), vp_in_nI (by omega) (by omega), vp_in_nI (by omega) (by omega), nm_e (tg_go (p := tg_sn p d v) (M := M) hN hX hC (by omega) (tg_pl_add hp hvN hfv) hM pk_uLs hW (fun e M' h' e' hM' hor hge hmono => nm_r (nI_1 t) ?_) (fun hlt m hm hdiv => nm_r (nI_1 t) ?_) (fun hlt l' v0' g1 g2 g3 g4 g5 => nm_r (nI_1 t) ?_))⟩⟩⟩
        · have hb2 := tg_mulstep (X := 1 + tg_TF kk) (a := t + 1) (b := t + 1 + 1) hcnt (by omega) ht
          have hsub : ∀ q, tg_perm N q → (∀ k, k < d + 1 → q k = tg_sn p d v k) → tg_ge M' (tg_word (tg_g C gX) q N) := by
            intro q hq hag
            rw [← e, tg_word_congr (d + 1) hag]
            exact hge
          refine ihu (u - 1) (by omega) (v + 1) (t + 1) f' M' e' h' _ _ _ _ (by omega) (by omega) ⟨fun k hk => ?_, hp.2⟩ pk_us ?_ h13 hM' ?_ (done' M' hmono hsub) (by omega) (by omega) (fun t3 f3 M3 e3 h3 r10 r11 r12 r13 k1 k2 k3 k4 k5 k6 k7 k8 k9 k10 => H t3 f3 M3 e3 h3 r10 r11 r12 r13 (by omega) k2 k3 k4 (fun x z => k5 x (hmono x z)) k6 (fun i hi => ?_) (fun i hi => ?_) (fun i hi => ?_) k10)
          · rw [pk_un (by omega)]
            exact hp.1 k hk
          · rw [pk_uLn (by omega)]
            exact h12
          · intro m hm
            rcases hor with z | z
            · rw [z] at hm
              exact hV m hm
            · rw [z] at hm
              have hpl := tg_pl_add hp hvN hfv
              refine ⟨tg_sn p d v, ⟨fun x hx => (hpl.1 x (by omega)).2, fun x y hx hy z2 => hpl.2 x y (by omega) (by omega) z2⟩, ?_⟩
              rw [← e]
              exact Option.some.inj hm
          · rw [k7 i hi, pk_un (by omega)]
          · rw [k8 i hi, pk_un (by omega)]
          · rw [k9 i hi, pk_uLn (by omega)]
        · have hb2 := tg_mulstep (X := 1 + tg_TF kk) (a := t + 1) (b := t + 1 + 1) hcnt (by omega) ht
          have hsub : ∀ q, tg_perm N q → (∀ k, k < d + 1 → q k = tg_sn p d v k) → tg_ge M (tg_word (tg_g C gX) q N) := by
            intro q hq hag
            refine ⟨m, hm, ?_⟩
            have hlow := tg_word_low (A := tg_g C gX) (q := q) (d := d + 1) (N - (d + 1))
            rw [show d + 1 + (N - (d + 1)) = N by omega, tg_word_congr (d + 1) hag] at hlow
            have h5 := (Nat.div_lt_iff_lt_mul (Nat.two_pow_pos (N * (N + 1) - (d + 1) * (d + 1 + 1)))).mp hdiv
            omega
          refine ihu (u - 1) (by omega) (v + 1) (t + 1) f' M ee hh _ _ _ _ (by omega) (by omega) ⟨fun k hk => ?_, hp.2⟩ pk_us ?_ h13 hM hV (done' M (fun _ z => z) hsub) (by omega) (by omega) (fun t3 f3 M3 e3 h3 r10 r11 r12 r13 k1 k2 k3 k4 k5 k6 k7 k8 k9 k10 => H t3 f3 M3 e3 h3 r10 r11 r12 r13 (by omega) k2 k3 k4 k5 k6 (fun i hi => ?_) (fun i hi => ?_) (fun i hi => ?_) k10)
          · rw [pk_un (by omega)]
            exact hp.1 k hk
          · rw [pk_uLn (by omega)]
            exact h12
          · rw [k7 i hi, pk_un (by omega)]
          · rw [k8 i hi, pk_un (by omega)]
          · rw [k9 i hi, pk_uLn (by omega)]
        · obtain ⟨kk', rfl⟩ : ∃ kk', kk = kk' + 1 := ⟨kk - 1, by omega⟩
          have hTF : tg_TF (kk' + 1) = 1 + (kk' + 1) * (1 + tg_TF kk') := rfl
          have hfree := tg_cnt_free (tg_pl_add hp hvN hfv)
          have hr : tg_cnt (fun w => 0 ≤ w ∧ tg_fr (tg_sn p d v) (d + 1) w) N * (1 + tg_TF kk') ≤ (kk' + 1) * (1 + tg_TF kk') := Nat.mul_le_mul_right _ (by omega)
          have hb1 := tg_mulstep (X := 1 + tg_TF (kk' + 1)) (a := t + 1) (b := t + 1 + 1 + tg_TF (kk' + 1)) hcnt (by omega) ht
          refine IH kk' (by omega) (d + 1) (tg_sn p d v) l' v0' (by omega) g1 g2 g3 g4 g5 N 0 (t + 1) f' M ee hh _ _ _ _ (by omega) (by omega) (tg_pl_add hp hvN hfv) pk_us pk_uLs pk_uLs hM hV (fun q _ _ _ _ z => absurd z (by omega)) (by omega) (by omega) (fun t3 f3 M3 e3 h3 r10 r11 r12 r13 k1 k2 k3 k4 k5 k6 k7 k8 k9 k10 => ?_)
          rw [pk_m1]
          have hb2 := tg_mulstep (X := 1 + tg_TF (kk' + 1)) (a := t + 1) (b := t3 + 1) hcnt (by omega) ht
          refine ihu (u - 1) (by omega) (v + 1) t3 f3 M3 e3 h3 r10 r11 r12 r13 (by omega) (by omega) ⟨fun k hk => ?_, hp.2⟩ ?_ ?_ ?_ k3 k4 (done' M3 k5 k6) (by omega) k2 (fun t4 f4 M4 e4 h4 q10 q11 q12 q13 m1 m2 m3 m4 m5 m6 m7 m8 m9 m10 => H t4 f4 M4 e4 h4 q10 q11 q12 q13 (by omega) m2 m3 m4 (fun x z => m5 x (k5 x z)) m6 (fun i hi => ?_) (fun i hi => ?_) (fun i hi => ?_) (fun i hi => ?_))
          · rw [k7 k (by omega), pk_un (by omega)]
            exact hp.1 k hk
          · rw [k8 d (by omega), pk_un (by omega), pk_us]
          · rw [k9 d (by omega), pk_uLn (by omega)]
            exact h12
          · rw [k10 d (by omega), pk_uLn (by omega)]
            exact h13
          · rw [m7 i hi, k7 i (by omega), pk_un (by omega)]
          · rw [m8 i hi, k8 i (by omega), pk_un (by omega), pk_un (by omega)]
          · rw [m9 i hi, k9 i (by omega), pk_uLn (by omega)]
          · rw [m10 i hi, k10 i (by omega), pk_uLn (by omega)]
      · refine tg_cover (tg_col4 hC hX hN) (by omega) (cov := tg_cov N (tg_g C gX) p d) (fun v _ _ hc => hc) v0 hv0 hfr0 hr0 hleast (fun q hq hag hrow hnc => ?_)
        by_cases e2 : q d < j
        · exact hDone q hq hag hrow hnc e2
        · refine absurd (hcv (q d) (by omega) (hq.1 d (by omega)) (fun k hk z => ?_) hrow) hnc
          rw [← hag k hk] at z
          have := hq.2 k d (by omega) (by omega) z
          omega
theorem tg_sf {post : St2 → Prop} {ob : Nat → Nat} (hN : N ≤ 7) (hN1 : 1 ≤ N) (hX : gX ≤ 1) (hC : tg_col C a1) (sA : ∀ x y, x < N → y < N → tg_g C gX x y = tg_g C gX y x)
    (h14 : ∀ w, w < N → a14 w = nI (ob w) ∧ ob w < N ∧ ∃ s, tg_iso N (tg_g C gX) (tg_g C gX) s ∧ s w = ob w)
    (H : ∀ (m : Nat) (h' : Int32) (s10 s11 : Nat → Int32) (s12 s13 : Nat → Int64), tg_min (tg_g C gX) N m → m < 2 ^ 56 → post (nI N, nI gX, gy, pn, lN m, h', a1, a2, a3, a4, a5, a6, a7, a8, a9, s10, s11, s12, s13, a14)) :
    wpX_searchForm post (nI N, nI gX, gy, pn, be, 0, a1, a2, a3, a4, a5, a6, a7, a8, a9, a10, a11, a12, a13, a14) := by
  have hTT : ∀ n, n < 8 → 1 + n * (1 + tg_TF (n - 1)) ≤ 59999 := by decide
  have hT := hTT N (by omega)
  have hp0 : tg_pl N 0 (fun _ => 0) a10 := ⟨fun k hk => absurd hk (by omega), fun i k hi => absurd hi (by omega)⟩
  have hcn := Nat.mul_le_mul_right (1 + tg_TF (N - 1)) (tg_cnt_le (fun v => 0 ≤ v ∧ tg_fr (fun _ => 0) 0 v) N)
  unfold wpX_searchForm
  refine nm_e (tg_ef (d := 0) (p := fun _ => 0) hN hX hC (by omega) hp0 (fun l v0 g1 g2 g3 g4 g5 => ⟨60001, ?_⟩))
  refine tg_fE (ob := ob) hN hX hC sA h14 (N - 1) 0 (fun _ => 0) l v0 (by omega) g1 g2 g3 g4 g5 N 0 0 60001 none be 0 _ _ _ _ (by omega) (by omega) hp0 pk_us pk_uLs pk_uLs (Or.inl ⟨rfl, rfl⟩) (fun m hm => absurd hm.symm (Option.some_ne_none m)) (fun q _ _ _ _ z => absurd z (by omega)) (by omega) (by omega) (fun t' f' M' e' h' s10 s11 s12 s13 k1 k2 k3 k4 k5 k6 k7 k8 k9 k10 => ?_)
  obtain ⟨f'', rfl⟩ : ∃ f'', f' = f'' + 1 := ⟨f' - 1, by omega⟩
  refine pk_le 60000 t' (fun z => absurd z (by omega)) (fun _ => br_t (by decide) ?_)
  obtain ⟨m, hm, hle⟩ := k6 (fun v => v) ⟨fun _ h => h, fun _ _ _ _ e => e⟩ (fun k hk => absurd hk (by omega))
  rcases k3 with ⟨z, _⟩ | ⟨m', z1, z2, z3, z4⟩
  · rw [z] at hm
    exact absurd hm.symm (Option.some_ne_none m)
  · rw [z3]
    refine H m' h' s10 s11 s12 s13 ⟨k4 m' z1, fun q hq => ?_⟩ z4
    obtain ⟨m2, hm2, hle2⟩ := k6 q hq (fun k hk => absurd hk (by omega))
    rw [z1] at hm2
    rw [Option.some.inj hm2]
    exact hle2
theorem tg_lf21 {post : Int64 → St2 → Prop} {g : Nat} (hN : N ≤ 7) (hN1 : 1 ≤ N) (hg : g ≤ 1) (hC : tg_col C a1) (sA : ∀ x y, x < N → y < N → tg_g C g x y = tg_g C g y x)
    (H : ∀ (m : Nat) (u' : St2), tg_min (tg_g C g) N m → m < 2 ^ 56 → tg_is N a1 u' → post (lN m) u') :
    ∀ (u i : Nat) (pp : Int32) (s2 s3 s4 s5 : Nat → Int32) (s6 : Nat → Int64) (s7 s8 s9 s14 : Nat → Int32), i + u = N → (∀ w, w < i → ∃ b, s14 w = nI b ∧ b < N ∧ ∃ s, tg_iso N (tg_g C g) (tg_g C g) s ∧ s w = b) →
      wX_leastForm_21 post (u + 1) (nI i) (nI N) (nI g) (nI g) pp be hb a1 s2 s3 s4 s5 s6 s7 s8 s9 a10 a11 a12 a13 s14 := by
  intro u
  induction u with
  | zero =>
    intro i pp s2 s3 s4 s5 s6 s7 s8 s9 s14 hi h
    have hch : ∀ w : Nat, ∃ b : Nat, w < N → s14 w = nI b ∧ b < N ∧ ∃ s, tg_iso N (tg_g C g) (tg_g C g) s ∧ s w = b := by
      intro w
      by_cases hw : w < N
      · obtain ⟨b, h1⟩ := h w (by omega)
        exact ⟨b, fun _ => h1⟩
      · exact ⟨0, fun z => absurd z hw⟩
    obtain ⟨ob, hob⟩ := Classical.skolem.mp hch
    exact pk_le N i (fun _ => tg_sf (ob := ob) hN hN1 hg hC sA hob (fun m h' s10 s11 s12 s13 k1 k2 => H m _ k1 k2 ⟨rfl, rfl⟩)) (fun z => absurd z (by omega))
  | succ u ih =>
    intro i pp s2 s3 s4 s5 s6 s7 s8 s9 s14 hi h
    refine pk_le N i (fun z => absurd z (by omega)) (fun _ => th_lp (gX := g) (gY := g) (K := 0) (a := i) (px := fun k => k) (py := fun k => k) hN hg hg hC (by omega) (by omega) (fun k hk => absurd hk (by omega)) tg_pin_0 (fun b r2 r3 r4 r5 r6 r7 r8 r9 hb' hex hmin hp2 => ?_) (fun r2 r3 r4 r5 r6 r7 r8 r9 hno hp2 => ?_))
    · refine ⟨vp_in_nI (by omega) (by omega), nm_r (e' := upd s14 i (nI b)) (by rw [nI_clamp (by omega)]) (nm_r (nI_1 i) (ih (i + 1) _ r2 r3 r4 r5 r6 r7 r8 r9 _ (by omega) (fun w hw => ?_)))⟩
      by_cases t : w = i
      · obtain ⟨s, hs, hps⟩ := hex
        have hps0 := hps 0 (by omega)
        rw [tg_sn_s, tg_sn_s] at hps0
        rw [t, pk_us]
        exact ⟨b, rfl, hb', s, hs, hps0⟩
      · rw [pk_un t]
        exact h w (by omega)
    · refine absurd ⟨fun v => v, tg_iso_id N (tg_g C g), fun k hk => ?_⟩ (hno i (by omega))
      rw [show k = 0 by omega, tg_sn_s]
theorem tg_lf {post : Int64 → St2 → Prop} {g : Nat} {u : St2} (hN : N ≤ 7) (hN1 : 1 ≤ N) (hg : g ≤ 1) (hC : tg_col C a1) (sA : ∀ x y, x < N → y < N → tg_g C g x y = tg_g C g y x) (hu : tg_is N a1 u)
    (H : ∀ (m : Nat) (u' : St2), tg_min (tg_g C g) N m → m < 2 ^ 56 → tg_is N a1 u' → post (lN m) u') : wpX_leastForm post u (nI g) := by
  obtain ⟨fn_1, gx_1, gy_1, pn_1, be_1, hb_1, a1_1, a2_1, a3_1, a4_1, a5_1, a6_1, a7_1, a8_1, a9_1, a10_1, a11_1, a12_1, a13_1, a14_1⟩ := u
  obtain ⟨e1, e2⟩ := hu
  simp only at e1 e2
  rw [e1, e2]
  exact br_f (nI_pos (by omega)) (br_t (nI_le (b := 1) hg (by decide)) ⟨N + 1, tg_lf21 hN hN1 hg hC sA H N 0 _ _ _ _ _ _ _ _ _ _ (by omega) (fun w hw => absurd hw (by omega))⟩)
end
end
section
/-! fits, colour, carried, holds -/
def tg_sym (N : Nat) (C : Nat → Nat) : Prop := ∀ g, g ≤ 1 → ∀ x y, x < N → y < N → tg_g C g x y = tg_g C g y x
theorem tg_ixg (g u v : Nat) : (49 : Int32) * nI g + 7 * nI u + nI v = nI (49 * g + 7 * u + v) := by
  rw [show (49 : Int32) = nI 49 from rfl, show (7 : Int32) = nI 7 from rfl, pk_mul, pk_mul, nI_add, nI_add]
section
variable {fn gx gy pn : Int32} {be : Int64} {hb : Int32} {a1 a2 a3 a4 a5 : Nat → Int32} {a6 : Nat → Int64} {a7 a8 a9 a10 a11 : Nat → Int32} {a12 a13 : Nat → Int64} {a14 : Nat → Int32} {N gX gY K : Nat} {C px py : Nat → Nat}
theorem tg_fi {post : Int32 → Prop} {g a b : Nat} (hN : N ≤ 7) (hg : g ≤ 1) (ha : a < N) (hb' : b < N) (H : post 1) : wpX_fits post (nI N, gx, gy, pn, be, hb, a1, a2, a3, a4, a5, a6, a7, a8, a9, a10, a11, a12, a13, a14) (nI g) (nI a) (nI b) := by
  unfold wpX_fits
  exact br_f (nI_pos (by omega)) (br_f (nI_nlt (b := g) (a := 1) hg (by omega)) (tg_ip hN ha (br_f (by decide) (tg_ip hN hb' (br_f (by decide) H)))))
theorem tg_cl {post : Int32 → Prop} {g a b : Nat} (hN : N ≤ 7) (hC : tg_col C a1) (hg : g ≤ 1) (ha : a < N) (hb' : b < N) (H : post (nI (tg_g C g a b))) : wpX_colour post (nI N, gx, gy, pn, be, hb, a1, a2, a3, a4, a5, a6, a7, a8, a9, a10, a11, a12, a13, a14) (nI g) (nI a) (nI b) := by
  unfold wpX_colour
  refine tg_fi hN hg ha hb' (br_f (by decide) ?_)
  rw [tg_ixg, nI_clamp (show 49 * g + 7 * a + b < 2 ^ 31 by omega), (hC _ (by omega)).1]
  exact ⟨vp_in_nI (by omega) (by omega), H⟩
theorem tg_ca16 {post : Int32 → St2 → Prop} {J : Int32 → Int32 → Int32 → Int32 → Int32 → Int64 → Int32 → (Nat → Int32) → (Nat → Int32) → (Nat → Int32) → (Nat → Int32) → (Nat → Int32) → (Nat → Int64) → (Nat → Int32) → (Nat → Int32) → (Nat → Int32) → (Nat → Int32) → (Nat → Int32) → (Nat → Int64) → (Nat → Int64) → (Nat → Int32) → Prop} {a : Nat} {f : Nat → Nat} (hN : N ≤ 7) (hC : tg_col C a1) (ha : a < N) (hf : tg_iso N (tg_g C 0) (tg_g C 1) f) (hl : tg_lx N (tg_g C 0) (tg_g C 1) f N)
    (H : ∀ (gx gy pn : Int32) (be : Int64) (hb : Int32) (a2 a3 a4 a5 : Nat → Int32) (a6 : Nat → Int64) (a7 a8 a9 a10 a11 : Nat → Int32) (a12 a13 : Nat → Int64) (a14 : Nat → Int32), J (nI (a + 1)) (nI N) gx gy pn be hb a1 a2 a3 a4 a5 a6 a7 a8 a9 a10 a11 a12 a13 a14) :
    ∀ (u i : Nat) (gx gy pn : Int32) (be : Int64) (hb : Int32) (a2 a3 a4 a5 : Nat → Int32) (a6 : Nat → Int64) (a7 a8 a9 a10 a11 : Nat → Int32) (a12 a13 : Nat → Int64) (a14 : Nat → Int32), i + u = N → wL_carried_16 post J (nI N) (nI a) (nI (f a)) (u + 1) (nI i) (nI N) gx gy pn be hb a1 a2 a3 a4 a5 a6 a7 a8 a9 a10 a11 a12 a13 a14 := by
  intro u
  induction u with
  | zero =>
    intro i gx gy pn be hb a2 a3 a4 a5 a6 a7 a8 a9 a10 a11 a12 a13 a14 hi
    exact pk_le N i (fun _ => nm_r (nI_1 a) (H _ _ _ _ _ _ _ _ _ _ _ _ _ _ _ _ _ _)) (fun z => absurd z (by omega))
  | succ u ih =>
    intro i gx gy pn be hb a2 a3 a4 a5 a6 a7 a8 a9 a10 a11 a12 a13 a14 hi
    refine pk_le N i (fun z => absurd z (by omega)) (fun _ => tg_ld (a := i) hN hC (by omega) hf hl ⟨rfl, rfl⟩ (fun u' hu' => ?_))
    obtain ⟨fn_2, gx_2, gy_2, pn_2, be_2, hb_2, a1_2, a2_2, a3_2, a4_2, a5_2, a6_2, a7_2, a8_2, a9_2, a10_2, a11_2, a12_2, a13_2, a14_2⟩ := u'
    obtain ⟨e1, e2⟩ := hu'
    simp only at e1 e2
    rw [e1, e2]
    have hfa := hf.1.1 a ha
    have hfi := hf.1.1 i (by omega)
    have c1 := tg_col4 hC (show 0 ≤ 1 by omega) hN a i ha (show i < N by omega)
    have c2 := tg_col4 hC (show 1 ≤ 1 by omega) hN (f a) (f i) hfa hfi
    refine tg_cl (g := 0) hN hC (by omega) ha (by omega) (tg_cl (g := 1) hN hC (by omega) hfa hfi (pk_eq (tg_g C 0 a i) (tg_g C 1 (f a) (f i)) (fun _ => pk_eq a i (fun _ => nm_r (nI_1 i) (ih (i + 1) _ _ _ _ _ _ _ _ _ _ _ _ _ _ _ _ _ _ (by omega))) (fun hne => pk_eq (f a) (f i) (fun e => absurd (hf.1.2 a i ha (by omega) e) hne) (fun _ => nm_r (nI_1 i) (ih (i + 1) _ _ _ _ _ _ _ _ _ _ _ _ _ _ _ _ _ _ (by omega))))) (fun e => absurd (hf.2 a i ha (by omega)) e)))
theorem tg_ca2 {post : Int32 → St2 → Prop} {f : Nat → Nat} (hN : N ≤ 7) (hC : tg_col C a1) (hf : tg_iso N (tg_g C 0) (tg_g C 1) f) (hl : tg_lx N (tg_g C 0) (tg_g C 1) f N)
    (H : ∀ u', tg_is N a1 u' → post 1 u') : ∀ (u i : Nat) (gx gy pn : Int32) (be : Int64) (hb : Int32) (a2 a3 a4 a5 : Nat → Int32) (a6 : Nat → Int64) (a7 a8 a9 a10 a11 : Nat → Int32) (a12 a13 : Nat → Int64) (a14 : Nat → Int32), i + u = N → wL_carried_2 post (nI N) (u + 1) (nI i) (nI N) gx gy pn be hb a1 a2 a3 a4 a5 a6 a7 a8 a9 a10 a11 a12 a13 a14 := by
  intro u
  induction u with
  | zero =>
    intro i gx gy pn be hb a2 a3 a4 a5 a6 a7 a8 a9 a10 a11 a12 a13 a14 hi
    exact pk_le N i (fun _ => H _ ⟨rfl, rfl⟩) (fun z => absurd z (by omega))
  | succ u ih =>
    intro i gx gy pn be hb a2 a3 a4 a5 a6 a7 a8 a9 a10 a11 a12 a13 a14 hi
    refine pk_le N i (fun z => absurd z (by omega)) (fun _ => tg_ld (a := i) hN hC (by omega) hf hl ⟨rfl, rfl⟩ (fun u' hu' => ?_))
    obtain ⟨fn_2, gx_2, gy_2, pn_2, be_2, hb_2, a1_2, a2_2, a3_2, a4_2, a5_2, a6_2, a7_2, a8_2, a9_2, a10_2, a11_2, a12_2, a13_2, a14_2⟩ := u'
    obtain ⟨e1, e2⟩ := hu'
    simp only at e1 e2
    rw [e1, e2]
    exact ⟨N + 1, tg_ca16 hN hC (show i < N by omega) hf hl (fun gx gy pn be hb a2 a3 a4 a5 a6 a7 a8 a9 a10 a11 a12 a13 a14 => ih (i + 1) gx gy pn be hb a2 a3 a4 a5 a6 a7 a8 a9 a10 a11 a12 a13 a14 (by omega)) N 0 _ _ _ _ _ _ _ _ _ _ _ _ _ _ _ _ _ _ (by omega)⟩
theorem tg_ca {post : Int32 → St2 → Prop} {f : Nat → Nat} {u : St2} (hN : N ≤ 7) (hC : tg_col C a1) (hf : tg_iso N (tg_g C 0) (tg_g C 1) f) (hl : tg_lx N (tg_g C 0) (tg_g C 1) f N) (hu : tg_is N a1 u)
    (H : ∀ u', tg_is N a1 u' → post 1 u') : wpL_carried post u (nI N) := by
  obtain ⟨fn_1, gx_1, gy_1, pn_1, be_1, hb_1, a1_1, a2_1, a3_1, a4_1, a5_1, a6_1, a7_1, a8_1, a9_1, a10_1, a11_1, a12_1, a13_1, a14_1⟩ := u
  obtain ⟨e1, e2⟩ := hu
  simp only at e1 e2
  rw [e1, e2]
  exact ⟨N + 1, tg_ca2 hN hC hf hl H N 0 _ _ _ _ _ _ _ _ _ _ _ _ _ _ _ _ _ _ (by omega)⟩
theorem tg_ho {post : Int32 → St2 → Prop} {u : St2} (hN : N ≤ 7) (hN1 : 1 ≤ N) (hC : tg_col C a1) (hS : tg_sym N C) (hu : tg_is N a1 u) (H : ∀ u', tg_is N a1 u' → post 1 u') : wpL_holds post u (nI N) := by
  obtain ⟨fn_1, gx_1, gy_1, pn_1, be_1, hb_1, a1_1, a2_1, a3_1, a4_1, a5_1, a6_1, a7_1, a8_1, a9_1, a10_1, a11_1, a12_1, a13_1, a14_1⟩ := u
  unfold wpL_holds
  refine tg_ly hN hC hu (fun hex u1 hu1 => ?_) (fun hno u1 hu1 => ?_)
  · obtain ⟨fn_2, gx_2, gy_2, pn_2, be_2, hb_2, a1_2, a2_2, a3_2, a4_2, a5_2, a6_2, a7_2, a8_2, a9_2, a10_2, a11_2, a12_2, a13_2, a14_2⟩ := u1
    refine tg_lf (g := 0) hN hN1 (by omega) hC (hS 0 (by omega)) hu1 (fun m u2 hm hm56 hu2 => ?_)
    obtain ⟨fn_3, gx_3, gy_3, pn_3, be_3, hb_3, a1_3, a2_3, a3_3, a4_3, a5_3, a6_3, a7_3, a8_3, a9_3, a10_3, a11_3, a12_3, a13_3, a14_3⟩ := u2
    refine tg_lf (g := 1) hN hN1 (by omega) hC (hS 1 (by omega)) hu2 (fun m' u3 hm' hm56' hu3 => ?_)
    obtain ⟨fn_4, gx_4, gy_4, pn_4, be_4, hb_4, a1_4, a2_4, a3_4, a4_4, a5_4, a6_4, a7_4, a8_4, a9_4, a10_4, a11_4, a12_4, a13_4, a14_4⟩ := u3
    obtain ⟨s, hs⟩ := hex
    have hpr := tg_pr_bd (tg_g C 0) hN N (Nat.le_refl N)
    have h7 : 7 ^ N ≤ 7 ^ 7 := Nat.pow_le_pow_right (by decide) hN
    have e7 : (7 : Nat) ^ 7 = 823543 := by decide
    rw [tg_min_iso hs hm hm']
    refine br_t rfl ?_
    unfold wL_holds_24
    refine br_f (by decide) (br_f (nI_nle (by omega) (by omega)) (tg_sy (g := 0) hN (by omega) hC hu3 (fun u4 hu4 => ?_)))
    obtain ⟨fn_5, gx_5, gy_5, pn_5, be_5, hb_5, a1_5, a2_5, a3_5, a4_5, a5_5, a6_5, a7_5, a8_5, a9_5, a10_5, a11_5, a12_5, a13_5, a14_5⟩ := u4
    refine br_t rfl (tg_sy (g := 1) hN (by omega) hC hu4 (fun u5 hu5 => ?_))
    obtain ⟨fn_6, gx_6, gy_6, pn_6, be_6, hb_6, a1_6, a2_6, a3_6, a4_6, a5_6, a6_6, a7_6, a8_6, a9_6, a10_6, a11_6, a12_6, a13_6, a14_6⟩ := u5
    obtain ⟨f, hf, hl⟩ := tg_lx_ex hs N
    refine br_t (by rw [tg_pr_iso hs]) (tg_ca hN hC hf hl hu5 (fun u6 hu6 => ?_))
    obtain ⟨fn_7, gx_7, gy_7, pn_7, be_7, hb_7, a1_7, a2_7, a3_7, a4_7, a5_7, a6_7, a7_7, a8_7, a9_7, a10_7, a11_7, a12_7, a13_7, a14_7⟩ := u6
    exact br_f (by decide) (H _ hu6)
  · obtain ⟨fn_2, gx_2, gy_2, pn_2, be_2, hb_2, a1_2, a2_2, a3_2, a4_2, a5_2, a6_2, a7_2, a8_2, a9_2, a10_2, a11_2, a12_2, a13_2, a14_2⟩ := u1
    refine tg_lf (g := 0) hN hN1 (by omega) hC (hS 0 (by omega)) hu1 (fun m u2 hm hm56 hu2 => ?_)
    obtain ⟨fn_3, gx_3, gy_3, pn_3, be_3, hb_3, a1_3, a2_3, a3_3, a4_3, a5_3, a6_3, a7_3, a8_3, a9_3, a10_3, a11_3, a12_3, a13_3, a14_3⟩ := u2
    refine tg_lf (g := 1) hN hN1 (by omega) hC (hS 1 (by omega)) hu2 (fun m' u3 hm' hm56' hu3 => ?_)
    obtain ⟨fn_4, gx_4, gy_4, pn_4, be_4, hb_4, a1_4, a2_4, a3_4, a4_4, a5_4, a6_4, a7_4, a8_4, a9_4, a10_4, a11_4, a12_4, a13_4, a14_4⟩ := u3
    refine br_f (fun e => ?_) ?_
    · rw [pk_lEQ (by omega) (by omega)] at e
      rw [← e] at hm'
      exact hno (tg_min_eq (tg_col4 hC (by omega) hN) (tg_col4 hC (by omega) hN) (hS 0 (by omega)) (hS 1 (by omega)) hm hm')
    · unfold wL_holds_24
      refine br_t rfl (br_t rfl (tg_ld0 hN hN1 hC hno hu3 (fun u4 hu4 => ?_)))
      obtain ⟨fn_5, gx_5, gy_5, pn_5, be_5, hb_5, a1_5, a2_5, a3_5, a4_5, a5_5, a6_5, a7_5, a8_5, a9_5, a10_5, a11_5, a12_5, a13_5, a14_5⟩ := u4
      exact br_t rfl (H _ hu4)
end
end
section
/-! paint, copySwapped -/
def tg_put (C : Nat → Nat) (i k c : Nat) : Nat → Nat := fun j => if j = i ∨ j = k then c else C j
theorem tg_put_col {C : Nat → Nat} {a1 : Nat → Int32} {i k c : Nat} (h : tg_col C a1) (hc : c < 4) : tg_col (tg_put C i k c) (upd (upd a1 i (nI c)) k (nI c)) := by
  intro j hj
  unfold tg_put
  by_cases e : j = i ∨ j = k
  · rw [if_pos e]
    refine ⟨?_, hc⟩
    by_cases e2 : j = k
    · rw [e2, pk_us]
    · rw [pk_un e2]
      rcases e with e | e
      · rw [e, pk_us]
      · exact absurd e e2
  · rw [if_neg e, pk_un (fun z => e (Or.inr z)), pk_un (fun z => e (Or.inl z))]
    exact h j hj
theorem tg_put_sym {N g a b c : Nat} {C : Nat → Nat} (hN : N ≤ 7) (hg : g ≤ 1) (ha : a < N) (hb' : b < N) (h : tg_sym N C) : tg_sym N (tg_put C (49 * g + 7 * a + b) (49 * g + 7 * b + a) c) := by
  intro g' hg' x y hx hy
  have h0 := h g' hg' x y hx hy
  unfold tg_g at h0 ⊢
  unfold tg_put
  by_cases e : (49 * g' + 7 * x + y = 49 * g + 7 * a + b ∨ 49 * g' + 7 * x + y = 49 * g + 7 * b + a)
  · have e' : (49 * g' + 7 * y + x = 49 * g + 7 * a + b ∨ 49 * g' + 7 * y + x = 49 * g + 7 * b + a) := by omega
    rw [if_pos e, if_pos e']
  · have e' : ¬ (49 * g' + 7 * y + x = 49 * g + 7 * a + b ∨ 49 * g' + 7 * y + x = 49 * g + 7 * b + a) := by omega
    rw [if_neg e, if_neg e']
    exact h0
section
variable {fn gx gy pn : Int32} {be : Int64} {hb : Int32} {a1 a2 a3 a4 a5 : Nat → Int32} {a6 : Nat → Int64} {a7 a8 a9 a10 a11 : Nat → Int32} {a12 a13 : Nat → Int64} {a14 : Nat → Int32} {N gX gY K : Nat} {C px py : Nat → Nat}
theorem tg_pa {post : Int32 → St2 → Prop} {g a b : Nat} {c : Int32} (hN : N ≤ 7) (hC : tg_col C a1) (hS : tg_sym N C) (hg : g ≤ 1) (ha : a < N) (hb' : b < N)
    (H : ∀ (r : Int32) (b1 : Nat → Int32) (C' : Nat → Nat), tg_col C' b1 → tg_sym N C' → post r (nI N, gx, gy, pn, be, hb, b1, a2, a3, a4, a5, a6, a7, a8, a9, a10, a11, a12, a13, a14)) : wpX_paint post (nI N, gx, gy, pn, be, hb, a1, a2, a3, a4, a5, a6, a7, a8, a9, a10, a11, a12, a13, a14) (nI g) (nI a) (nI b) c := by
  obtain ⟨k, hk, ek⟩ := pk_andE c (m := 3) 2 (by decide)
  unfold wpX_paint
  refine tg_fi hN hg ha hb' (br_f (by decide) ?_)
  rw [tg_ixg, tg_ixg, nI_clamp (show 49 * g + 7 * a + b < 2 ^ 31 by omega), nI_clamp (show 49 * g + 7 * b + a < 2 ^ 31 by omega), ek]
  exact ⟨vp_in_nI (by omega) (by omega), nm_e ⟨vp_in_nI (by omega) (by omega), nm_e ⟨vp_in_nI (by omega) (by omega), nm_e (H _ _ _ (tg_put_col hC (by omega)) (tg_put_sym hN hg ha hb' hS))⟩⟩⟩
theorem tg_c90 {post : Int32 → St2 → Prop} {J J' : Int32 → (Nat → Int32) → (Nat → Int32) → (Nat → Int32) → (Nat → Int32) → (Nat → Int32) → (Nat → Int64) → (Nat → Int32) → (Nat → Int32) → (Nat → Int32) → (Nat → Int32) → (Nat → Int32) → (Nat → Int64) → (Nat → Int64) → (Nat → Int32) → Prop} {x2 x3 : Int32} {g h x y u w : Nat} (hg : g ≤ 1) (hh : h ≤ 1) (hx : x < 7) (hy : y < 7) (hu : u < 7) (hw : w < 7)
    (H : J' (nI (y + 1)) (upd a1 (49 * g + 7 * x + y) (a1 (49 * h + 7 * u + w))) a2 a3 a4 a5 a6 a7 a8 a9 a10 a11 a12 a13 a14) : wX_copySwapped_90 post J J' (nI g) x2 x3 (nI (49 * h)) (nI x) (nI y) (nI u) (nI w) fn gx gy pn be hb a1 a2 a3 a4 a5 a6 a7 a8 a9 a10 a11 a12 a13 a14 := by
  have e : nI (49 * h) + (7 : Int32) * nI u + nI w = nI (49 * h + 7 * u + w) := by
    rw [show (7 : Int32) = nI 7 from rfl, pk_mul, nI_add, nI_add]
  unfold wX_copySwapped_90
  rw [e, tg_ixg, nI_clamp (show 49 * h + 7 * u + w < 2 ^ 31 by omega), nI_clamp (show 49 * g + 7 * x + y < 2 ^ 31 by omega)]
  exact ⟨vp_in_nI (by omega) (by omega), vp_in_nI (by omega) (by omega), nm_e (nm_r (nI_1 y) H)⟩
theorem tg_c66 {post : Int32 → St2 → Prop} {J J' : Int32 → (Nat → Int32) → (Nat → Int32) → (Nat → Int32) → (Nat → Int32) → (Nat → Int32) → (Nat → Int64) → (Nat → Int32) → (Nat → Int32) → (Nat → Int32) → (Nat → Int32) → (Nat → Int32) → (Nat → Int64) → (Nat → Int64) → (Nat → Int32) → Prop} {g h x y u a b : Nat} (hg : g ≤ 1) (hh : h ≤ 1) (hx : x < 7) (hy : y < 7) (hu : u < 7) (ha : a < 7) (hb' : b < 7)
    (H : J' (nI (y + 1)) (upd a1 (49 * g + 7 * x + y) (a1 (49 * h + 7 * u + tg_sw a b y))) a2 a3 a4 a5 a6 a7 a8 a9 a10 a11 a12 a13 a14) : wX_copySwapped_66 post J J' (nI g) (nI a) (nI b) (nI (49 * h)) (nI x) (nI y) (nI u) fn gx gy pn be hb a1 a2 a3 a4 a5 a6 a7 a8 a9 a10 a11 a12 a13 a14 := by
  refine pk_eq y a (fun e => tg_c90 hg hh hx hy hu hb' ?_) (fun e => pk_eq y b (fun e2 => tg_c90 hg hh hx hy hu ha ?_) (fun e2 => tg_c90 hg hh hx hy hu hy ?_))
  · rw [e, tg_sw_l] at H
    rw [e]
    exact H
  · rw [e2, tg_sw_r] at H
    rw [e2]
    exact H
  · rw [tg_sw_o e e2] at H
    exact H
theorem tg_c35 {post : Int32 → St2 → Prop} {J : Int32 → (Nat → Int32) → (Nat → Int32) → (Nat → Int32) → (Nat → Int32) → (Nat → Int32) → (Nat → Int64) → (Nat → Int32) → (Nat → Int32) → (Nat → Int32) → (Nat → Int32) → (Nat → Int32) → (Nat → Int64) → (Nat → Int64) → (Nat → Int32) → Prop} {g h x a b : Nat} {C0 : Nat → Nat} (hN : N ≤ 7) (hg : g ≤ 1) (hh : h ≤ 1) (hgh : h + g = 1) (hx : x < N) (ha : a < N) (hb' : b < N)
    (H : ∀ (s1 : Nat → Int32) (C' : Nat → Nat), tg_col C' s1 → (∀ u w, u < 7 → w < 7 → tg_g C' h u w = tg_g C0 h u w) → (∀ u w, u < x + 1 → w < N → tg_g C' g u w = tg_g C0 h (tg_sw a b u) (tg_sw a b w)) → J (nI (x + 1)) s1 a2 a3 a4 a5 a6 a7 a8 a9 a10 a11 a12 a13 a14) :
    ∀ (n i : Nat) (s1 : Nat → Int32) (C' : Nat → Nat), i + n = N → tg_col C' s1 → (∀ u w, u < 7 → w < 7 → tg_g C' h u w = tg_g C0 h u w) → (∀ u w, u < x → w < N → tg_g C' g u w = tg_g C0 h (tg_sw a b u) (tg_sw a b w)) → (∀ w, w < i → tg_g C' g x w = tg_g C0 h (tg_sw a b x) (tg_sw a b w)) →
      wX_copySwapped_35 post J (nI g) (nI a) (nI b) (nI (49 * h)) (nI x) (nI N) gx gy pn be hb (n + 1) (nI i) s1 a2 a3 a4 a5 a6 a7 a8 a9 a10 a11 a12 a13 a14 := by
  intro n
  induction n with
  | zero =>
    intro i s1 C' hi hC h1 h2 h3
    refine pk_le N i (fun _ => nm_r (nI_1 x) (H s1 C' hC h1 (fun u w hu hw => ?_))) (fun z => absurd z (by omega))
    by_cases t : u = x
    · rw [t]
      exact h3 w (by omega)
    · exact h2 u w (by omega) hw
  | succ n ih =>
    intro i s1 C' hi hC h1 h2 h3
    have hsx : tg_sw a b x < 7 := by
      have := tg_sw_lt ha hb' hx
      omega
    have hsi : tg_sw a b i < 7 := by
      have := tg_sw_lt ha hb' (show i < N by omega)
      omega
    have next : ∀ z, z = tg_sw a b x → wX_copySwapped_35 post J (nI g) (nI a) (nI b) (nI (49 * h)) (nI x) (nI N) gx gy pn be hb (n + 1) (nI (i + 1)) (upd s1 (49 * g + 7 * x + i) (s1 (49 * h + 7 * z + tg_sw a b i))) a2 a3 a4 a5 a6 a7 a8 a9 a10 a11 a12 a13 a14 := by
      intro z hz
      rw [hz]
      have hsrc := hC (49 * h + 7 * tg_sw a b x + tg_sw a b i) (by omega)
      have h1' := h1 (tg_sw a b x) (tg_sw a b i) hsx hsi
      unfold tg_g at h1'
      refine ih (i + 1) _ (fun j => if j = 49 * g + 7 * x + i then C' (49 * h + 7 * tg_sw a b x + tg_sw a b i) else C' j) (by omega) (fun j hj => ?_) (fun u w hu hw => ?_) (fun u w hu hw => ?_) (fun w hw => ?_)
      · by_cases t : j = 49 * g + 7 * x + i
        · rw [t, pk_us]
          simp only [if_true]
          exact hsrc
        · rw [pk_un t]
          simp only [if_neg t]
          exact hC j hj
      · rw [← h1 u w hu hw]
        show (if 49 * h + 7 * u + w = 49 * g + 7 * x + i then _ else C' (49 * h + 7 * u + w)) = C' (49 * h + 7 * u + w)
        rw [if_neg (by omega)]
      · rw [← h2 u w hu hw]
        show (if 49 * g + 7 * u + w = 49 * g + 7 * x + i then _ else C' (49 * g + 7 * u + w)) = C' (49 * g + 7 * u + w)
        rw [if_neg (by omega)]
      · show (if 49 * g + 7 * x + w = 49 * g + 7 * x + i then C' (49 * h + 7 * tg_sw a b x + tg_sw a b i) else C' (49 * g + 7 * x + w)) = tg_g C0 h (tg_sw a b x) (tg_sw a b w)
        by_cases t : w = i
        · rw [t, if_pos rfl, h1']
          rfl
        · rw [if_neg (by omega)]
          exact h3 w (by omega)
    refine pk_le N i (fun z => absurd z (by omega)) (fun _ => pk_eq x a (fun e => tg_c66 hg hh (by omega) (by omega) (by omega) (by omega) (by omega) (next b ?_)) (fun e => pk_eq x b (fun e2 => tg_c66 hg hh (by omega) (by omega) (by omega) (by omega) (by omega) (next a ?_)) (fun e2 => tg_c66 hg hh (by omega) (by omega) (by omega) (by omega) (by omega) (next x ?_))))
    · rw [e, tg_sw_l]
    · rw [e2, tg_sw_r]
    · rw [tg_sw_o e e2]
theorem tg_cp {post : Int32 → St2 → Prop} {g a b : Nat} (hN : N ≤ 7) (hC : tg_col C a1) (hS : tg_sym N C) (hg : g ≤ 1) (ha : a < N) (hb' : b < N)
    (H : ∀ (r : Int32) (b1 : Nat → Int32) (C' : Nat → Nat), tg_col C' b1 → tg_sym N C' → post r (nI N, gx, gy, pn, be, hb, b1, a2, a3, a4, a5, a6, a7, a8, a9, a10, a11, a12, a13, a14)) : wpX_copySwapped post (nI N, gx, gy, pn, be, hb, a1, a2, a3, a4, a5, a6, a7, a8, a9, a10, a11, a12, a13, a14) (nI g) (nI a) (nI b) := by
  have main : ∀ (n i : Nat) (s1 : Nat → Int32) (C' : Nat → Nat), i + n = N → tg_col C' s1 → (∀ u w, u < 7 → w < 7 → tg_g C' (1 - g) u w = tg_g C (1 - g) u w) → (∀ u w, u < i → w < N → tg_g C' g u w = tg_g C (1 - g) (tg_sw a b u) (tg_sw a b w)) →
      wX_copySwapped_23 post (nI g) (nI a) (nI b) (nI (49 * (1 - g))) (nI N) gx gy pn be hb (n + 1) (nI i) s1 a2 a3 a4 a5 a6 a7 a8 a9 a10 a11 a12 a13 a14 := by
    intro n
    induction n with
    | zero =>
      intro i s1 C' hi hC' h1 h2
      refine pk_le N i (fun _ => H 0 s1 C' hC' (fun g' hg' x y hx hy => ?_)) (fun z => absurd z (by omega))
      have hs := hS (1 - g) (by omega)
      by_cases t : g' = g
      · rw [t, h2 x y (by omega) hy, h2 y x (by omega) hx]
        exact hs _ _ (tg_sw_lt ha hb' hx) (tg_sw_lt ha hb' hy)
      · rw [show g' = 1 - g by omega, h1 x y (by omega) (by omega), h1 y x (by omega) (by omega)]
        exact hs x y hx hy
    | succ n ih =>
      intro i s1 C' hi hC' h1 h2
      refine pk_le N i (fun z => absurd z (by omega)) (fun _ => ⟨N + 1, ?_⟩)
      exact tg_c35 (C0 := C) hN hg (show 1 - g ≤ 1 by omega) (by omega) (show i < N by omega) ha hb' (fun s2 C2 k1 k2 k3 => ih (i + 1) s2 C2 (by omega) k1 k2 k3) N 0 s1 C' (by omega) hC' h1 h2 (fun w hw => absurd hw (by omega))
  have ef : (49 : Int32) * (1 - nI g) = nI (49 * (1 - g)) := by
    rw [show (49 : Int32) = nI 49 from rfl, show (1 : Int32) = nI 1 from rfl, pk_sub hg, pk_mul]
  unfold wpX_copySwapped
  exact tg_fi hN hg ha hb' (br_f (by decide) (nm_r ef ⟨N + 1, main N 0 a1 C (by omega) hC (fun _ _ _ _ => rfl) (fun u w hu => absurd hu (by omega))⟩))
end
end
section
/-! the law -/
theorem tg_ce {post : Int32 → Prop} {L k : Nat} {xs : Nat → Int32} {u : St0} (hL : L ≤ 260) (hk : k < 100) (H : ∀ r, post r) : wpL_cell post L xs u (nI k) :=
  pk_le L k (fun _ => H 0) (fun z => ⟨vp_in_nI z (by omega), H _⟩)
theorem tg_md (x : Int32) {N : Nat} (hN : N ≤ 7) (hN1 : 1 ≤ N) : ∃ a, a < N ∧ (x &&& 255) - (x &&& 255) / nI N * nI N = nI a := by
  obtain ⟨j, hj, e⟩ := pk_andE x (m := 255) 8 (by decide)
  refine ⟨j % N, Nat.mod_lt _ (by omega), ?_⟩
  rw [e, pk_rem (by omega) (by omega) (by omega)]
section
variable {fn gx gy pn : Int32} {be : Int64} {hb : Int32} {a1 a2 a3 a4 a5 : Nat → Int32} {a6 : Nat → Int64} {a7 a8 a9 a10 a11 : Nat → Int32} {a12 a13 : Nat → Int64} {a14 : Nat → Int32} {N L : Nat} {xs : Nat → Int32} {x2 : Int32} {kc ks : Nat}
theorem tg_law43 (hN : N ≤ 7) (hN1 : 1 ≤ N) (hL : L ≤ 260) :
    ∀ (n i : Nat) (a1 : Nat → Int32) (C : Nat → Nat) (gx gy pn : Int32) (be : Int64) (hb : Int32) (a2 a3 a4 a5 : Nat → Int32) (a6 : Nat → Int64) (a7 a8 a9 a10 a11 : Nat → Int32) (a12 a13 : Nat → Int64) (a14 : Nat → Int32), i ≤ 260 → L < i + 4 * n + 4 → tg_col C a1 → tg_sym N C →
      wL_law_43 (fun r => r = 1) L xs (nI N) x2 kc ks (n + 1) (nI i) (nI N) gx gy pn be hb a1 a2 a3 a4 a5 a6 a7 a8 a9 a10 a11 a12 a13 a14 := by
  intro n
  induction n with
  | zero =>
    intro i a1 C gx gy pn be hb a2 a3 a4 a5 a6 a7 a8 a9 a10 a11 a12 a13 a14 hi hLi hC hS
    refine pk_lt L (i + 4) (fun _ => tg_ho hN hN1 hC hS ⟨rfl, rfl⟩ (fun u' _ => ?_)) (fun z => absurd z (by omega)) rfl (nI_add i 4)
    obtain ⟨fn_2, gx_2, gy_2, pn_2, be_2, hb_2, a1_2, a2_2, a3_2, a4_2, a5_2, a6_2, a7_2, a8_2, a9_2, a10_2, a11_2, a12_2, a13_2, a14_2⟩ := u'
    rfl
  | succ n ih =>
    intro i a1 C gx gy pn be hb a2 a3 a4 a5 a6 a7 a8 a9 a10 a11 a12 a13 a14 hi hLi hC hS
    refine pk_lt L (i + 4) (fun _ => tg_ho hN hN1 hC hS ⟨rfl, rfl⟩ (fun u' _ => ?_)) (fun z => ?_) rfl (nI_add i 4)
    · obtain ⟨fn_2, gx_2, gy_2, pn_2, be_2, hb_2, a1_2, a2_2, a3_2, a4_2, a5_2, a6_2, a7_2, a8_2, a9_2, a10_2, a11_2, a12_2, a13_2, a14_2⟩ := u'
      rfl
    · have e4 : nI i + 4 = nI (i + 4) := nI_add i 4
      have e1 : nI i + 1 = nI (i + 1) := nI_add i 1
      have e2 : nI i + 2 = nI (i + 2) := nI_add i 2
      have e3 : nI i + 3 = nI (i + 3) := nI_add i 3
      have hN0 : ¬ nI N = 0 := nI_ne0 (by omega) (by omega)
      have next : ∀ (b1 : Nat → Int32) (C' : Nat → Nat) (gx gy pn : Int32) (be : Int64) (hb : Int32) (a2 a3 a4 a5 : Nat → Int32) (a6 : Nat → Int64) (a7 a8 a9 a10 a11 : Nat → Int32) (a12 a13 : Nat → Int64) (a14 : Nat → Int32), tg_col C' b1 → tg_sym N C' → wL_law_43 (fun r => r = 1) L xs (nI N) x2 kc ks (n + 1) (nI (i + 4)) (nI N) gx gy pn be hb b1 a2 a3 a4 a5 a6 a7 a8 a9 a10 a11 a12 a13 a14 := fun b1 C' gx gy pn be hb a2 a3 a4 a5 a6 a7 a8 a9 a10 a11 a12 a13 a14 h1 h2 => ih (i + 4) b1 C' gx gy pn be hb a2 a3 a4 a5 a6 a7 a8 a9 a10 a11 a12 a13 a14 (by omega) (by omega) h1 h2
      rw [e1, e2, e3]
      refine ⟨vp_in_nI (by omega) (by omega), fun x5 ex5 => ⟨vp_in_nI (by omega) (by omega), hN0, fun x6 ex6 => ⟨vp_in_nI (by omega) (by omega), hN0, fun x7 ex7 => ⟨vp_in_nI (by omega) (by omega), fun x8 ex8 => ?_⟩⟩⟩⟩
      obtain ⟨a, ha, ea⟩ := tg_md (xs (nI (i + 1)).toNatClampNeg) hN hN1
      obtain ⟨b, hb', eb⟩ := tg_md (xs (nI (i + 2)).toNatClampNeg) hN hN1
      obtain ⟨g8, hg8, eg8⟩ := pk_andE x8 (m := 1) 1 (by decide)
      obtain ⟨g5, hg5, eg5⟩ := pk_andE x5 (m := 1) 1 (by decide)
      rw [ea] at ex6
      rw [eb] at ex7
      rw [ex6, ex7, eg8, eg5]
      refine br_c (fun _ => br_c (fun _ => br_c (fun _ => ?_) (fun _ => ?_)) (fun _ => ?_)) (fun _ => ?_)
      · exact tg_cp hN hC hS (by omega) ha hb' (fun r b1 C' h1 h2 => nm_r e4 (next b1 C' _ _ _ _ _ _ _ _ _ _ _ _ _ _ _ _ _ _ h1 h2))
      · refine tg_ho hN hN1 hC hS ⟨rfl, rfl⟩ (fun u' hu' => ?_)
        obtain ⟨fn_2, gx_2, gy_2, pn_2, be_2, hb_2, a1_2, a2_2, a3_2, a4_2, a5_2, a6_2, a7_2, a8_2, a9_2, a10_2, a11_2, a12_2, a13_2, a14_2⟩ := u'
        obtain ⟨z1, z2⟩ := hu'
        simp only at z1 z2
        rw [z1, z2]
        exact br_f (by decide) (nm_r e4 (next a1 C _ _ _ _ _ _ _ _ _ _ _ _ _ _ _ _ _ _ hC hS))
      · exact tg_pa (g := 0) hN hC hS (by omega) ha hb' (fun r b1 C' h1 h2 => tg_pa (g := 1) hN h1 h2 (by omega) hb' ha (fun r2 b2 C2 h3 h4 => nm_r e4 (next b2 C2 _ _ _ _ _ _ _ _ _ _ _ _ _ _ _ _ _ _ h3 h4)))
      · exact tg_pa hN hC hS (by omega) ha hb' (fun r b1 C' h1 h2 => nm_r e4 (next b1 C' _ _ _ _ _ _ _ _ _ _ _ _ _ _ _ _ _ _ h1 h2))
end
theorem tg_law30 {N L : Nat} {xs : Nat → Int32} {z : Int32} (hN : N ≤ 7) (hN1 : 1 ≤ N) (hL : L ≤ 260) : wL_law_30 (fun r => r = 1) L xs (nI N) z 0 0 := by
  refine ⟨by omega, by omega, 14, 332, by omega, by omega, ?_⟩
  refine br_t (nI_le (a := 1) hN1 (by omega)) (br_t (nI_le (b := 7) hN (by omega)) ?_)
  unfold wX_init_26
  refine ⟨by omega, by omega, by omega, by omega, by omega, by omega, by omega, by omega, by omega, by omega, by omega, by omega, by omega, by omega, by omega, by omega, by omega, by omega, by omega, by omega, by omega, by omega, by omega, by omega, by omega, by omega, by omega, by omega, ?_⟩
  exact ⟨65 + 1, tg_law43 hN hN1 hL 65 2 _ (fun _ => 0) _ _ _ _ _ _ _ _ _ _ _ _ _ _ _ _ _ _ (by omega) (by omega) (fun j _ => ⟨rfl, show 0 < 4 by decide⟩) (fun _ _ _ _ _ _ => rfl)⟩
theorem i_vc (xs : Nat → Int32) (L : Nat) (hL : L ≤ 260) : wpL_law (fun r => r = 1) L xs := by
  unfold wpL_law
  refine tg_ce (k := 0) hL (by omega) (fun r => ⟨by decide, ?_⟩)
  obtain ⟨a, ha, ea⟩ := tg_md r (N := 7) (by omega) (by omega)
  have e : 1 + ((r &&& 255) - (r &&& 255) / 7 * 7) = nI (1 + a) := by
    have e7 : (r &&& 255) - (r &&& 255) / 7 * 7 = nI a := ea
    rw [e7, show (1 : Int32) = nI 1 from rfl, nI_add]
  refine nm_r e (tg_ce (k := 1) hL (by omega) (fun r2 => br_c (fun _ => ?_) (fun _ => ?_)))
  · exact tg_law30 (by omega) (by omega) hL
  · exact tg_law30 (by omega) (by omega) hL
end
