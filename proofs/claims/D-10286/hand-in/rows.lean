section
/-- a term: a pair by its number in its own heap, or a kind and a value -/
abbrev hp_T : Type := Sum Nat (Int32 × Int32)
def hp_kd (t : hp_T) : Int32 := match t with
  | Sum.inl _ => 2
  | Sum.inr x => x.1
def hp_vl (b : Nat) (t : hp_T) : Int32 := match t with
  | Sum.inl i => nI (b + i)
  | Sum.inr x => x.2
def hp_rn (g : Nat → Nat) (t : hp_T) : hp_T := match t with
  | Sum.inl i => Sum.inl (g i)
  | Sum.inr x => Sum.inr x
/-- a term that fits a heap of n pairs -/
def hp_gd (n : Nat) (t : hp_T) : Prop := match t with
  | Sum.inl i => i < n
  | Sum.inr x => x.1 ≠ 2 ∧ (x.1 = 3 → ∃ j : Nat, j < 6 ∧ x.2 = nI j)
/-- 1 where the term is the blob id -/
def hp_bl (id : Nat) (t : hp_T) : Nat := match t with
  | Sum.inl _ => 0
  | Sum.inr x => if x.1 = 3 ∧ x.2 = nI id then 1 else 0
def hp_cl (S : Nat → Prop) (t : hp_T) : Prop := match t with
  | Sum.inl i => S i
  | Sum.inr _ => True
/-! sums -/
def hp_sm (f : Nat → Nat) : Nat → Nat
  | 0 => 0
  | n + 1 => hp_sm f n + f n
theorem hp_sm_s (f : Nat → Nat) (n : Nat) : hp_sm f (n + 1) = hp_sm f n + f n := rfl
theorem hp_sm_c {f g : Nat → Nat} {n : Nat} (h : ∀ i, i < n → f i = g i) : hp_sm f n = hp_sm g n := by
  induction n with
  | zero => rfl
  | succ n ih => rw [hp_sm_s, hp_sm_s, ih (fun i hi => h i (by omega)), h n (by omega)]
theorem hp_sm_1 {f g : Nat → Nat} {n : Nat} (r : Nat) (hr : r < n) (h : ∀ i, i < n → i ≠ r → f i = g i) : hp_sm f n + g r = hp_sm g n + f r := by
  induction n with
  | zero => omega
  | succ n ih =>
    rw [hp_sm_s, hp_sm_s]
    by_cases e : r = n
    · subst e
      rw [hp_sm_c (f := f) (g := g) (n := r) (fun i hi => h i (by omega) (by omega))]
      omega
    · have h1 := ih (by omega) (fun i hi => h i (by omega))
      have h2 := h n (by omega) (by omega)
      omega
theorem hp_sm_le {f g : Nat → Nat} {n : Nat} (h : ∀ i, i < n → f i ≤ g i) : hp_sm f n ≤ hp_sm g n := by
  induction n with
  | zero => exact Nat.le_refl _
  | succ n ih =>
    rw [hp_sm_s, hp_sm_s]
    have h1 := ih (fun i hi => h i (by omega))
    have h2 := h n (by omega)
    omega
theorem hp_sm_k (c n : Nat) : hp_sm (fun _ => c) n = n * c := by
  induction n with
  | zero => exact (Nat.zero_mul c).symm
  | succ n ih => rw [hp_sm_s, ih, Nat.succ_mul]
theorem hp_sm_z {f : Nat → Nat} {n : Nat} (h : ∀ i, i < n → f i = 0) : hp_sm f n = 0 := by
  rw [hp_sm_c (g := fun _ => 0) h, hp_sm_k]
  exact Nat.mul_zero n
theorem hp_sm_f (f : Nat → Nat) (n : Nat) : hp_sm f (n + 1) = f 0 + hp_sm (fun i => f (i + 1)) n := by
  induction n with
  | zero => rw [hp_sm_s]; show 0 + f 0 = f 0 + 0; omega
  | succ n ih => rw [hp_sm_s, ih, hp_sm_s]; omega
/-! lists -/
def hp_ix (i : Nat) : List Nat → Nat
  | [] => 0
  | x :: l => if x = i then 0 else hp_ix i l + 1
def hp_at : List Nat → Nat → Nat
  | [], _ => 0
  | x :: _, 0 => x
  | _ :: l, k + 1 => hp_at l k
theorem hp_ix_hd (x : Nat) (l : List Nat) : hp_ix x (x :: l) = 0 := if_pos rfl
theorem hp_ix_tl {x i : Nat} (l : List Nat) (h : ¬ x = i) : hp_ix i (x :: l) = hp_ix i l + 1 := if_neg h
theorem hp_mem_tl {i x : Nat} {l : List Nat} (h : i ∈ x :: l) (e : ¬ x = i) : i ∈ l :=
  (List.mem_cons.mp h).resolve_left (fun z => e z.symm)
theorem hp_ix_lt {i : Nat} {L : List Nat} (h : i ∈ L) : hp_ix i L < L.length := by
  induction L with
  | nil => cases h
  | cons x l ih =>
    by_cases e : x = i
    · subst e
      rw [hp_ix_hd]
      exact Nat.zero_lt_succ _
    · rw [hp_ix_tl l e]
      exact Nat.succ_lt_succ (ih (hp_mem_tl h e))
theorem hp_at_ix {i : Nat} {L : List Nat} (h : i ∈ L) : hp_at L (hp_ix i L) = i := by
  induction L with
  | nil => cases h
  | cons x l ih =>
    by_cases e : x = i
    · subst e
      rw [hp_ix_hd]
      rfl
    · rw [hp_ix_tl l e]
      exact ih (hp_mem_tl h e)
theorem hp_at_mem {L : List Nat} {k : Nat} (h : k < L.length) : hp_at L k ∈ L := by
  induction L generalizing k with
  | nil => exact absurd h (Nat.not_lt_zero _)
  | cons x l ih =>
    cases k with
    | zero => exact List.mem_cons_self
    | succ k => exact List.mem_cons_of_mem _ (ih (Nat.lt_of_succ_lt_succ h))
theorem hp_at_app {L M : List Nat} {k : Nat} (h : k < L.length) : hp_at (L ++ M) k = hp_at L k := by
  induction L generalizing k with
  | nil => exact absurd h (Nat.not_lt_zero _)
  | cons x l ih =>
    cases k with
    | zero => rfl
    | succ k => exact ih (Nat.lt_of_succ_lt_succ h)
theorem hp_at_new (L : List Nat) (x : Nat) : hp_at (L ++ [x]) L.length = x := by
  induction L with
  | nil => rfl
  | cons y l ih => exact ih
theorem hp_ix_app {i : Nat} {L M : List Nat} (h : i ∈ L) : hp_ix i (L ++ M) = hp_ix i L := by
  induction L with
  | nil => cases h
  | cons x l ih =>
    rw [List.cons_append]
    by_cases e : x = i
    · subst e
      rw [hp_ix_hd, hp_ix_hd]
    · rw [hp_ix_tl _ e, hp_ix_tl _ e, ih (hp_mem_tl h e)]
theorem hp_ix_new {i : Nat} {L : List Nat} (h : ¬ i ∈ L) : hp_ix i (L ++ [i]) = L.length := by
  induction L with
  | nil => exact hp_ix_hd i []
  | cons x l ih =>
    rw [List.cons_append, hp_ix_tl _ (fun z => h (by rw [z]; exact List.mem_cons_self)), ih (fun z => h (List.mem_cons_of_mem _ z))]
    rfl
theorem hp_ix_at {L : List Nat} {k : Nat} (nd : L.Nodup) (h : k < L.length) : hp_ix (hp_at L k) L = k := by
  induction L generalizing k with
  | nil => exact absurd h (Nat.not_lt_zero _)
  | cons x l ih =>
    have nd' := List.nodup_cons.mp nd
    cases k with
    | zero => exact hp_ix_hd x l
    | succ k =>
      have hk : k < l.length := Nat.lt_of_succ_lt_succ h
      show hp_ix (hp_at l k) (x :: l) = k + 1
      rw [hp_ix_tl l (fun z => nd'.1 (by rw [z]; exact hp_at_mem hk)), ih nd'.2 hk]
theorem hp_at_map (g : Nat → Nat) {L : List Nat} {k : Nat} (h : k < L.length) : hp_at (L.map g) k = g (hp_at L k) := by
  induction L generalizing k with
  | nil => exact absurd h (Nat.not_lt_zero _)
  | cons x l ih =>
    cases k with
    | zero => rfl
    | succ k => exact ih (Nat.lt_of_succ_lt_succ h)
theorem hp_ix_map {g : Nat → Nat} {S : Nat → Prop} (inj : ∀ i j, S i → S j → g i = g j → i = j) {L : List Nat} (hL : ∀ i, i ∈ L → S i) {i : Nat} (hi : S i) : hp_ix (g i) (L.map g) = hp_ix i L := by
  induction L with
  | nil => rfl
  | cons x l ih =>
    rw [List.map_cons]
    by_cases e : x = i
    · subst e
      rw [hp_ix_hd, hp_ix_hd]
    · rw [hp_ix_tl _ e, hp_ix_tl _ (fun z => e (inj x i (hL x List.mem_cons_self) hi z)), ih (fun j hj => hL j (List.mem_cons_of_mem _ hj))]
/-- L is the head of R -/
def hp_ex (L R : List Nat) : Prop := ∃ M, R = L ++ M
theorem hp_ex_r (L : List Nat) : hp_ex L L := ⟨[], (List.append_nil L).symm⟩
theorem hp_ex_t {L R Q : List Nat} (h : hp_ex L R) (h' : hp_ex R Q) : hp_ex L Q := by
  obtain ⟨M, rfl⟩ := h
  obtain ⟨N, rfl⟩ := h'
  exact ⟨M ++ N, List.append_assoc L M N⟩
theorem hp_ex_m {L R : List Nat} (h : hp_ex L R) {i : Nat} (hi : i ∈ L) : i ∈ R := by
  obtain ⟨M, rfl⟩ := h
  exact List.mem_append_left M hi
theorem hp_ex_at {L R : List Nat} (h : hp_ex L R) {k : Nat} (hk : k < L.length) : hp_at R k = hp_at L k := by
  obtain ⟨M, rfl⟩ := h
  exact hp_at_app hk
theorem hp_ex_ix {L R : List Nat} (h : hp_ex L R) {i : Nat} (hi : i ∈ L) : hp_ix i R = hp_ix i L := by
  obtain ⟨M, rfl⟩ := h
  exact hp_ix_app hi
theorem hp_ex_len {L R : List Nat} (h : hp_ex L R) : L.length ≤ R.length := by
  obtain ⟨M, rfl⟩ := h
  rw [List.length_append]
  omega
/-! a visit -/
def hp_vi (L : List Nat) (t : hp_T) : List Nat := match t with
  | Sum.inl i => if i ∈ L then L else L ++ [i]
  | Sum.inr _ => L
/-- a list of different numbers below n -/
def hp_ok (n : Nat) (L : List Nat) : Prop := L.Nodup ∧ ∀ i, i ∈ L → i < n
theorem hp_vi_old {L : List Nat} {i : Nat} (h : i ∈ L) : hp_vi L (Sum.inl i) = L := if_pos h
theorem hp_vi_new {L : List Nat} {i : Nat} (h : ¬ i ∈ L) : hp_vi L (Sum.inl i) = L ++ [i] := if_neg h
theorem hp_vi_ex (L : List Nat) (t : hp_T) : hp_ex L (hp_vi L t) := by
  cases t with
  | inl i =>
    by_cases h : i ∈ L
    · rw [hp_vi_old h]
      exact hp_ex_r L
    · rw [hp_vi_new h]
      exact ⟨[i], rfl⟩
  | inr x => exact hp_ex_r L
theorem hp_vi_in (L : List Nat) (t : hp_T) : hp_cl (fun i => i ∈ hp_vi L t) t := by
  cases t with
  | inl i =>
    show i ∈ hp_vi L (Sum.inl i)
    by_cases h : i ∈ L
    · rw [hp_vi_old h]
      exact h
    · rw [hp_vi_new h]
      exact List.mem_append_right L List.mem_cons_self
  | inr x => exact trivial
theorem hp_vi_sub {S : Nat → Prop} {L : List Nat} {t : hp_T} (hL : ∀ i, i ∈ L → S i) (ht : hp_cl S t) : ∀ i, i ∈ hp_vi L t → S i := by
  cases t with
  | inl i =>
    by_cases h : i ∈ L
    · rw [hp_vi_old h]
      exact hL
    · rw [hp_vi_new h]
      intro j hj
      rcases List.mem_append.mp hj with z | z
      · exact hL j z
      · have : j = i := List.mem_singleton.mp z
        rw [this]
        exact ht
  | inr x => exact hL
theorem hp_ok_app {n : Nat} {L : List Nat} {i : Nat} (h : hp_ok n L) (hi : i < n) (hn : ¬ i ∈ L) : hp_ok n (L ++ [i]) := by
  refine ⟨List.nodup_append.mpr ⟨h.1, List.nodup_cons.mpr ⟨List.not_mem_nil, List.nodup_nil⟩, ?_⟩, ?_⟩
  · intro a ha b hb e
    have hb' : b = i := List.mem_singleton.mp hb
    exact hn (by rw [← hb', ← e]; exact ha)
  · intro j hj
    rcases List.mem_append.mp hj with z | z
    · exact h.2 j z
    · have e : j = i := List.mem_singleton.mp z
      rw [e]
      exact hi
theorem hp_vi_ok {n : Nat} {L : List Nat} {t : hp_T} (h : hp_ok n L) (g : hp_gd n t) : hp_ok n (hp_vi L t) := by
  cases t with
  | inl i =>
    by_cases e : i ∈ L
    · rw [hp_vi_old e]
      exact h
    · rw [hp_vi_new e]
      exact hp_ok_app h g e
  | inr x => exact h
theorem hp_mem_map {g : Nat → Nat} {S : Nat → Prop} (inj : ∀ i j, S i → S j → g i = g j → i = j) {L : List Nat} (hL : ∀ i, i ∈ L → S i) {i : Nat} (hi : S i) : g i ∈ L.map g ↔ i ∈ L := by
  constructor
  · intro h
    obtain ⟨j, hj, e⟩ := List.mem_map.mp h
    rw [← inj j i (hL j hj) hi e]
    exact hj
  · intro h
    exact List.mem_map.mpr ⟨i, h, rfl⟩
theorem hp_vi_map {g : Nat → Nat} {S : Nat → Prop} (inj : ∀ i j, S i → S j → g i = g j → i = j) {L : List Nat} {t : hp_T} (hL : ∀ i, i ∈ L → S i) (ht : hp_cl S t) : hp_vi (L.map g) (hp_rn g t) = (hp_vi L t).map g := by
  cases t with
  | inl i =>
    show hp_vi (L.map g) (Sum.inl (g i)) = (hp_vi L (Sum.inl i)).map g
    by_cases e : i ∈ L
    · rw [hp_vi_old e, hp_vi_old ((hp_mem_map inj hL ht).mpr e)]
    · rw [hp_vi_new e, hp_vi_new (fun z => e ((hp_mem_map inj hL ht).mp z)), List.map_append]
      rfl
  | inr x => rfl
/-! sums over lists -/
def hp_ls (f : Nat → Nat) : List Nat → Nat
  | [] => 0
  | x :: l => f x + hp_ls f l
theorem hp_ls_at (f : Nat → Nat) (L : List Nat) : hp_ls f L = hp_sm (fun j => f (hp_at L j)) L.length := by
  induction L with
  | nil => rfl
  | cons x l ih =>
    rw [List.length_cons, hp_sm_f]
    show f x + hp_ls f l = f x + hp_sm (fun i => f (hp_at l i)) l.length
    rw [ih]
theorem hp_pt (f : Nat → Nat) {n : Nat} {L : List Nat} (h : hp_ok n L) : hp_sm f n = hp_sm (fun i => if i ∈ L then 0 else f i) n + hp_ls f L := by
  induction L with
  | nil => exact (hp_sm_c (fun i _ => (if_neg List.not_mem_nil).symm))
  | cons x l ih =>
    have nd := List.nodup_cons.mp h.1
    rw [ih ⟨nd.2, fun i hi => h.2 i (List.mem_cons_of_mem _ hi)⟩]
    have k := hp_sm_1 (f := fun i => if i ∈ x :: l then 0 else f i) (g := fun i => if i ∈ l then 0 else f i) (n := n) x (h.2 x List.mem_cons_self) (fun i _ hi => by
      show (if i ∈ x :: l then 0 else f i) = (if i ∈ l then 0 else f i)
      by_cases e : i ∈ l
      · rw [if_pos e, if_pos (List.mem_cons_of_mem _ e)]
      · rw [if_neg e, if_neg (fun z => e (hp_mem_tl z (fun y => hi y.symm)))])
    have k1 : (if x ∈ l then 0 else f x) = f x := if_neg nd.1
    have k2 : (if x ∈ x :: l then 0 else f x) = 0 := if_pos List.mem_cons_self
    rw [k1, k2] at k
    show _ = _ + (f x + hp_ls f l)
    omega
theorem hp_ls_1 (L : List Nat) : hp_ls (fun _ => 1) L = L.length := by
  induction L with
  | nil => rfl
  | cons x l ih =>
    rw [List.length_cons]
    show 1 + hp_ls (fun _ => 1) l = l.length + 1
    rw [ih]
    omega
theorem hp_ok_len {n : Nat} {L : List Nat} (h : hp_ok n L) : L.length ≤ n := by
  have k := hp_pt (fun _ => 1) h
  rw [hp_ls_1, hp_sm_k] at k
  omega
/-! the scan -/
def hp_b1 (H T : Nat → hp_T) (k : Nat) (L : List Nat) : List Nat := hp_vi (hp_vi L (H (hp_at L k))) (T (hp_at L k))
def hp_bf (H T : Nat → hp_T) : Nat → Nat → List Nat → List Nat
  | 0 => fun _ L => L
  | f + 1 => fun k L => if k < L.length then hp_bf H T f (k + 1) (hp_b1 H T k L) else L
theorem hp_bf_s {H T : Nat → hp_T} {f k : Nat} {L : List Nat} (h : k < L.length) : hp_bf H T (f + 1) k L = hp_bf H T f (k + 1) (hp_b1 H T k L) := if_pos h
theorem hp_bf_e {H T : Nat → hp_T} {f k : Nat} {L : List Nat} (h : L.length ≤ k) : hp_bf H T f k L = L := by
  cases f with
  | zero => rfl
  | succ f => exact if_neg (by omega)
theorem hp_cl_ex {L R : List Nat} (h : hp_ex L R) {t : hp_T} (c : hp_cl (fun i => i ∈ L) t) : hp_cl (fun i => i ∈ R) t := by
  cases t with
  | inl i => exact hp_ex_m h c
  | inr x => exact trivial
theorem hp_b1_ex (H T : Nat → hp_T) (k : Nat) (L : List Nat) : hp_ex L (hp_b1 H T k L) := hp_ex_t (hp_vi_ex _ _) (hp_vi_ex _ _)
theorem hp_b1_ok {H T : Nat → hp_T} {n k : Nat} {L : List Nat} (g : ∀ i, i < n → hp_gd n (H i) ∧ hp_gd n (T i)) (h : hp_ok n L) (hk : k < L.length) : hp_ok n (hp_b1 H T k L) := by
  have hx := g _ (h.2 _ (hp_at_mem hk))
  exact hp_vi_ok (hp_vi_ok h hx.1) hx.2
theorem hp_bf_ok {H T : Nat → hp_T} {n : Nat} (hn : n ≤ 20) (g : ∀ i, i < n → hp_gd n (H i) ∧ hp_gd n (T i)) : ∀ (f k : Nat) (L : List Nat), 20 ≤ f + k → hp_ok n L →
    (∀ j, j < k → j < L.length → hp_cl (fun i => i ∈ L) (H (hp_at L j)) ∧ hp_cl (fun i => i ∈ L) (T (hp_at L j))) →
    hp_ok n (hp_bf H T f k L) ∧ hp_ex L (hp_bf H T f k L) ∧ ∀ i, i ∈ hp_bf H T f k L → hp_cl (fun x => x ∈ hp_bf H T f k L) (H i) ∧ hp_cl (fun x => x ∈ hp_bf H T f k L) (T i) := by
  have fin : ∀ (k : Nat) (L : List Nat), L.length ≤ k → hp_ok n L →
      (∀ j, j < k → j < L.length → hp_cl (fun i => i ∈ L) (H (hp_at L j)) ∧ hp_cl (fun i => i ∈ L) (T (hp_at L j))) →
      hp_ok n L ∧ hp_ex L L ∧ ∀ i, i ∈ L → hp_cl (fun x => x ∈ L) (H i) ∧ hp_cl (fun x => x ∈ L) (T i) := by
    intro k L hk h c
    refine ⟨h, hp_ex_r L, fun i hi => ?_⟩
    have hl := hp_ix_lt hi
    have := c (hp_ix i L) (by omega) hl
    rw [hp_at_ix hi] at this
    exact this
  intro f
  induction f with
  | zero =>
    intro k L hk h c
    have hl := hp_ok_len h
    exact fin k L (by omega) h c
  | succ f ih =>
    intro k L hk h c
    by_cases e : k < L.length
    · rw [hp_bf_s e]
      have x1 := hp_b1_ex H T k L
      have r := ih (k + 1) (hp_b1 H T k L) (by omega) (hp_b1_ok g h e) (fun j hj hl => by
        by_cases ej : j = k
        · subst ej
          rw [hp_ex_at x1 e]
          exact ⟨hp_cl_ex (hp_vi_ex _ _) (hp_vi_in L (H (hp_at L j))), hp_vi_in _ _⟩
        · have hl' : j < L.length := by omega
          rw [hp_ex_at x1 hl']
          have c' := c j (by omega) hl'
          exact ⟨hp_cl_ex x1 c'.1, hp_cl_ex x1 c'.2⟩)
      exact ⟨r.1, hp_ex_t x1 r.2.1, r.2.2⟩
    · rw [hp_bf_e (by omega)]
      exact fin k L (by omega) h c
theorem hp_bf_map {H T H' T' : Nat → hp_T} {g : Nat → Nat} {S : Nat → Prop} (inj : ∀ i j, S i → S j → g i = g j → i = j)
    (hc : ∀ i, S i → hp_cl S (H i) ∧ H' (g i) = hp_rn g (H i) ∧ hp_cl S (T i) ∧ T' (g i) = hp_rn g (T i)) :
    ∀ (f k : Nat) (L : List Nat), (∀ i, i ∈ L → S i) → hp_bf H' T' f k (L.map g) = (hp_bf H T f k L).map g ∧ ∀ i, i ∈ hp_bf H T f k L → S i := by
  intro f
  induction f with
  | zero => exact fun k L hL => ⟨rfl, hL⟩
  | succ f ih =>
    intro k L hL
    by_cases e : k < L.length
    · have e' : k < (L.map g).length := by rw [List.length_map]; exact e
      rw [hp_bf_s e, hp_bf_s e']
      have hx := hc _ (hL _ (hp_at_mem e))
      have s1 := hp_vi_sub hL hx.1
      have s2 := hp_vi_sub s1 hx.2.2.1
      have q : hp_b1 H' T' k (L.map g) = (hp_b1 H T k L).map g := by
        unfold hp_b1
        rw [hp_at_map g e, hx.2.1, hx.2.2.2, hp_vi_map inj hL hx.1, hp_vi_map inj s1 hx.2.2.1]
      rw [q]
      exact ih (k + 1) _ s2
    · rw [hp_bf_e (show (L.map g).length ≤ k by rw [List.length_map]; omega), hp_bf_e (show L.length ≤ k by omega)]
      exact ⟨rfl, hL⟩
end
section
/-- a picture: places, heads, tails (process, number), used, waiting -/
abbrev hp_P : Type := (Nat → hp_T) × (Nat → Nat → hp_T) × (Nat → Nat → hp_T) × (Nat → Nat) × (Nat → Nat)
abbrev hp_pl (A : hp_P) : Nat → hp_T := A.1
abbrev hp_hd (A : hp_P) : Nat → Nat → hp_T := A.2.1
abbrev hp_tl (A : hp_P) : Nat → Nat → hp_T := A.2.2.1
abbrev hp_n (A : hp_P) : Nat → Nat := A.2.2.2.1
abbrev hp_w (A : hp_P) : Nat → Nat := A.2.2.2.2
/-- the process that owns a place -/
def hp_ow (r : Nat) : Nat := if r < 12 then r / 4 else (r - 12) / 3
def hp_G (A : hp_P) : Prop := (∀ r, r < 21 → hp_gd (hp_n A (hp_ow r)) (hp_pl A r)) ∧
  (∀ p, p < 3 → hp_n A p ≤ 20 ∧ hp_w A p ≤ 3 ∧ ∀ i, i < hp_n A p → hp_gd (hp_n A p) (hp_hd A p i) ∧ hp_gd (hp_n A p) (hp_tl A p i))
/-- how often pair i of process p holds the blob id -/
def hp_pc (A : hp_P) (p id i : Nat) : Nat := hp_bl id (hp_hd A p i) + hp_bl id (hp_tl A p i)
def hp_hc (A : hp_P) (id p : Nat) : Nat := hp_sm (hp_pc A p id) (hp_n A p)
def hp_ct (A : hp_P) (id : Nat) : Nat := hp_sm (fun r => hp_bl id (hp_pl A r)) 21 + hp_sm (hp_hc A id) 3
theorem hp_ow_lt {r : Nat} (h : r < 21) : hp_ow r < 3 := by
  unfold hp_ow
  split <;> omega
theorem hp_bl_le (id : Nat) (t : hp_T) : hp_bl id t ≤ 1 := by
  cases t with
  | inl i => exact Nat.zero_le _
  | inr x =>
    show (if x.1 = 3 ∧ x.2 = nI id then 1 else 0) ≤ 1
    split <;> omega
theorem hp_bl_rn (id : Nat) (g : Nat → Nat) (t : hp_T) : hp_bl id (hp_rn g t) = hp_bl id t := by
  cases t <;> rfl
theorem hp_kd_rn (g : Nat → Nat) (t : hp_T) : hp_kd (hp_rn g t) = hp_kd t := by
  cases t <;> rfl
theorem hp_pc_le (A : hp_P) (p id i : Nat) : hp_pc A p id i ≤ 2 := by
  have h1 := hp_bl_le id (hp_hd A p i)
  have h2 := hp_bl_le id (hp_tl A p i)
  unfold hp_pc
  omega
theorem hp_ct_le {A : hp_P} (g : hp_G A) (id : Nat) : hp_ct A id ≤ 141 := by
  have h1 : hp_sm (fun r => hp_bl id (hp_pl A r)) 21 ≤ hp_sm (fun _ => 1) 21 := hp_sm_le (fun i _ => hp_bl_le id _)
  have h2 : hp_sm (hp_hc A id) 3 ≤ hp_sm (fun _ => 40) 3 := hp_sm_le (fun p hp => by
    have h3 : hp_hc A id p ≤ hp_sm (fun _ => 2) (hp_n A p) := hp_sm_le (fun i _ => hp_pc_le A p id i)
    rw [hp_sm_k] at h3
    have h4 := (g.2 p hp).1
    omega)
  rw [hp_sm_k] at h1 h2
  unfold hp_ct
  omega
/-! one place gets a term -/
def hp_as (A : hp_P) (r : Nat) (t : hp_T) : hp_P := (fun j => if j = r then t else hp_pl A j, A.2)
theorem hp_as_s (A : hp_P) (r : Nat) (t : hp_T) : hp_pl (hp_as A r t) r = t := if_pos rfl
theorem hp_as_o (A : hp_P) {r j : Nat} (t : hp_T) (h : j ≠ r) : hp_pl (hp_as A r t) j = hp_pl A j := if_neg h
theorem hp_ct_as (A : hp_P) {r : Nat} (t : hp_T) (hr : r < 21) (id : Nat) : hp_ct (hp_as A r t) id + hp_bl id (hp_pl A r) = hp_ct A id + hp_bl id t := by
  have k := hp_sm_1 (f := fun j => hp_bl id (hp_pl (hp_as A r t) j)) (g := fun j => hp_bl id (hp_pl A j)) r hr (fun i _ hi => by
    show hp_bl id (hp_pl (hp_as A r t) i) = _
    rw [hp_as_o A t hi])
  rw [hp_as_s] at k
  have e : hp_sm (hp_hc (hp_as A r t) id) 3 = hp_sm (hp_hc A id) 3 := rfl
  unfold hp_ct
  rw [e]
  omega
theorem hp_G_as {A : hp_P} {r : Nat} {t : hp_T} (g : hp_G A) (ht : hp_gd (hp_n A (hp_ow r)) t) : hp_G (hp_as A r t) := by
  refine ⟨fun j hj => ?_, g.2⟩
  show hp_gd (hp_n A (hp_ow j)) (hp_pl (hp_as A r t) j)
  by_cases e : j = r
  · subst e
    rw [hp_as_s]
    exact ht
  · rw [hp_as_o A t e]
    exact g.1 j hj
/-! one heap changes -/
theorem hp_ct_hp {A B : hp_P} {p id : Nat} (hp : p < 3) (h1 : ∀ r, r < 21 → hp_bl id (hp_pl B r) = hp_bl id (hp_pl A r)) (h2 : ∀ q, q < 3 → q ≠ p → hp_hc B id q = hp_hc A id q) : hp_ct B id + hp_hc A id p = hp_ct A id + hp_hc B id p := by
  have k := hp_sm_1 (f := hp_hc B id) (g := hp_hc A id) p hp h2
  have k1 : hp_sm (fun r => hp_bl id (hp_pl B r)) 21 = hp_sm (fun r => hp_bl id (hp_pl A r)) 21 := hp_sm_c h1
  unfold hp_ct
  rw [k1]
  omega
/-- a pair is added -/
def hp_ap (A : hp_P) (p : Nat) (t1 t2 : hp_T) : hp_P :=
  (hp_pl A, fun q i => if q = p ∧ i = hp_n A p then t1 else hp_hd A q i, fun q i => if q = p ∧ i = hp_n A p then t2 else hp_tl A q i, fun q => if q = p then hp_n A p + 1 else hp_n A q, hp_w A)
theorem hp_ap_n (A : hp_P) (p : Nat) (t1 t2 : hp_T) : hp_n (hp_ap A p t1 t2) p = hp_n A p + 1 := if_pos rfl
theorem hp_ap_no (A : hp_P) {p q : Nat} (t1 t2 : hp_T) (h : q ≠ p) : hp_n (hp_ap A p t1 t2) q = hp_n A q := if_neg h
theorem hp_ap_h (A : hp_P) (p : Nat) (t1 t2 : hp_T) : hp_hd (hp_ap A p t1 t2) p (hp_n A p) = t1 := if_pos ⟨rfl, rfl⟩
theorem hp_ap_t (A : hp_P) (p : Nat) (t1 t2 : hp_T) : hp_tl (hp_ap A p t1 t2) p (hp_n A p) = t2 := if_pos ⟨rfl, rfl⟩
theorem hp_ap_ho (A : hp_P) {p q i : Nat} (t1 t2 : hp_T) (h : ¬ (q = p ∧ i = hp_n A p)) : hp_hd (hp_ap A p t1 t2) q i = hp_hd A q i := if_neg h
theorem hp_ap_to (A : hp_P) {p q i : Nat} (t1 t2 : hp_T) (h : ¬ (q = p ∧ i = hp_n A p)) : hp_tl (hp_ap A p t1 t2) q i = hp_tl A q i := if_neg h
theorem hp_ct_ap (A : hp_P) {p : Nat} (t1 t2 : hp_T) (hp : p < 3) (id : Nat) : hp_ct (hp_ap A p t1 t2) id = hp_ct A id + hp_bl id t1 + hp_bl id t2 := by
  have k := hp_ct_hp (A := A) (B := hp_ap A p t1 t2) (id := id) hp (fun r _ => rfl) (fun q _ hq => by
    unfold hp_hc
    rw [hp_ap_no A t1 t2 hq]
    refine hp_sm_c (fun i _ => ?_)
    unfold hp_pc
    rw [hp_ap_ho A t1 t2 (fun z => hq z.1), hp_ap_to A t1 t2 (fun z => hq z.1)])
  have k2 : hp_hc (hp_ap A p t1 t2) id p = hp_hc A id p + (hp_bl id t1 + hp_bl id t2) := by
    unfold hp_hc
    rw [hp_ap_n, hp_sm_s]
    have e1 : hp_pc (hp_ap A p t1 t2) p id (hp_n A p) = hp_bl id t1 + hp_bl id t2 := by
      unfold hp_pc
      rw [hp_ap_h, hp_ap_t]
    rw [e1, hp_sm_c (f := hp_pc (hp_ap A p t1 t2) p id) (g := hp_pc A p id) (fun i hi => by
      unfold hp_pc
      rw [hp_ap_ho A t1 t2 (fun z => absurd z.2 (by omega)), hp_ap_to A t1 t2 (fun z => absurd z.2 (by omega))])]
  omega
/-! the places of a process -/
def hp_rt (p q : Nat) : Nat := if q < 4 then 4 * p + q else 8 + 3 * p + q
theorem hp_rt_lt {p q : Nat} (hp : p < 3) (hq : q < 7) : hp_rt p q < 21 := by
  unfold hp_rt
  split <;> omega
theorem hp_rt_ow {p q : Nat} (hp : p < 3) (hq : q < 7) : hp_ow (hp_rt p q) = p := by
  unfold hp_rt
  split
  · unfold hp_ow
    rw [if_pos (by omega)]
    omega
  · unfold hp_ow
    rw [if_neg (by omega)]
    omega
theorem hp_rt_inj {p q j : Nat} (hp : p < 3) (hq : q < 7) (hj : j < 7) (h : hp_rt p j = hp_rt p q) : j = q := by
  unfold hp_rt at h
  split at h <;> split at h <;> omega
theorem hp_rt_all {p r : Nat} (hr : r < 21) (h : hp_ow r = p) : ∃ q, q < 7 ∧ r = hp_rt p q := by
  unfold hp_ow at h
  split at h
  · refine ⟨r - 4 * p, by omega, ?_⟩
    unfold hp_rt
    rw [if_pos (by omega)]
    omega
  · refine ⟨r - 8 - 3 * p, by omega, ?_⟩
    unfold hp_rt
    rw [if_neg (by omega)]
    omega
def hp_vq (A : hp_P) (p : Nat) : Nat → List Nat
  | 0 => []
  | q + 1 => hp_vi (hp_vq A p q) (hp_pl A (hp_rt p q))
/-- the reached pairs in the order in which they are found -/
def hp_L (A : hp_P) (p : Nat) : List Nat := hp_bf (hp_hd A p) (hp_tl A p) 20 0 (hp_vq A p 7)
theorem hp_ok_0 (n : Nat) : hp_ok n [] := ⟨List.nodup_nil, fun i hi => absurd hi List.not_mem_nil⟩
theorem hp_vq_ok {A : hp_P} {p : Nat} (g : hp_G A) (hp : p < 3) : ∀ q, q ≤ 7 → hp_ok (hp_n A p) (hp_vq A p q) := by
  intro q
  induction q with
  | zero => exact fun _ => hp_ok_0 _
  | succ q ih =>
    intro hq
    have k := g.1 _ (hp_rt_lt hp (show q < 7 by omega))
    rw [hp_rt_ow hp (by omega)] at k
    exact hp_vi_ok (ih (by omega)) k
theorem hp_vq_in (A : hp_P) (p : Nat) : ∀ q j, j < q → hp_cl (fun i => i ∈ hp_vq A p q) (hp_pl A (hp_rt p j)) := by
  intro q
  induction q with
  | zero => exact fun j hj => absurd hj (by omega)
  | succ q ih =>
    intro j hj
    by_cases e : j = q
    · subst e
      exact hp_vi_in _ _
    · exact hp_cl_ex (hp_vi_ex _ _) (ih j (by omega))
theorem hp_L_ok {A : hp_P} {p : Nat} (g : hp_G A) (hp : p < 3) : hp_ok (hp_n A p) (hp_L A p) ∧ hp_ex (hp_vq A p 7) (hp_L A p) ∧ ∀ i, i ∈ hp_L A p → hp_cl (fun x => x ∈ hp_L A p) (hp_hd A p i) ∧ hp_cl (fun x => x ∈ hp_L A p) (hp_tl A p i) :=
  hp_bf_ok (g.2 p hp).1 (g.2 p hp).2.2 20 0 _ (by omega) (hp_vq_ok g hp 7 (by omega)) (fun j hj => absurd hj (by omega))
theorem hp_L_rt {A : hp_P} {p r : Nat} (g : hp_G A) (hp : p < 3) (hr : r < 21) (ho : hp_ow r = p) : hp_cl (fun x => x ∈ hp_L A p) (hp_pl A r) := by
  obtain ⟨q, hq, rfl⟩ := hp_rt_all hr ho
  exact hp_cl_ex (hp_L_ok g hp).2.1 (hp_vq_in A p 7 q hq)
/-! a collection -/
def hp_co (A : hp_P) (p : Nat) : hp_P :=
  (fun r => if hp_ow r = p then hp_rn (fun i => hp_ix i (hp_L A p)) (hp_pl A r) else hp_pl A r,
   fun q j => if q = p then hp_rn (fun i => hp_ix i (hp_L A p)) (hp_hd A p (hp_at (hp_L A p) j)) else hp_hd A q j,
   fun q j => if q = p then hp_rn (fun i => hp_ix i (hp_L A p)) (hp_tl A p (hp_at (hp_L A p) j)) else hp_tl A q j,
   fun q => if q = p then (hp_L A p).length else hp_n A q, hp_w A)
theorem hp_co_p (A : hp_P) {p r : Nat} (h : hp_ow r = p) : hp_pl (hp_co A p) r = hp_rn (fun i => hp_ix i (hp_L A p)) (hp_pl A r) := if_pos h
theorem hp_co_po (A : hp_P) {p r : Nat} (h : ¬ hp_ow r = p) : hp_pl (hp_co A p) r = hp_pl A r := if_neg h
theorem hp_co_h (A : hp_P) (p j : Nat) : hp_hd (hp_co A p) p j = hp_rn (fun i => hp_ix i (hp_L A p)) (hp_hd A p (hp_at (hp_L A p) j)) := if_pos rfl
theorem hp_co_t (A : hp_P) (p j : Nat) : hp_tl (hp_co A p) p j = hp_rn (fun i => hp_ix i (hp_L A p)) (hp_tl A p (hp_at (hp_L A p) j)) := if_pos rfl
theorem hp_co_ho (A : hp_P) {p q : Nat} (j : Nat) (h : ¬ q = p) : hp_hd (hp_co A p) q j = hp_hd A q j := if_neg h
theorem hp_co_to (A : hp_P) {p q : Nat} (j : Nat) (h : ¬ q = p) : hp_tl (hp_co A p) q j = hp_tl A q j := if_neg h
theorem hp_co_n (A : hp_P) (p : Nat) : hp_n (hp_co A p) p = (hp_L A p).length := if_pos rfl
theorem hp_co_no (A : hp_P) {p q : Nat} (h : ¬ q = p) : hp_n (hp_co A p) q = hp_n A q := if_neg h
theorem hp_gd_rn {n m : Nat} {f : Nat → Nat} {S : Nat → Prop} {t : hp_T} (g : hp_gd n t) (c : hp_cl S t) (h : ∀ i, S i → f i < m) : hp_gd m (hp_rn f t) := by
  cases t with
  | inl i => exact h i c
  | inr x => exact g
theorem hp_G_co {A : hp_P} {p : Nat} (g : hp_G A) (hp : p < 3) : hp_G (hp_co A p) := by
  have hL := hp_L_ok g hp
  have hl := hp_ok_len hL.1
  have hn := (g.2 p hp).1
  refine ⟨fun r hr => ?_, fun q hq => ?_⟩
  · by_cases e : hp_ow r = p
    · rw [hp_co_p A e, e, hp_co_n]
      exact hp_gd_rn (g.1 r hr) (hp_L_rt g hp hr e) (fun i hi => hp_ix_lt hi)
    · rw [hp_co_po A e, hp_co_no A e]
      exact g.1 r hr
  · by_cases e : q = p
    · subst e
      rw [hp_co_n]
      refine ⟨by omega, (g.2 q hq).2.1, fun i hi => ?_⟩
      rw [hp_co_h, hp_co_t]
      have hm := hp_at_mem hi
      have c := hL.2.2 _ hm
      have d := (g.2 q hq).2.2 _ (hL.1.2 _ hm)
      exact ⟨hp_gd_rn d.1 c.1 (fun i hi => hp_ix_lt hi), hp_gd_rn d.2 c.2 (fun i hi => hp_ix_lt hi)⟩
    · rw [hp_co_no A e]
      refine ⟨(g.2 q hq).1, (g.2 q hq).2.1, fun i hi => ?_⟩
      rw [hp_co_ho A i e, hp_co_to A i e]
      exact (g.2 q hq).2.2 i hi
theorem hp_ct_co {A : hp_P} {p : Nat} (g : hp_G A) (hp : p < 3) (id : Nat) : hp_ct (hp_co A p) id + hp_sm (fun i => if i ∈ hp_L A p then 0 else hp_pc A p id i) (hp_n A p) = hp_ct A id := by
  have hL := hp_L_ok g hp
  have k := hp_ct_hp (A := A) (B := hp_co A p) (id := id) hp (fun r _ => by
    by_cases e : hp_ow r = p
    · rw [hp_co_p A e, hp_bl_rn]
    · rw [hp_co_po A e]) (fun q _ hq => by
    unfold hp_hc
    rw [hp_co_no A hq]
    refine hp_sm_c (fun i _ => ?_)
    unfold hp_pc
    rw [hp_co_ho A i hq, hp_co_to A i hq])
  have k2 : hp_hc (hp_co A p) id p = hp_ls (hp_pc A p id) (hp_L A p) := by
    rw [hp_ls_at]
    unfold hp_hc
    rw [hp_co_n]
    refine hp_sm_c (fun j _ => ?_)
    show hp_pc (hp_co A p) p id j = hp_pc A p id (hp_at (hp_L A p) j)
    unfold hp_pc
    rw [hp_co_h, hp_co_t, hp_bl_rn, hp_bl_rn]
  have k3 := hp_pt (hp_pc A p id) hL.1
  have k4 : hp_hc A id p = hp_sm (hp_pc A p id) (hp_n A p) := rfl
  omega
/-! equal where it matters -/
def hp_E (A B : hp_P) : Prop := (∀ r, r < 21 → hp_pl B r = hp_pl A r) ∧ ∀ p, p < 3 → hp_n B p = hp_n A p ∧ hp_w B p = hp_w A p ∧ ∀ i, i < hp_n A p → hp_hd B p i = hp_hd A p i ∧ hp_tl B p i = hp_tl A p i
theorem hp_E_ct {A B : hp_P} (e : hp_E A B) (id : Nat) : hp_ct B id = hp_ct A id := by
  unfold hp_ct
  have k1 : hp_sm (fun r => hp_bl id (hp_pl B r)) 21 = hp_sm (fun r => hp_bl id (hp_pl A r)) 21 := hp_sm_c (fun r hr => by
    show hp_bl id (hp_pl B r) = hp_bl id (hp_pl A r)
    rw [e.1 r hr])
  have k2 : hp_sm (hp_hc B id) 3 = hp_sm (hp_hc A id) 3 := hp_sm_c (fun p hp => by
    unfold hp_hc
    rw [(e.2 p hp).1]
    refine hp_sm_c (fun i hi => ?_)
    unfold hp_pc
    have q := (e.2 p hp).2.2 i hi
    rw [q.1, q.2])
  rw [k1, k2]
theorem hp_E_G {A B : hp_P} (e : hp_E A B) (g : hp_G A) : hp_G B := by
  refine ⟨fun r hr => ?_, fun p hp => ?_⟩
  · rw [e.1 r hr, (e.2 _ (hp_ow_lt hr)).1]
    exact g.1 r hr
  · have q := e.2 p hp
    have k := g.2 p hp
    rw [q.1, q.2.1]
    refine ⟨k.1, k.2.1, fun i hi => ?_⟩
    rw [(q.2.2 i hi).1, (q.2.2 i hi).2]
    exact k.2.2 i hi
end
section
/-- g carries the heap p of A, as far as S reaches, to that of B; all else is the same -/
def hp_S (p : Nat) (A B : hp_P) : Prop := ∃ (g : Nat → Nat) (S : Nat → Prop), (∀ i j, S i → S j → g i = g j → i = j) ∧
  (∀ r, r < 21 → hp_ow r = p → hp_cl S (hp_pl A r) ∧ hp_pl B r = hp_rn g (hp_pl A r)) ∧
  (∀ r, r < 21 → ¬ hp_ow r = p → hp_pl B r = hp_pl A r) ∧
  (∀ i, S i → hp_cl S (hp_hd A p i) ∧ hp_hd B p (g i) = hp_rn g (hp_hd A p i) ∧ hp_cl S (hp_tl A p i) ∧ hp_tl B p (g i) = hp_rn g (hp_tl A p i)) ∧
  (∀ q, q < 3 → (¬ q = p → hp_n B q = hp_n A q ∧ ∀ i, i < hp_n A q → hp_hd B q i = hp_hd A q i ∧ hp_tl B q i = hp_tl A q i) ∧ hp_w B q = hp_w A q)
theorem hp_ix_inj {L : List Nat} {i j : Nat} (hi : i ∈ L) (hj : j ∈ L) (h : hp_ix i L = hp_ix j L) : i = j := by
  rw [← hp_at_ix hi, ← hp_at_ix hj, h]
theorem hp_S_co {A : hp_P} {p : Nat} (g : hp_G A) (hp : p < 3) : hp_S p A (hp_co A p) := by
  have hL := hp_L_ok g hp
  refine ⟨fun i => hp_ix i (hp_L A p), fun i => i ∈ hp_L A p, fun i j hi hj h => hp_ix_inj hi hj h, fun r hr ho => ⟨hp_L_rt g hp hr ho, hp_co_p A ho⟩, fun r hr ho => hp_co_po A ho, fun i hi => ?_, fun q hq => ⟨fun e => ⟨hp_co_no A e, fun i hi => ⟨hp_co_ho A i e, hp_co_to A i e⟩⟩, rfl⟩⟩
  have c := hL.2.2 i hi
  refine ⟨c.1, ?_, c.2, ?_⟩
  · rw [hp_co_h, hp_at_ix hi]
  · rw [hp_co_t, hp_at_ix hi]
/-- a part of the pair at register s goes to register d -/
def hp_pa (A : hp_P) (p d s : Nat) (b : Bool) : hp_P := match hp_pl A (4 * p + s) with
  | Sum.inl i => hp_as A (4 * p + d) (if b = true then hp_hd A p i else hp_tl A p i)
  | Sum.inr _ => A
def hp_pr (A : hp_P) (p s : Nat) : Int32 := match hp_pl A (4 * p + s) with
  | Sum.inl _ => 0
  | Sum.inr _ => -3
theorem hp_pa_l {A : hp_P} {p s i : Nat} (d : Nat) (b : Bool) (h : hp_pl A (4 * p + s) = Sum.inl i) : hp_pa A p d s b = hp_as A (4 * p + d) (if b = true then hp_hd A p i else hp_tl A p i) := by
  unfold hp_pa
  rw [h]
theorem hp_pa_r {A : hp_P} {p s : Nat} {x : Int32 × Int32} (d : Nat) (b : Bool) (h : hp_pl A (4 * p + s) = Sum.inr x) : hp_pa A p d s b = A := by
  unfold hp_pa
  rw [h]
theorem hp_pr_l {A : hp_P} {p s i : Nat} (h : hp_pl A (4 * p + s) = Sum.inl i) : hp_pr A p s = 0 := by
  unfold hp_pr
  rw [h]
theorem hp_pr_r {A : hp_P} {p s : Nat} {x : Int32 × Int32} (h : hp_pl A (4 * p + s) = Sum.inr x) : hp_pr A p s = -3 := by
  unfold hp_pr
  rw [h]
theorem hp_ow4 {p r : Nat} (hp : p < 3) (hr : r < 4) : hp_ow (4 * p + r) = p := by
  unfold hp_ow
  rw [if_pos (by omega)]
  omega
theorem hp_S_pa {A B : hp_P} {p d s : Nat} (b : Bool) (hp : p < 3) (hd : d < 4) (hs : s < 4) (h : hp_S p A B) : hp_S p (hp_pa A p d s b) (hp_pa B p d s b) ∧ hp_pr A p s = hp_pr B p s := by
  obtain ⟨g, S, inj, h1, h2, h3, h4⟩ := h
  have hx := h1 (4 * p + s) (by omega) (hp_ow4 hp hs)
  cases e : hp_pl A (4 * p + s) with
  | inr x =>
    have e' : hp_pl B (4 * p + s) = Sum.inr x := by rw [hx.2, e]; rfl
    rw [hp_pa_r d b e, hp_pa_r d b e', hp_pr_r e, hp_pr_r e']
    exact ⟨⟨g, S, inj, h1, h2, h3, h4⟩, rfl⟩
  | inl i =>
    have e' : hp_pl B (4 * p + s) = Sum.inl (g i) := by rw [hx.2, e]; rfl
    have hi : S i := by
      have := hx.1
      rw [e] at this
      exact this
    rw [hp_pa_l d b e, hp_pa_l d b e', hp_pr_l e, hp_pr_l e']
    refine ⟨⟨g, S, inj, fun r hr ho => ?_, fun r hr ho => ?_, h3, h4⟩, rfl⟩
    · have k := h3 i hi
      by_cases er : r = 4 * p + d
      · subst er
        rw [hp_as_s, hp_as_s]
        cases b with
        | true => exact ⟨k.1, k.2.1⟩
        | false => exact ⟨k.2.2.1, k.2.2.2⟩
      · rw [hp_as_o A _ er, hp_as_o B _ er]
        exact h1 r hr ho
    · have er : r ≠ 4 * p + d := fun z => ho (by rw [z]; exact hp_ow4 hp hd)
      rw [hp_as_o A _ er, hp_as_o B _ er]
      exact h2 r hr ho
theorem hp_G_pa {A : hp_P} {p d s : Nat} (b : Bool) (g : hp_G A) (hp : p < 3) (hd : d < 4) (hs : s < 4) : hp_G (hp_pa A p d s b) := by
  cases e : hp_pl A (4 * p + s) with
  | inr x => rw [hp_pa_r d b e]; exact g
  | inl i =>
    rw [hp_pa_l d b e]
    refine hp_G_as g ?_
    rw [hp_ow4 hp hd]
    have k := g.1 (4 * p + s) (by omega)
    rw [hp_ow4 hp hs, e] at k
    have k' := (g.2 p hp).2.2 i k
    cases b with
    | true => exact k'.1
    | false => exact k'.2
theorem hp_vq_S {A B : hp_P} {p : Nat} {g : Nat → Nat} {S : Nat → Prop} (hp : p < 3) (inj : ∀ i j, S i → S j → g i = g j → i = j) (h1 : ∀ r, r < 21 → hp_ow r = p → hp_cl S (hp_pl A r) ∧ hp_pl B r = hp_rn g (hp_pl A r)) : ∀ q, q ≤ 7 → hp_vq B p q = (hp_vq A p q).map g ∧ ∀ i, i ∈ hp_vq A p q → S i := by
  intro q
  induction q with
  | zero => exact fun _ => ⟨rfl, fun i hi => absurd hi List.not_mem_nil⟩
  | succ q ih =>
    intro hq
    have k := ih (by omega)
    have k1 := h1 (hp_rt p q) (hp_rt_lt hp (by omega)) (hp_rt_ow hp (by omega))
    refine ⟨?_, hp_vi_sub k.2 k1.1⟩
    show hp_vi (hp_vq B p q) (hp_pl B (hp_rt p q)) = (hp_vi (hp_vq A p q) (hp_pl A (hp_rt p q))).map g
    rw [k.1, k1.2, hp_vi_map inj k.2 k1.1]
theorem hp_rn_rn {g f f' : Nat → Nat} {S : Nat → Prop} {t : hp_T} (c : hp_cl S t) (h : ∀ i, S i → f' (g i) = f i) : hp_rn f' (hp_rn g t) = hp_rn f t := by
  cases t with
  | inl i =>
    show (Sum.inl (f' (g i)) : hp_T) = Sum.inl (f i)
    rw [h i c]
  | inr x => rfl
theorem hp_S_E {A B : hp_P} {p : Nat} (hp : p < 3) (h : hp_S p A B) : hp_E (hp_co B p) (hp_co A p) := by
  obtain ⟨g, S, inj, h1, h2, h3, h4⟩ := h
  have hv := hp_vq_S hp inj h1 7 (by omega)
  have hb := hp_bf_map (H := hp_hd A p) (T := hp_tl A p) (H' := hp_hd B p) (T' := hp_tl B p) inj h3 20 0 (hp_vq A p 7) hv.2
  have hl : hp_L B p = (hp_L A p).map g := by
    unfold hp_L
    rw [hv.1]
    exact hb.1
  have hs : ∀ i, i ∈ hp_L A p → S i := hb.2
  have hi : ∀ i, S i → hp_ix (g i) (hp_L B p) = hp_ix i (hp_L A p) := fun i hi => by
    rw [hl]
    exact hp_ix_map inj hs hi
  refine ⟨fun r hr => ?_, fun q hq => ?_⟩
  · by_cases e : hp_ow r = p
    · rw [hp_co_p A e, hp_co_p B e, (h1 r hr e).2]
      exact (hp_rn_rn (h1 r hr e).1 hi).symm
    · rw [hp_co_po A e, hp_co_po B e]
      exact (h2 r hr e).symm
  · by_cases e : q = p
    · subst e
      rw [hp_co_n, hp_co_n, hl, List.length_map]
      refine ⟨rfl, ((h4 q hq).2).symm, fun j hj => ?_⟩
      have k := h3 _ (hs _ (hp_at_mem hj))
      rw [hp_co_h, hp_co_h, hp_co_t, hp_co_t, hl, hp_at_map g hj, k.2.1, k.2.2.2, ← hl]
      exact ⟨(hp_rn_rn k.1 hi).symm, (hp_rn_rn k.2.2.1 hi).symm⟩
    · have k := (h4 q hq).1 e
      rw [hp_co_no A e, hp_co_no B e]
      refine ⟨k.1.symm, ((h4 q hq).2).symm, fun j hj => ?_⟩
      rw [hp_co_ho A j e, hp_co_ho B j e, hp_co_to A j e, hp_co_to B j e]
      rw [k.1] at hj
      exact ⟨(k.2 j hj).1.symm, (k.2 j hj).2.symm⟩
/-! the pairs of one term -/
def hp_K (A : hp_P) (p r : Nat) : List Nat := hp_bf (hp_hd A p) (hp_tl A p) 20 0 (hp_vi [] (hp_pl A r))
theorem hp_K_ok {A : hp_P} {p r : Nat} (g : hp_G A) (hp : p < 3) (hr : r < 21) (ho : hp_ow r = p) : hp_ok (hp_n A p) (hp_K A p r) ∧ hp_cl (fun x => x ∈ hp_K A p r) (hp_pl A r) ∧ ∀ i, i ∈ hp_K A p r → hp_cl (fun x => x ∈ hp_K A p r) (hp_hd A p i) ∧ hp_cl (fun x => x ∈ hp_K A p r) (hp_tl A p i) := by
  have k := g.1 r hr
  rw [ho] at k
  have h := hp_bf_ok (g.2 p hp).1 (g.2 p hp).2.2 20 0 (hp_vi [] (hp_pl A r)) (by omega) (hp_vi_ok (hp_ok_0 _) k) (fun j hj => absurd hj (by omega))
  exact ⟨h.1, hp_cl_ex h.2.1 (hp_vi_in _ _), h.2.2⟩
theorem hp_K_co {A : hp_P} {p to r : Nat} (g : hp_G A) (hp : p < 3) (hr : r < 21) (ho : hp_ow r = p) : (hp_K (hp_co A to) p r).length = (hp_K A p r).length := by
  by_cases e : p = to
  · subst e
    obtain ⟨f, S, inj, h1, h2, h3, h4⟩ := hp_S_co g hp
    have k := h1 r hr ho
    have hv : hp_vi [] (hp_pl (hp_co A p) r) = (hp_vi [] (hp_pl A r)).map f := by
      rw [k.2]
      exact hp_vi_map (L := []) inj (fun i hi => absurd hi List.not_mem_nil) k.1
    have hb := hp_bf_map (H := hp_hd A p) (T := hp_tl A p) (H' := hp_hd (hp_co A p) p) (T' := hp_tl (hp_co A p) p) inj h3 20 0 (hp_vi [] (hp_pl A r)) (hp_vi_sub (fun i hi => absurd hi List.not_mem_nil) k.1)
    unfold hp_K
    rw [hv, hb.1, List.length_map]
  · have e1 : hp_pl (hp_co A to) r = hp_pl A r := hp_co_po A (by rw [ho]; exact e)
    have e2 : hp_hd (hp_co A to) p = hp_hd A p := funext fun j => hp_co_ho A j e
    have e3 : hp_tl (hp_co A to) p = hp_tl A p := funext fun j => hp_co_to A j e
    unfold hp_K
    rw [e1, e2, e3]
/-! a copy -/
def hp_cp (A : hp_P) (H T : Nat → hp_T) (to m : Nat) (L : List Nat) : Nat → hp_P
  | 0 => A
  | k + 1 => hp_ap (hp_cp A H T to m L k) to (hp_rn (fun i => m + hp_ix i L) (H (hp_at L k))) (hp_rn (fun i => m + hp_ix i L) (T (hp_at L k)))
theorem hp_cp_n (A : hp_P) (H T : Nat → hp_T) (to m : Nat) (L : List Nat) : ∀ k, hp_n (hp_cp A H T to m L k) to = hp_n A to + k ∧ (∀ q, ¬ q = to → hp_n (hp_cp A H T to m L k) q = hp_n A q) ∧ hp_pl (hp_cp A H T to m L k) = hp_pl A ∧ hp_w (hp_cp A H T to m L k) = hp_w A := by
  intro k
  induction k with
  | zero => exact ⟨rfl, fun q _ => rfl, rfl, rfl⟩
  | succ k ih =>
    refine ⟨?_, fun q hq => ?_, ih.2.2.1, ih.2.2.2⟩
    · show hp_n (hp_ap _ to _ _) to = _
      rw [hp_ap_n, ih.1]
      rfl
    · show hp_n (hp_ap _ to _ _) q = _
      rw [hp_ap_no _ _ _ hq, ih.2.1 q hq]
theorem hp_cp_old (A : hp_P) (H T : Nat → hp_T) (to m : Nat) (L : List Nat) : ∀ k q i, i < hp_n A q → hp_hd (hp_cp A H T to m L k) q i = hp_hd A q i ∧ hp_tl (hp_cp A H T to m L k) q i = hp_tl A q i := by
  intro k
  induction k with
  | zero => exact fun q i _ => ⟨rfl, rfl⟩
  | succ k ih =>
    intro q i hi
    have hn : ¬ (q = to ∧ i = hp_n (hp_cp A H T to m L k) to) := fun z => by
      have z2 := z.2
      rw [(hp_cp_n A H T to m L k).1, ← z.1] at z2
      omega
    have e1 : hp_hd (hp_cp A H T to m L (k + 1)) q i = hp_hd (hp_cp A H T to m L k) q i := hp_ap_ho _ _ _ hn
    have e2 : hp_tl (hp_cp A H T to m L (k + 1)) q i = hp_tl (hp_cp A H T to m L k) q i := hp_ap_to _ _ _ hn
    rw [e1, e2]
    exact ih q i hi
theorem hp_gd_le {n m : Nat} {t : hp_T} (h : n ≤ m) (g : hp_gd n t) : hp_gd m t := by
  cases t with
  | inl i => exact Nat.lt_of_lt_of_le g h
  | inr x => exact g
theorem hp_cp_gd {A : hp_P} {p to : Nat} {L : List Nat} {N : Nat} (g : hp_G A) (hp : p < 3) (ht : to < 3) (hN : N = hp_n A to + L.length) (ok : hp_ok (hp_n A p) L) (c : ∀ i, i ∈ L → hp_cl (fun x => x ∈ L) (hp_hd A p i) ∧ hp_cl (fun x => x ∈ L) (hp_tl A p i)) :
    ∀ k, k ≤ L.length → ∀ i, i < hp_n A to + k → hp_gd N (hp_hd (hp_cp A (hp_hd A p) (hp_tl A p) to (hp_n A to) L k) to i) ∧ hp_gd N (hp_tl (hp_cp A (hp_hd A p) (hp_tl A p) to (hp_n A to) L k) to i) := by
  intro k
  induction k with
  | zero =>
    intro _ i hi
    have d := (g.2 to ht).2.2 i hi
    exact ⟨hp_gd_le (by omega) d.1, hp_gd_le (by omega) d.2⟩
  | succ k ih =>
    intro hk i hi
    have hn := (hp_cp_n A (hp_hd A p) (hp_tl A p) to (hp_n A to) L k).1
    by_cases e : i = hp_n A to + k
    · have hm := hp_at_mem (show k < L.length by omega)
      have d := (g.2 p hp).2.2 _ (ok.2 _ hm)
      have e1 : hp_hd (hp_cp A (hp_hd A p) (hp_tl A p) to (hp_n A to) L (k + 1)) to i = hp_rn (fun i => hp_n A to + hp_ix i L) (hp_hd A p (hp_at L k)) := by
        rw [e, ← hn]
        exact hp_ap_h _ _ _ _
      have e2 : hp_tl (hp_cp A (hp_hd A p) (hp_tl A p) to (hp_n A to) L (k + 1)) to i = hp_rn (fun i => hp_n A to + hp_ix i L) (hp_tl A p (hp_at L k)) := by
        rw [e, ← hn]
        exact hp_ap_t _ _ _ _
      rw [e1, e2]
      have b : ∀ x, x ∈ L → hp_n A to + hp_ix x L < N := fun x hx => by
        have := hp_ix_lt hx
        omega
      exact ⟨hp_gd_rn d.1 (c _ hm).1 b, hp_gd_rn d.2 (c _ hm).2 b⟩
    · have hn' : ¬ (to = to ∧ i = hp_n (hp_cp A (hp_hd A p) (hp_tl A p) to (hp_n A to) L k) to) := fun z => by
        have z2 := z.2
        rw [hn] at z2
        exact e z2
      have e1 : hp_hd (hp_cp A (hp_hd A p) (hp_tl A p) to (hp_n A to) L (k + 1)) to i = hp_hd (hp_cp A (hp_hd A p) (hp_tl A p) to (hp_n A to) L k) to i := hp_ap_ho _ _ _ hn'
      have e2 : hp_tl (hp_cp A (hp_hd A p) (hp_tl A p) to (hp_n A to) L (k + 1)) to i = hp_tl (hp_cp A (hp_hd A p) (hp_tl A p) to (hp_n A to) L k) to i := hp_ap_to _ _ _ hn'
      rw [e1, e2]
      exact ih (by omega) i (by omega)
theorem hp_cp_G {A : hp_P} {p to : Nat} {L : List Nat} (g : hp_G A) (hp : p < 3) (ht : to < 3) (hN : hp_n A to + L.length ≤ 20) (ok : hp_ok (hp_n A p) L) (c : ∀ i, i ∈ L → hp_cl (fun x => x ∈ L) (hp_hd A p i) ∧ hp_cl (fun x => x ∈ L) (hp_tl A p i)) :
    hp_G (hp_cp A (hp_hd A p) (hp_tl A p) to (hp_n A to) L L.length) := by
  have hn := hp_cp_n A (hp_hd A p) (hp_tl A p) to (hp_n A to) L L.length
  refine ⟨fun r hr => ?_, fun q hq => ?_⟩
  · rw [hn.2.2.1]
    by_cases e : hp_ow r = to
    · rw [e, hn.1]
      refine hp_gd_le (Nat.le_add_right _ _) ?_
      rw [← e]
      exact g.1 r hr
    · rw [hn.2.1 _ e]
      exact g.1 r hr
  · rw [hn.2.2.2]
    by_cases e : q = to
    · subst e
      rw [hn.1]
      refine ⟨hN, (g.2 q hq).2.1, fun i hi => ?_⟩
      exact hp_cp_gd g hp ht rfl ok c L.length (Nat.le_refl _) i hi
    · rw [hn.2.1 q e]
      refine ⟨(g.2 q hq).1, (g.2 q hq).2.1, fun i hi => ?_⟩
      have o := hp_cp_old A (hp_hd A p) (hp_tl A p) to (hp_n A to) L L.length q i hi
      rw [o.1, o.2]
      exact (g.2 q hq).2.2 i hi
end
section
theorem hp_in {n N : Nat} (h : n < N) (hN : N < 2 ^ 31 := by decide) : vp_in (nI n) N := vp_in_nI h hN
abbrev hs_li (u : St1) : Int32 := u.1
abbrev hs_pk (u : St1) : Nat → Int32 := u.2.1
abbrev hs_pv (u : St1) : Nat → Int32 := u.2.2.1
abbrev hs_wt (u : St1) : Nat → Int32 := u.2.2.2.1
abbrev hs_hf (u : St1) : Nat → Int32 := u.2.2.2.2.1
abbrev hs_us (u : St1) : Nat → Int32 := u.2.2.2.2.2.1
abbrev hs_hk (u : St1) : Nat → Int32 := u.2.2.2.2.2.2.1
abbrev hs_hv (u : St1) : Nat → Int32 := u.2.2.2.2.2.2.2.1
abbrev hs_tk (u : St1) : Nat → Int32 := u.2.2.2.2.2.2.2.2.1
abbrev hs_tv (u : St1) : Nat → Int32 := u.2.2.2.2.2.2.2.2.2.1
abbrev hs_fw (u : St1) : Nat → Int32 := u.2.2.2.2.2.2.2.2.2.2.1
abbrev hs_ho (u : St1) : Nat → Int32 := u.2.2.2.2.2.2.2.2.2.2.2.1
abbrev hs_ls (u : St1) : Nat → Int32 := u.2.2.2.2.2.2.2.2.2.2.2.2
/-- kind and value hold the term t, pairs counted from b -/
def hp_tm (b : Nat) (t : hp_T) (k v : Int32) : Prop := k = hp_kd t ∧ v = hp_vl b t
/-- where the living half of process p begins -/
def hp_bs (h : Nat → Nat) (p : Nat) : Nat := 40 * p + 20 * h p
/-- the state holds the picture, its halves h, its used counters U -/
def hp_N (h : Nat → Nat) (A : hp_P) (U : Nat → Nat) (u : St1) : Prop :=
  (∀ r, r < 21 → hp_tm (hp_bs h (hp_ow r)) (hp_pl A r) (hs_pk u r) (hs_pv u r)) ∧
  (∀ p, p < 3 → h p ≤ 1 ∧ hs_wt u p = nI (hp_w A p) ∧ hs_hf u p = nI (h p) ∧ hs_us u p = nI (U p)) ∧
  (∀ p, p < 3 → ∀ i, i < hp_n A p → hp_tm (hp_bs h p) (hp_hd A p i) (hs_hk u (hp_bs h p + i)) (hs_hv u (hp_bs h p + i)) ∧ hp_tm (hp_bs h p) (hp_tl A p i) (hs_tk u (hp_bs h p + i)) (hs_tv u (hp_bs h p + i))) ∧
  (∀ id, id < 6 → hs_ho u id = nI (hp_ct A id))
def hp_F (u : St1) : Prop := ∀ c, c < 120 → hs_fw u c = -1
def hp_Y (h : Nat → Nat) (A : hp_P) (u : St1) : Prop := hp_G A ∧ hp_F u ∧ hp_N h A (hp_n A) u
def hp_X (A : hp_P) (u : St1) : Prop := ∃ h, hp_Y h A u
theorem hp_E_N {h U : Nat → Nat} {A B : hp_P} {u : St1} (e : hp_E A B) (m : hp_N h A U u) : hp_N h B U u := by
  refine ⟨fun r hr => ?_, fun p hp => ?_, fun p hp i hi => ?_, fun id hid => ?_⟩
  · rw [e.1 r hr]
    exact m.1 r hr
  · rw [(e.2 p hp).2.1]
    exact m.2.1 p hp
  · have q := e.2 p hp
    rw [q.1] at hi
    rw [(q.2.2 i hi).1, (q.2.2 i hi).2]
    exact m.2.2.1 p hp i hi
  · rw [hp_E_ct e]
    exact m.2.2.2 id hid
theorem hp_U_N {h U V : Nat → Nat} {A : hp_P} {u : St1} (e : ∀ p, p < 3 → V p = U p) (m : hp_N h A U u) : hp_N h A V u :=
  ⟨m.1, fun p hp => by rw [e p hp]; exact m.2.1 p hp, m.2.2⟩
theorem hp_E_X {A B : hp_P} {u : St1} (e : hp_E A B) (x : hp_X A u) : hp_X B u := by
  obtain ⟨h, g, f, m⟩ := x
  exact ⟨h, hp_E_G e g, f, hp_U_N (fun p hp => (e.2 p hp).1) (hp_E_N e m)⟩
theorem hp_in6 {n b : Nat} {t : hp_T} (g : hp_gd n t) : hp_kd t = 3 → vp_in (hp_vl b t) 6 := by
  intro z
  cases t with
  | inl i => exact absurd z (show ¬ (2 : Int32) = 3 by decide)
  | inr x =>
    obtain ⟨j, hj, e⟩ := g.2 z
    show vp_in x.2 6
    rw [e]
    exact vp_in_nI hj (by decide)
/-! holders -/
def hp_hl (o : Nat → Int32) (k v : Int32) : Nat → Int32 := if k = 3 then upd o v.toNatClampNeg (o v.toNatClampNeg + 1) else o
def hp_lg (o : Nat → Int32) (k v : Int32) : Nat → Int32 := if k = 3 then upd o v.toNatClampNeg (o v.toNatClampNeg - 1) else o
theorem hp_hl_t {n b id : Nat} {t : hp_T} {o : Nat → Int32} (g : hp_gd n t) (hid : id < 6) : hp_hl o (hp_kd t) (hp_vl b t) id = o id + nI (hp_bl id t) := by
  cases t with
  | inl i =>
    show (if (2 : Int32) = 3 then _ else o) id = o id + nI 0
    rw [if_neg (by decide), nI_0]
    exact (Int32.add_zero _).symm
  | inr x =>
    show (if x.1 = 3 then upd o x.2.toNatClampNeg (o x.2.toNatClampNeg + 1) else o) id = o id + nI (if x.1 = 3 ∧ x.2 = nI id then 1 else 0)
    by_cases z : x.1 = 3
    · obtain ⟨j, hj, e⟩ := g.2 z
      rw [if_pos z, e, nI_clamp (by omega)]
      by_cases y : id = j
      · subst y
        rw [pk_us, if_pos ⟨z, rfl⟩]
        rfl
      · rw [pk_un y, if_neg (fun w => y (((nI_eq (by omega) (by omega)).mp w.2).symm)), nI_0]
        exact (Int32.add_zero _).symm
    · rw [if_neg z, if_neg (fun w => z w.1), nI_0]
      exact (Int32.add_zero _).symm
theorem hp_lg_t {n b id : Nat} {t : hp_T} {o : Nat → Int32} (g : hp_gd n t) (hid : id < 6) : hp_lg o (hp_kd t) (hp_vl b t) id = o id - nI (hp_bl id t) := by
  cases t with
  | inl i =>
    show (if (2 : Int32) = 3 then _ else o) id = o id - nI 0
    rw [if_neg (by decide), nI_0]
    exact (Int32.sub_zero _).symm
  | inr x =>
    show (if x.1 = 3 then upd o x.2.toNatClampNeg (o x.2.toNatClampNeg - 1) else o) id = o id - nI (if x.1 = 3 ∧ x.2 = nI id then 1 else 0)
    by_cases z : x.1 = 3
    · obtain ⟨j, hj, e⟩ := g.2 z
      rw [if_pos z, e, nI_clamp (by omega)]
      by_cases y : id = j
      · subst y
        rw [pk_us, if_pos ⟨z, rfl⟩]
        rfl
      · rw [pk_un y, if_neg (fun w => y (((nI_eq (by omega) (by omega)).mp w.2).symm)), nI_0]
        exact (Int32.sub_zero _).symm
    · rw [if_neg z, if_neg (fun w => z w.1), nI_0]
      exact (Int32.sub_zero _).symm
theorem hw_hold {post : St1 → Prop} {fa : Int32} {a1 a2 a3 a4 a5 a6 a7 a8 a9 a10 a11 a12 : Nat → Int32} {k v : Int32} (hv : k = 3 → vp_in v 6) (H : post (fa, a1, a2, a3, a4, a5, a6, a7, a8, a9, a10, hp_hl a11 k v, a12)) : wpX_hold post (fa, a1, a2, a3, a4, a5, a6, a7, a8, a9, a10, a11, a12) k v := by
  unfold hp_hl at H
  exact br_c (fun z => ⟨hv z, hv z, nm_e (by rw [if_pos z] at H; exact H)⟩) (fun z => by rw [if_neg z] at H; exact H)
theorem hw_letGo {post : St1 → Prop} {fa : Int32} {a1 a2 a3 a4 a5 a6 a7 a8 a9 a10 a11 a12 : Nat → Int32} {k v : Int32} (hv : k = 3 → vp_in v 6) (H : post (fa, a1, a2, a3, a4, a5, a6, a7, a8, a9, a10, hp_lg a11 k v, a12)) : wpX_letGo post (fa, a1, a2, a3, a4, a5, a6, a7, a8, a9, a10, a11, a12) k v := by
  unfold hp_lg at H
  exact br_c (fun z => ⟨hv z, hv z, nm_e (by rw [if_pos z] at H; exact H)⟩) (fun z => by rw [if_neg z] at H; exact H)
theorem hw_asg {post : St1 → Prop} {fa : Int32} {a1 a2 a3 a4 a5 a6 a7 a8 a9 a10 a11 a12 : Nat → Int32} {p0 k v : Int32} {r : Nat} (hr : r < 21) (hp0 : p0 = nI r) (hk : k = 3 → vp_in v 6) (ho : a1 r = 3 → vp_in (a2 r) 6)
    (H : post (fa, upd a1 r k, upd a2 r v, a3, a4, a5, a6, a7, a8, a9, a10, hp_lg (hp_hl a11 k v) (a1 r) (a2 r), a12)) : wpX_assign post (fa, a1, a2, a3, a4, a5, a6, a7, a8, a9, a10, a11, a12) p0 k v := by
  subst hp0
  unfold wpX_assign
  have hc : (nI r).toNatClampNeg = r := nI_clamp (by omega)
  have hi : vp_in (nI r) 21 := pk_in r 21 hr
  refine hw_hold hk ?_
  dsimp only
  rw [hc]
  refine ⟨hi, hi, hw_letGo ho ⟨hi, nm_e ⟨hi, nm_e H⟩⟩⟩
theorem hm_asg {post : St1 → Prop} {h U : Nat → Nat} {A : hp_P} {u : St1} {r n1 n2 : Nat} {t : hp_T} {p0 k v : Int32} (m : hp_N h A U u) (hr : r < 21) (g0 : hp_gd n1 (hp_pl A r)) (gt : hp_gd n2 t) (hp0 : p0 = nI r) (hk : k = hp_kd t) (hv : v = hp_vl (hp_bs h (hp_ow r)) t)
    (H : ∀ u', hp_N h (hp_as A r t) U u' → hs_fw u' = hs_fw u → hs_li u' = hs_li u → hs_ls u' = hs_ls u → post u') : wpX_assign post u p0 k v := by
  obtain ⟨fa, a1, a2, a3, a4, a5, a6, a7, a8, a9, a10, a11, a12⟩ := u
  subst hk hv
  have m1 : a1 r = hp_kd (hp_pl A r) := (m.1 r hr).1
  have m2 : a2 r = hp_vl (hp_bs h (hp_ow r)) (hp_pl A r) := (m.1 r hr).2
  refine hw_asg hr hp0 (hp_in6 gt) (by rw [m1, m2]; exact hp_in6 g0) (H _ ?_ rfl rfl rfl)
  refine ⟨fun j hj => ?_, m.2.1, m.2.2.1, fun id hid => ?_⟩
  · show hp_tm (hp_bs h (hp_ow j)) (hp_pl (hp_as A r t) j) (upd a1 r _ j) (upd a2 r _ j)
    by_cases e : j = r
    · subst e
      rw [hp_as_s, pk_us, pk_us]
      exact ⟨rfl, rfl⟩
    · rw [hp_as_o A t e, pk_un e, pk_un e]
      exact m.1 j hj
  · show hp_lg (hp_hl a11 (hp_kd t) (hp_vl (hp_bs h (hp_ow r)) t)) (a1 r) (a2 r) id = nI (hp_ct (hp_as A r t) id)
    have m3 : a11 id = nI (hp_ct A id) := m.2.2.2 id hid
    have c := hp_ct_as A t hr id
    rw [m1, m2, hp_lg_t g0 hid, hp_hl_t gt hid, m3, nI_add, ← c, pk_sub (Nat.le_add_left _ _), Nat.add_sub_cancel]
theorem hm_as1 {post : St1 → Prop} {h : Nat → Nat} {A : hp_P} {u : St1} {r : Nat} {t : hp_T} {p0 k v : Int32} (y : hp_Y h A u) (hr : r < 21) (gt : hp_gd (hp_n A (hp_ow r)) t) (hp0 : p0 = nI r) (hk : k = hp_kd t) (hv : v = hp_vl (hp_bs h (hp_ow r)) t)
    (H : ∀ u', hp_Y h (hp_as A r t) u' → post u') : wpX_assign post u p0 k v :=
  hm_asg y.2.2 hr (y.1.1 r hr) gt hp0 hk hv (fun u' m' e _ _ => H u' ⟨hp_G_as y.1 gt, fun c hc => by rw [e]; exact y.2.1 c hc, m'⟩)
/-! small methods -/
theorem hp_40 {p a : Nat} : (4 : Int32) * nI p + nI a = nI (4 * p + a) := by
  rw [show (4 : Int32) = nI 4 from rfl, pk_mul, nI_add]
theorem hw_fits {post : Int32 → Prop} {p r : Nat} (hp : p < 3) (hr : r < 4) (H : post 1) : wpX_fits post () (nI p) (nI r) :=
  br_f (nI_pos (by omega)) (br_f (nI_nlt (a := 2) (by omega) (by decide)) (br_f (nI_pos (by omega)) (br_f (nI_nlt (a := 3) (by omega) (by decide)) H)))
theorem hp_1n0 : ¬ (1 : Int32) = 0 := by decide
theorem hw_kind {post : Int32 → Prop} {fa : Int32} {a1 a2 a3 a4 a5 a6 a7 a8 a9 a10 a11 a12 : Nat → Int32} {p r : Nat} (hp : p < 3) (hr : r < 4) (H : post (a1 (4 * p + r))) : wpX_kind post (fa, a1, a2, a3, a4, a5, a6, a7, a8, a9, a10, a11, a12) (nI p) (nI r) := by
  unfold wpX_kind
  refine hw_fits hp hr (br_f hp_1n0 ?_)
  rw [hp_40, nI_clamp (by omega)]
  exact ⟨hp_in (by omega), H⟩
theorem hw_value {post : Int32 → Prop} {fa : Int32} {a1 a2 a3 a4 a5 a6 a7 a8 a9 a10 a11 a12 : Nat → Int32} {p r : Nat} (hp : p < 3) (hr : r < 4) (H : post (if a1 (4 * p + r) = 2 then 0 else a2 (4 * p + r))) : wpX_value post (fa, a1, a2, a3, a4, a5, a6, a7, a8, a9, a10, a11, a12) (nI p) (nI r) := by
  unfold wpX_value
  refine hw_fits hp hr (br_f hp_1n0 (nm_r hp_40 ⟨hp_in (by omega), ?_⟩))
  rw [nI_clamp (by omega)]
  exact br_c (fun z => by rw [if_pos z] at H; exact H) (fun z => ⟨hp_in (by omega), by rw [if_neg z] at H; exact H⟩)
theorem hw_same {post : Int32 → Prop} {fa : Int32} {a1 a2 a3 a4 a5 a6 a7 a8 a9 a10 a11 a12 : Nat → Int32} {p r q : Nat} (hp : p < 3) (hr : r < 4) (hq : q < 4) (H : post (if a1 (4 * p + r) = a1 (4 * p + q) ∧ a2 (4 * p + r) = a2 (4 * p + q) then 1 else 0)) : wpX_same post (fa, a1, a2, a3, a4, a5, a6, a7, a8, a9, a10, a11, a12) (nI p) (nI r) (nI q) := by
  unfold wpX_same
  refine hw_fits hp hr (br_f hp_1n0 (hw_fits hp hq (br_f hp_1n0 (nm_r hp_40 (nm_r hp_40 ⟨hp_in (by omega), hp_in (by omega), ?_⟩)))))
  rw [nI_clamp (by omega), nI_clamp (by omega)]
  exact br_c (fun z => ⟨hp_in (by omega), hp_in (by omega), br_c (fun y => by rw [if_pos ⟨z, y⟩] at H; exact H) (fun y => by rw [if_neg (fun w => y w.2)] at H; exact H)⟩) (fun z => by rw [if_neg (fun w => z w.1)] at H; exact H)
theorem hw_pairs {post : Int32 → Prop} {fa : Int32} {a1 a2 a3 a4 a5 a6 a7 a8 a9 a10 a11 a12 : Nat → Int32} {p : Nat} (hp : p < 3) (H : post (a5 p)) : wpX_pairs post (fa, a1, a2, a3, a4, a5, a6, a7, a8, a9, a10, a11, a12) (nI p) := by
  unfold wpX_pairs
  refine hw_fits (r := 0) hp (by omega) (br_f hp_1n0 ?_)
  rw [nI_clamp (by omega)]
  exact ⟨hp_in (by omega), H⟩
/-! blobs kept -/
def hp_kb (o : Nat → Int32) : Nat → Nat
  | 0 => 0
  | k + 1 => hp_kb o k + (if o k ≤ 0 then 0 else 1)
theorem hp_kb_c {o o' : Nat → Int32} {n : Nat} (h : ∀ i, i < n → o i = o' i) : hp_kb o n = hp_kb o' n := by
  induction n with
  | zero => rfl
  | succ n ih =>
    show hp_kb o n + (if o n ≤ 0 then 0 else 1) = hp_kb o' n + (if o' n ≤ 0 then 0 else 1)
    rw [ih (fun i hi => h i (by omega)), h n (by omega)]
def hp_kB (A : hp_P) : Nat := hp_kb (fun id => nI (hp_ct A id)) 6
theorem hw_kept_4 {post : Int32 → Prop} {fa : Int32} {a1 a2 a3 a4 a5 a6 a7 a8 a9 a10 a11 a12 : Nat → Int32} (H : post (nI (hp_kb a11 6))) : ∀ f i, i + f = 6 → wX_keptBlobs_4 post fa a1 a2 a3 a4 a5 a6 a7 a8 a9 a10 a11 a12 (f + 1) (nI (hp_kb a11 i)) (nI i) := by
  intro f
  induction f with
  | zero =>
    intro i hi
    have e : i = 6 := by omega
    subst e
    exact pk_le 6 6 (fun _ => H) (fun z => absurd z (by omega))
  | succ f ih =>
    intro i hi
    have k := ih (i + 1) (by omega)
    refine pk_le 6 i (fun z => absurd z (by omega)) (fun _ => ⟨pk_in i 6 (by omega), ?_⟩)
    rw [nI_clamp (show i < 2 ^ 31 by omega)]
    refine br_c (fun z => nm_r (nI_1 i) ?_) (fun z => nm_r (nI_1 _) (nm_r (nI_1 i) ?_))
    · have e : hp_kb a11 (i + 1) = hp_kb a11 i := by
        show hp_kb a11 i + (if a11 i ≤ 0 then 0 else 1) = hp_kb a11 i
        rw [if_pos z]
        rfl
      rw [e] at k
      exact k
    · have e : hp_kb a11 (i + 1) = hp_kb a11 i + 1 := by
        show hp_kb a11 i + (if a11 i ≤ 0 then 0 else 1) = hp_kb a11 i + 1
        rw [if_neg z]
      rw [e] at k
      exact k
theorem hw_kept {post : Int32 → Prop} {fa : Int32} {a1 a2 a3 a4 a5 a6 a7 a8 a9 a10 a11 a12 : Nat → Int32} (H : post (nI (hp_kb a11 6))) : wpX_keptBlobs post (fa, a1, a2, a3, a4, a5, a6, a7, a8, a9, a10, a11, a12) := ⟨7, hw_kept_4 H 6 0 (by omega)⟩
theorem hm_kept {post : Int32 → Prop} {h U : Nat → Nat} {A : hp_P} {u : St1} (m : hp_N h A U u) (H : post (nI (hp_kB A))) : wpX_keptBlobs post u := by
  obtain ⟨fa, a1, a2, a3, a4, a5, a6, a7, a8, a9, a10, a11, a12⟩ := u
  refine hw_kept ?_
  have e : hp_kb a11 6 = hp_kB A := hp_kb_c (fun i hi => m.2.2.2 i hi)
  rw [e]
  exact H
theorem hm_blobs {post : Int32 → Prop} {h U : Nat → Nat} {A : hp_P} {u : St1} (m : hp_N h A U u) (H : post (nI (hp_kB A))) : wpX_blobs post u := by
  obtain ⟨fa, a1, a2, a3, a4, a5, a6, a7, a8, a9, a10, a11, a12⟩ := u
  unfold wpX_blobs
  exact hm_kept m H
theorem hp_kb_le {o o' : Nat → Int32} {n : Nat} (h : ∀ i, i < n → o' i ≤ 0 → o i ≤ 0) : hp_kb o n ≤ hp_kb o' n := by
  induction n with
  | zero => exact Nat.le_refl _
  | succ n ih =>
    show hp_kb o n + (if o n ≤ 0 then 0 else 1) ≤ hp_kb o' n + (if o' n ≤ 0 then 0 else 1)
    have k := ih (fun i hi => h i (by omega))
    have k2 := h n (by omega)
    by_cases z : o' n ≤ 0
    · rw [if_pos z, if_pos (k2 z)]
      omega
    · rw [if_neg z]
      split <;> omega
theorem hp_kb_6 (o : Nat → Int32) (n : Nat) : hp_kb o n ≤ n := by
  induction n with
  | zero => exact Nat.le_refl _
  | succ n ih =>
    show hp_kb o n + (if o n ≤ 0 then 0 else 1) ≤ n + 1
    split <;> omega
theorem hp_kB_le {A B : hp_P} (g : hp_G A) (h : ∀ id, id < 6 → hp_ct B id ≤ hp_ct A id) : hp_kB B ≤ hp_kB A := by
  refine hp_kb_le (fun i hi => ?_)
  show nI (hp_ct A i) ≤ 0 → nI (hp_ct B i) ≤ 0
  have k := hp_ct_le g i
  have k2 := h i hi
  intro z
  have z' : hp_ct A i ≤ 0 := (nI_leI (b := 0) (by omega) (by omega)).mp z
  have z2 : hp_ct B i = 0 := by omega
  rw [z2]
  decide
/-! the least free blob -/
def hp_fb (o : Nat → Int32) : Nat → Nat → Nat
  | 0 => fun _ => 0
  | f + 1 => fun i => if o i = 0 then i else hp_fb o f (i + 1)
theorem hp_fb_lt (o : Nat → Int32) : ∀ f i, i + f = 6 → hp_fb o f i < 6 := by
  intro f
  induction f with
  | zero => exact fun i _ => (by decide : 0 < 6)
  | succ f ih =>
    intro i hi
    show (if o i = 0 then i else hp_fb o f (i + 1)) < 6
    split
    · omega
    · exact ih (i + 1) (by omega)
theorem hw_free_2 {post : Int32 → Prop} {fa : Int32} {a1 a2 a3 a4 a5 a6 a7 a8 a9 a10 a11 a12 : Nat → Int32} {o : Nat → Int32} (ho : ∀ i, i < 6 → a11 i = o i) : ∀ f i, i + f = 6 → post (nI (hp_fb o f i)) → wX_leastFreeBlob_2 post fa a1 a2 a3 a4 a5 a6 a7 a8 a9 a10 a11 a12 (f + 1) (nI i) := by
  intro f
  induction f with
  | zero =>
    intro i hi H
    have e : i = 6 := by omega
    subst e
    exact pk_le 6 6 (fun _ => H) (fun z => absurd z (by omega))
  | succ f ih =>
    intro i hi H
    refine pk_le 6 i (fun z => absurd z (by omega)) (fun _ => ⟨pk_in i 6 (by omega), ?_⟩)
    rw [nI_clamp (show i < 2 ^ 31 by omega), ho i (by omega)]
    have H' : post (nI (if o i = 0 then i else hp_fb o f (i + 1))) := H
    refine br_c (fun z => ?_) (fun z => nm_r (nI_1 i) ?_)
    · rw [if_pos z] at H'
      exact H'
    · rw [if_neg z] at H'
      exact ih (i + 1) (by omega) H'
theorem hm_free {post : Int32 → Prop} {h U : Nat → Nat} {A : hp_P} {u : St1} (m : hp_N h A U u) (H : post (nI (hp_fb (fun id => nI (hp_ct A id)) 6 0))) : wpX_leastFreeBlob post u := by
  obtain ⟨fa, a1, a2, a3, a4, a5, a6, a7, a8, a9, a10, a11, a12⟩ := u
  exact ⟨7, hw_free_2 (fun i hi => m.2.2.2 i hi) 6 0 (by omega) H⟩
end
section
/-! alike -/
def hp_al (a1 a2 b1 b2 : Nat → Int32) : Prop := ∀ i, i < 12 → a1 i = b1 i ∧ (if a1 i = 2 then (0 : Int32) else a2 i) = (if b1 i = 2 then (0 : Int32) else b2 i) ∧
  ∀ q, q < 4 → (if a1 i = a1 (4 * (i / 4) + q) ∧ a2 i = a2 (4 * (i / 4) + q) then (1 : Int32) else 0) = (if b1 i = b1 (4 * (i / 4) + q) ∧ b2 i = b2 (4 * (i / 4) + q) then (1 : Int32) else 0)
theorem hw_alike_56 {post J : Int32 → Prop} {fa : Int32} {a1 a2 a3 a4 a5 a6 a7 a8 a9 a10 a11 a12 : Nat → Int32} {fb : Int32} {b1 b2 b3 b4 b5 b6 b7 b8 b9 b10 b11 b12 : Nat → Int32} {i : Nat} (hi : i < 12) (h : ∀ q, q < 4 → (if a1 i = a1 (4 * (i / 4) + q) ∧ a2 i = a2 (4 * (i / 4) + q) then (1 : Int32) else 0) = (if b1 i = b1 (4 * (i / 4) + q) ∧ b2 i = b2 (4 * (i / 4) + q) then (1 : Int32) else 0)) (HJ : J (nI (i + 1))) :
    ∀ f q, q + f = 4 → wL_alike_56 post J (nI i) (nI (i / 4)) (nI (i % 4)) fa a1 a2 a3 a4 a5 a6 a7 a8 a9 a10 a11 a12 fb b1 b2 b3 b4 b5 b6 b7 b8 b9 b10 b11 b12 (f + 1) (nI q) := by
  have ei : 4 * (i / 4) + i % 4 = i := by omega
  intro f
  induction f with
  | zero =>
    intro q hq
    have e : q = 4 := by omega
    subst e
    exact pk_le 4 4 (fun _ => nm_r (nI_1 i) HJ) (fun z => absurd z (by omega))
  | succ f ih =>
    intro q hq
    refine pk_le 4 q (fun z => absurd z (by omega)) (fun _ => hw_same (by omega) (by omega) (by omega) (hw_same (by omega) (by omega) (by omega) (br_t ?_ (nm_r (nI_1 q) (ih (q + 1) (by omega))))))
    rw [ei]
    exact h q (by omega)
theorem hw_alike_2 {post : Int32 → Prop} {fa : Int32} {a1 a2 a3 a4 a5 a6 a7 a8 a9 a10 a11 a12 : Nat → Int32} {fb : Int32} {b1 b2 b3 b4 b5 b6 b7 b8 b9 b10 b11 b12 : Nat → Int32} (H : post 1) (h : hp_al a1 a2 b1 b2) : ∀ f i, i + f = 12 → wL_alike_2 post fa a1 a2 a3 a4 a5 a6 a7 a8 a9 a10 a11 a12 fb b1 b2 b3 b4 b5 b6 b7 b8 b9 b10 b11 b12 (f + 1) (nI i) := by
  intro f
  induction f with
  | zero =>
    intro i hi
    have e : i = 12 := by omega
    subst e
    exact pk_le 12 12 (fun _ => H) (fun z => absurd z (by omega))
  | succ f ih =>
    intro i hi
    have ei : 4 * (i / 4) + i % 4 = i := by omega
    have e1 : nI i / 4 = nI (i / 4) := pk_div (d := 4) (by omega) (by omega) (by omega)
    have e2 : nI i - nI i / 4 * 4 = nI (i % 4) := pk_rem (d := 4) (by omega) (by omega) (by omega)
    have k := h i (by omega)
    have d4 : ¬ (4 : Int32) = 0 := by decide
    refine pk_le 12 i (fun z => absurd z (by omega)) (fun _ => ⟨d4, nm_r e1 ⟨d4, nm_r e2 ?_⟩⟩)
    refine hw_kind (by omega) (by omega) (hw_kind (by omega) (by omega) (br_t ?_ (hw_value (by omega) (by omega) (hw_value (by omega) (by omega) (br_t ?_ ⟨5, hw_alike_56 (by omega) k.2.2 (ih (i + 1) (by omega)) 4 0 (by omega)⟩)))))
    · rw [ei]
      exact k.1
    · rw [ei]
      exact k.2.1
theorem hw_alike {post : Int32 → Prop} {fa : Int32} {a1 a2 a3 a4 a5 a6 a7 a8 a9 a10 a11 a12 : Nat → Int32} {fb : Int32} {b1 b2 b3 b4 b5 b6 b7 b8 b9 b10 b11 b12 : Nat → Int32} (h : hp_al a1 a2 b1 b2) (H : post 1) : wpL_alike post (fa, a1, a2, a3, a4, a5, a6, a7, a8, a9, a10, a11, a12, fb, b1, b2, b3, b4, b5, b6, b7, b8, b9, b10, b11, b12) := ⟨13, hw_alike_2 H h 12 0 (by omega)⟩
theorem hp_al1 {g : Nat → Nat} {S : Nat → Prop} (inj : ∀ i j, S i → S j → g i = g j → i = j) {t s : hp_T} {n n' b b' : Nat} (hn : n ≤ 20) (hn' : n' ≤ 20) (hb : b < 1000) (hb' : b' < 1000) (ct : hp_cl S t) (cs : hp_cl S s) (gt : hp_gd n t) (gs : hp_gd n s) (gt' : hp_gd n' (hp_rn g t)) (gs' : hp_gd n' (hp_rn g s)) :
    (hp_kd t = hp_kd s ∧ hp_vl b t = hp_vl b s) ↔ (hp_kd (hp_rn g t) = hp_kd (hp_rn g s) ∧ hp_vl b' (hp_rn g t) = hp_vl b' (hp_rn g s)) := by
  cases t with
  | inl x =>
    cases s with
    | inl y =>
      have l1 : x < n := gt
      have l2 : y < n := gs
      have l3 : g x < n' := gt'
      have l4 : g y < n' := gs'
      show ((2 : Int32) = 2 ∧ nI (b + x) = nI (b + y)) ↔ ((2 : Int32) = 2 ∧ nI (b' + g x) = nI (b' + g y))
      rw [nI_eq (by omega) (by omega), nI_eq (by omega) (by omega)]
      constructor
      · intro z
        have e : x = y := by omega
        rw [e]
        exact ⟨rfl, rfl⟩
      · intro z
        have e : x = y := inj x y ct cs (by omega)
        rw [e]
        exact ⟨rfl, rfl⟩
    | inr y => exact ⟨fun z => absurd z.1.symm gs.1, fun z => absurd z.1.symm gs.1⟩
  | inr x =>
    cases s with
    | inl y => exact ⟨fun z => absurd z.1 gt.1, fun z => absurd z.1 gt.1⟩
    | inr y => exact Iff.rfl
theorem hp_al2 {g : Nat → Nat} {t : hp_T} {b b' n : Nat} (gt : hp_gd n t) : (if hp_kd t = 2 then (0 : Int32) else hp_vl b t) = (if hp_kd (hp_rn g t) = 2 then (0 : Int32) else hp_vl b' (hp_rn g t)) := by
  cases t with
  | inl x => exact (if_pos rfl).trans (if_pos rfl).symm
  | inr x => rfl
theorem hp_rn_id (t : hp_T) : hp_rn (fun i => i) t = t := by
  cases t <;> rfl
theorem hp_cl_T (t : hp_T) : hp_cl (fun _ => True) t := by
  cases t <;> exact trivial
theorem hp_S_al {h h' U U' : Nat → Nat} {A B : hp_P} {u v : St1} {p : Nat} (s : hp_S p A B) (gA : hp_G A) (gB : hp_G B) (m : hp_N h A U u) (m' : hp_N h' B U' v) : hp_al (hs_pk u) (hs_pv u) (hs_pk v) (hs_pv v) := by
  obtain ⟨g0, S0, inj0, h1, h2, h3, h4⟩ := s
  have main : ∀ q, q < 3 → ∃ (g : Nat → Nat) (S : Nat → Prop), (∀ i j, S i → S j → g i = g j → i = j) ∧ ∀ r, r < 21 → hp_ow r = q → hp_cl S (hp_pl A r) ∧ hp_pl B r = hp_rn g (hp_pl A r) := by
    intro q hq
    by_cases e : q = p
    · subst e
      exact ⟨g0, S0, inj0, h1⟩
    · refine ⟨fun i => i, fun _ => True, fun i j _ _ z => z, fun r hr ho => ⟨hp_cl_T _, ?_⟩⟩
      rw [hp_rn_id]
      exact h2 r hr (by rw [ho]; exact e)
  intro i hi
  have hq : i / 4 < 3 := by omega
  obtain ⟨g, S, inj, k⟩ := main (i / 4) hq
  have ei : 4 * (i / 4) + i % 4 = i := by omega
  have oi : hp_ow i = i / 4 := by
    have z := hp_ow4 (p := i / 4) (r := i % 4) hq (by omega)
    rw [ei] at z
    exact z
  have ki := k i (by omega) oi
  have ti := m.1 i (by omega)
  have ti' := m'.1 i (by omega)
  have gi := gA.1 i (by omega)
  have gi' := gB.1 i (by omega)
  rw [oi] at ti ti' gi gi'
  rw [ki.2] at ti' gi'
  have b1 := (m.2.1 (i / 4) hq).1
  have b2 := (m'.2.1 (i / 4) hq).1
  refine ⟨?_, ?_, fun q h4q => ?_⟩
  · rw [ti.1, ti'.1, hp_kd_rn]
  · rw [ti.1, ti'.1, ti.2, ti'.2]
    exact hp_al2 gi
  · have oj := hp_ow4 (p := i / 4) (r := q) hq h4q
    have hj : 4 * (i / 4) + q < 21 := by omega
    have kj := k _ hj oj
    have tj := m.1 _ hj
    have tj' := m'.1 _ hj
    have gj := gA.1 _ hj
    have gj' := gB.1 _ hj
    rw [oj] at tj tj' gj gj'
    rw [kj.2] at tj' gj'
    have w := hp_al1 (b := hp_bs h (i / 4)) (b' := hp_bs h' (i / 4)) inj (gA.2 _ hq).1 (gB.2 _ hq).1 (by unfold hp_bs; omega) (by unfold hp_bs; omega) ki.1 kj.1 gi gj gi' gj'
    rw [ti.1, ti'.1, ti.2, ti'.2, tj.1, tj'.1, tj.2, tj'.2]
    by_cases c : hp_kd (hp_pl A i) = hp_kd (hp_pl A (4 * (i / 4) + q)) ∧ hp_vl (hp_bs h (i / 4)) (hp_pl A i) = hp_vl (hp_bs h (i / 4)) (hp_pl A (4 * (i / 4) + q))
    · rw [if_pos c, if_pos (w.mp c)]
    · rw [if_neg c, if_neg (fun z => c (w.mpr z))]
/-! number, nil, move, part -/
theorem hp_gd_n {n : Nat} {k v : Int32} (h2 : k ≠ 2) (h3 : k ≠ 3) : hp_gd n (Sum.inr (k, v)) := ⟨h2, fun z => absurd z h3⟩
theorem hp_gd_0 (n : Nat) : hp_gd n (Sum.inr (0, 0)) := hp_gd_n (by decide) (by decide)
theorem hx_number {post : Int32 → St1 → Prop} {A : hp_P} {u : St1} {p d : Nat} {c : Int32} (x : hp_X A u) (hp : p < 3) (hd : d < 4) (H : ∀ u', hp_X (hp_as A (4 * p + d) (Sum.inr (1, c))) u' → post 0 u') : wpX_number post u (nI p) (nI d) c := by
  obtain ⟨h, y⟩ := x
  obtain ⟨fa, a1, a2, a3, a4, a5, a6, a7, a8, a9, a10, a11, a12⟩ := u
  unfold wpX_number
  refine hw_fits hp hd (br_f hp_1n0 (hm_as1 y (r := 4 * p + d) (t := Sum.inr (1, c)) (by omega) (hp_gd_n (by decide) (by decide)) hp_40 rfl rfl ?_))
  rintro ⟨fb, b1, b2, b3, b4, b5, b6, b7, b8, b9, b10, b11, b12⟩ y'
  exact H _ ⟨h, y'⟩
theorem hx_nil {post : Int32 → St1 → Prop} {A : hp_P} {u : St1} {p d : Nat} (x : hp_X A u) (hp : p < 3) (hd : d < 4) (H : ∀ u', hp_X (hp_as A (4 * p + d) (Sum.inr (0, 0))) u' → post 0 u') : wpX_nil post u (nI p) (nI d) := by
  obtain ⟨h, y⟩ := x
  obtain ⟨fa, a1, a2, a3, a4, a5, a6, a7, a8, a9, a10, a11, a12⟩ := u
  unfold wpX_nil
  refine hw_fits hp hd (br_f hp_1n0 (hm_as1 y (r := 4 * p + d) (t := Sum.inr (0, 0)) (by omega) (hp_gd_0 _) hp_40 rfl rfl ?_))
  rintro ⟨fb, b1, b2, b3, b4, b5, b6, b7, b8, b9, b10, b11, b12⟩ y'
  exact H _ ⟨h, y'⟩
theorem hx_move {post : Int32 → St1 → Prop} {A : hp_P} {u : St1} {p d s : Nat} (x : hp_X A u) (hp : p < 3) (hd : d < 4) (hs : s < 4) (H : ∀ u', hp_X (hp_as A (4 * p + d) (hp_pl A (4 * p + s))) u' → post 0 u') : wpX_move post u (nI p) (nI d) (nI s) := by
  obtain ⟨h, y⟩ := x
  obtain ⟨fa, a1, a2, a3, a4, a5, a6, a7, a8, a9, a10, a11, a12⟩ := u
  unfold wpX_move
  have t : hp_tm (hp_bs h (hp_ow (4 * p + s))) (hp_pl A (4 * p + s)) (a1 (4 * p + s)) (a2 (4 * p + s)) := y.2.2.1 (4 * p + s) (by omega)
  have g := y.1.1 (4 * p + s) (by omega)
  rw [hp_ow4 hp hs] at t g
  refine hw_fits hp hd (br_f hp_1n0 (hw_fits hp hs (br_f hp_1n0 (nm_r hp_40 ⟨hp_in (by omega), hp_in (by omega), ?_⟩))))
  rw [nI_clamp (by omega)]
  refine hm_as1 y (r := 4 * p + d) (t := hp_pl A (4 * p + s)) (by omega) (by rw [hp_ow4 hp hd]; exact g) hp_40 t.1 (by rw [hp_ow4 hp hd]; exact t.2) ?_
  rintro ⟨fb, b1, b2, b3, b4, b5, b6, b7, b8, b9, b10, b11, b12⟩ y'
  exact H _ ⟨h, y'⟩
theorem hx_part {post : Int32 → St1 → Prop} {A : hp_P} {u : St1} {p d s : Nat} {z : Int32} (b : Bool) (hz : z = if b = true then 1 else 0) (x : hp_X A u) (hp : p < 3) (hd : d < 4) (hs : s < 4) (H : ∀ u', hp_X (hp_pa A p d s b) u' → post (hp_pr A p s) u') : wpX_part post u (nI p) (nI d) (nI s) z := by
  obtain ⟨h, y⟩ := x
  obtain ⟨fa, a1, a2, a3, a4, a5, a6, a7, a8, a9, a10, a11, a12⟩ := u
  unfold wpX_part
  have t : hp_tm (hp_bs h (hp_ow (4 * p + s))) (hp_pl A (4 * p + s)) (a1 (4 * p + s)) (a2 (4 * p + s)) := y.2.2.1 (4 * p + s) (by omega)
  have g := y.1.1 (4 * p + s) (by omega)
  rw [hp_ow4 hp hs] at t g
  refine hw_fits hp hd (br_f hp_1n0 (hw_fits hp hs (br_f hp_1n0 (nm_r hp_40 ⟨hp_in (by omega), ?_⟩))))
  rw [nI_clamp (by omega)]
  cases e : hp_pl A (4 * p + s) with
  | inr w =>
    rw [e] at t g
    rw [hp_pa_r d b e, hp_pr_r e] at H
    have t1 : a1 (4 * p + s) = w.1 := t.1
    exact br_f (by rw [t1]; exact g.1) (H _ ⟨h, y⟩)
  | inl i =>
    rw [e] at t g
    rw [hp_pa_l d b e, hp_pr_l e] at H
    have gi : i < hp_n A p := g
    have t1 : a1 (4 * p + s) = 2 := t.1
    have t2 : a2 (4 * p + s) = nI (hp_bs h p + i) := t.2
    have hn := (y.1.2 p hp).1
    have hh := (y.2.2.2.1 p hp).1
    have hb : hp_bs h p + i < 120 := by unfold hp_bs; omega
    have th := y.2.2.2.2.1 p hp i gi
    have gh := (y.1.2 p hp).2.2 i gi
    refine br_t t1 ⟨hp_in (by omega), nm_r t2 ?_⟩
    rw [nI_clamp (by omega)]
    cases b with
    | false =>
      refine br_t hz ⟨hp_in hb, hp_in hb, ?_⟩
      refine hm_as1 y (r := 4 * p + d) (t := hp_tl A p i) (by omega) (by rw [hp_ow4 hp hd]; exact gh.2) hp_40 th.2.1 (by rw [hp_ow4 hp hd]; exact th.2.2) ?_
      rintro ⟨fb, b1, b2, b3, b4, b5, b6, b7, b8, b9, b10, b11, b12⟩ y'
      exact H _ ⟨h, y'⟩
    | true =>
      refine br_f (by rw [hz]; decide) ⟨hp_in hb, hp_in hb, ?_⟩
      refine hm_as1 y (r := 4 * p + d) (t := hp_hd A p i) (by omega) (by rw [hp_ow4 hp hd]; exact gh.1) hp_40 th.1.1 (by rw [hp_ow4 hp hd]; exact th.1.2) ?_
      rintro ⟨fb, b1, b2, b3, b4, b5, b6, b7, b8, b9, b10, b11, b12⟩ y'
      exact H _ ⟨h, y'⟩
/-! waiting -/
def hp_sw (A : hp_P) (p x : Nat) : hp_P := (hp_pl A, hp_hd A, hp_tl A, hp_n A, fun q => if q = p then x else hp_w A q)
theorem hm_sw {h U : Nat → Nat} {A : hp_P} {fa : Int32} {a1 a2 a3 a4 a5 a6 a7 a8 a9 a10 a11 a12 : Nat → Int32} {p x : Nat} (m : hp_N h A U (fa, a1, a2, a3, a4, a5, a6, a7, a8, a9, a10, a11, a12)) : hp_N h (hp_sw A p x) U (fa, a1, a2, upd a3 p (nI x), a4, a5, a6, a7, a8, a9, a10, a11, a12) := by
  refine ⟨m.1, fun q hq => ?_, m.2.2.1, m.2.2.2⟩
  have k := m.2.1 q hq
  refine ⟨k.1, ?_, k.2.2⟩
  show upd a3 p (nI x) q = nI (if q = p then x else hp_w A q)
  by_cases e : q = p
  · subst e
    rw [pk_us, if_pos rfl]
  · rw [pk_un e, if_neg e]
    exact k.2.1
theorem hp_G_sw {A : hp_P} {p x : Nat} (g : hp_G A) (hx : x ≤ 3) : hp_G (hp_sw A p x) := by
  refine ⟨g.1, fun q hq => ⟨(g.2 q hq).1, ?_, (g.2 q hq).2.2⟩⟩
  show (if q = p then x else hp_w A q) ≤ 3
  split
  · exact hx
  · exact (g.2 q hq).2.1
theorem hx_sw {A : hp_P} {h : Nat → Nat} {fa : Int32} {a1 a2 a3 a4 a5 a6 a7 a8 a9 a10 a11 a12 : Nat → Int32} {p x : Nat} (y : hp_Y h A (fa, a1, a2, a3, a4, a5, a6, a7, a8, a9, a10, a11, a12)) (hx : x ≤ 3) : hp_X (hp_sw A p x) (fa, a1, a2, upd a3 p (nI x), a4, a5, a6, a7, a8, a9, a10, a11, a12) :=
  ⟨h, hp_G_sw y.1 hx, y.2.1, hm_sw y.2.2⟩
end
section
/-! receive -/
theorem hp_ow12 {p k : Nat} (hp : p < 3) (hk : k < 3) : hp_ow (12 + 3 * p + k) = p := by
  unfold hp_ow
  rw [if_neg (by omega)]
  omega
theorem hp_12 {p : Nat} : (12 : Int32) + 3 * nI p = nI (12 + 3 * p) := by
  rw [show (12 : Int32) = nI 12 from rfl, show (3 : Int32) = nI 3 from rfl, pk_mul, nI_add]
def hp_rc (A : hp_P) (p d : Nat) : Nat → hp_P
  | 0 => hp_as A (4 * p + d) (hp_pl A (12 + 3 * p + 0))
  | k + 1 => hp_as (hp_rc A p d k) (12 + 3 * p + k) (hp_pl (hp_rc A p d k) (12 + 3 * p + (k + 1)))
def hp_rv (A : hp_P) (p d : Nat) : hp_P := hp_sw (hp_as (hp_rc A p d 2) (12 + 3 * p + 2) (Sum.inr (0, 0))) p (hp_w A p - 1)
theorem hx_receive0 {post : Int32 → St1 → Prop} {A : hp_P} {u : St1} {p d : Nat} (x : hp_X A u) (hp : p < 3) (hd : d < 4) (hw : hp_w A p = 0) (H : post (-3) u) : wpX_receive post u (nI p) (nI d) := by
  obtain ⟨h, y⟩ := x
  obtain ⟨fa, a1, a2, a3, a4, a5, a6, a7, a8, a9, a10, a11, a12⟩ := u
  have m3 : a3 p = nI (hp_w A p) := (y.2.2.2.1 p hp).2.1
  unfold wpX_receive
  refine hw_fits hp hd (br_f hp_1n0 ⟨hp_in hp, ?_⟩)
  rw [nI_clamp (show p < 2 ^ 31 by omega), m3, hw]
  exact br_t rfl H
theorem hx_receive1 {post : Int32 → St1 → Prop} {A : hp_P} {u : St1} {p d : Nat} (x : hp_X A u) (hp : p < 3) (hd : d < 4) (hw : 0 < hp_w A p) (H : ∀ u', hp_X (hp_rv A p d) u' → post 0 u') : wpX_receive post u (nI p) (nI d) := by
  obtain ⟨h, y⟩ := x
  obtain ⟨fa, a1, a2, a3, a4, a5, a6, a7, a8, a9, a10, a11, a12⟩ := u
  have hw3 := (y.1.2 p hp).2.1
  have m3 : a3 p = nI (hp_w A p) := (y.2.2.2.1 p hp).2.1
  have t : hp_tm (hp_bs h (hp_ow (12 + 3 * p + 0))) (hp_pl A (12 + 3 * p + 0)) (a1 (12 + 3 * p)) (a2 (12 + 3 * p)) := y.2.2.1 (12 + 3 * p + 0) (by omega)
  have g := y.1.1 (12 + 3 * p + 0) (by omega)
  rw [hp_ow12 hp (by omega)] at t g
  unfold wpX_receive
  refine hw_fits hp hd (br_f hp_1n0 ⟨hp_in hp, ?_⟩)
  rw [nI_clamp (show p < 2 ^ 31 by omega), m3]
  refine br_f (nI_ne0 hw (by omega)) (nm_r hp_12 ⟨hp_in (by omega), hp_in (by omega), ?_⟩)
  rw [nI_clamp (show 12 + 3 * p < 2 ^ 31 by omega)]
  refine hm_as1 y (r := 4 * p + d) (t := hp_pl A (12 + 3 * p + 0)) (by omega) (by rw [hp_ow4 hp hd]; exact g) hp_40 t.1 (by rw [hp_ow4 hp hd]; exact t.2) ?_
  rintro ⟨fb, b1, b2, b3, b4, b5, b6, b7, b8, b9, b10, b11, b12⟩ y0
  refine pk_loop (fun n i s => wX_receive_53 post (nI p) (nI (12 + 3 * p)) n (nI i) s.1 s.2.1 s.2.2.1 s.2.2.2.1 s.2.2.2.2.1 s.2.2.2.2.2.1 s.2.2.2.2.2.2.1 s.2.2.2.2.2.2.2.1 s.2.2.2.2.2.2.2.2.1 s.2.2.2.2.2.2.2.2.2.1 s.2.2.2.2.2.2.2.2.2.2.1 s.2.2.2.2.2.2.2.2.2.2.2.1 s.2.2.2.2.2.2.2.2.2.2.2.2) (fun i s => hp_Y h (hp_rc A p d i) s) 2 0 (fb, b1, b2, b3, b4, b5, b6, b7, b8, b9, b10, b11, b12) (by omega) y0 ?_ ?_
  · rintro n ⟨fc, c1, c2, c3, c4, c5, c6, c7, c8, c9, c10, c11, c12⟩ yc
    show wX_receive_53 post (nI p) (nI (12 + 3 * p)) (n + 1) (nI 2) fc c1 c2 c3 c4 c5 c6 c7 c8 c9 c10 c11 c12
    refine pk_le 2 2 (fun _ => ?_) (fun z => absurd z (by omega))
    refine hm_as1 yc (r := 12 + 3 * p + 2) (t := Sum.inr (0, 0)) (by omega) (hp_gd_0 _) (nI_add (12 + 3 * p) 2) rfl rfl ?_
    rintro ⟨fe, e1, e2, e3, e4, e5, e6, e7, e8, e9, e10, e11, e12⟩ ye
    have me : e3 p = nI (hp_w A p) := (ye.2.2.2.1 p hp).2.1
    have ew : upd e3 (nI p).toNatClampNeg (e3 (nI p).toNatClampNeg - 1) = upd e3 p (nI (hp_w A p - 1)) := by
      rw [nI_clamp (show p < 2 ^ 31 by omega), me, show (1 : Int32) = nI 1 from rfl, pk_sub (show 1 ≤ hp_w A p by omega)]
    exact ⟨hp_in hp, hp_in hp, nm_r ew (H _ (hx_sw ye (by omega)))⟩
  · rintro n i ⟨fc, c1, c2, c3, c4, c5, c6, c7, c8, c9, c10, c11, c12⟩ hi yc hk
    show wX_receive_53 post (nI p) (nI (12 + 3 * p)) (n + 1) (nI i) fc c1 c2 c3 c4 c5 c6 c7 c8 c9 c10 c11 c12
    have tc : hp_tm (hp_bs h (hp_ow (12 + 3 * p + (i + 1)))) (hp_pl (hp_rc A p d i) (12 + 3 * p + (i + 1))) (c1 (12 + 3 * p + (i + 1))) (c2 (12 + 3 * p + (i + 1))) := yc.2.2.1 (12 + 3 * p + (i + 1)) (by omega)
    have gc := yc.1.1 (12 + 3 * p + (i + 1)) (by omega)
    rw [hp_ow12 hp (by omega)] at tc gc
    have e2 : nI (12 + 3 * p) + nI i + 1 = nI (12 + 3 * p + (i + 1)) := by
      rw [nI_add, nI_1]
      rfl
    refine pk_le 2 i (fun z => absurd z (by omega)) (fun _ => ?_)
    rw [e2, nI_clamp (show 12 + 3 * p + (i + 1) < 2 ^ 31 by omega)]
    refine ⟨hp_in (by omega), hp_in (by omega), ?_⟩
    refine hm_as1 yc (r := 12 + 3 * p + i) (t := hp_pl (hp_rc A p d i) (12 + 3 * p + (i + 1))) (by omega) (by rw [hp_ow12 hp (by omega)]; exact gc) (nI_add _ _) tc.1 (by rw [hp_ow12 hp (by omega)]; exact tc.2) ?_
    rintro ⟨fe, e1, e2, e3, e4, e5, e6, e7, e8, e9, e10, e11, e12⟩ ye
    exact nm_r (nI_1 i) (hk (fe, e1, e2, e3, e4, e5, e6, e7, e8, e9, e10, e11, e12) ye)
/-! blob -/
theorem hx_b62 {A : hp_P} {r : Nat} (g : hp_G A) (hr : r < 21) (z : Int32) : ∃ (rv : Int32) (A' : hp_P), ∀ (post : Int32 → St1 → Prop) (fa : Int32) (a1 a2 a3 a4 a5 a6 a7 a8 a9 a10 a11 a12 : Nat → Int32), hp_X A (fa, a1, a2, a3, a4, a5, a6, a7, a8, a9, a10, a11, a12) → (∀ u', hp_X A' u' → post rv u') → wX_blob_62 post (nI r) z (nI (hp_kB A)) fa a1 a2 a3 a4 a5 a6 a7 a8 a9 a10 a11 a12 := by
  by_cases c : nI (hp_kB A) - z < 6
  · have hf := hp_fb_lt (fun id => nI (hp_ct (hp_as A r (Sum.inr (0, 0))) id)) 6 0 (by omega)
    refine ⟨nI (hp_fb (fun id => nI (hp_ct (hp_as A r (Sum.inr (0, 0))) id)) 6 0), hp_as (hp_as A r (Sum.inr (0, 0))) r (Sum.inr (3, nI (hp_fb (fun id => nI (hp_ct (hp_as A r (Sum.inr (0, 0))) id)) 6 0))), ?_⟩
    rintro post fa a1 a2 a3 a4 a5 a6 a7 a8 a9 a10 a11 a12 ⟨h, y⟩ H
    unfold wX_blob_62
    refine br_t c (hm_as1 y (r := r) (t := Sum.inr (0, 0)) hr (hp_gd_0 _) rfl rfl rfl ?_)
    rintro ⟨fb, b1, b2, b3, b4, b5, b6, b7, b8, b9, b10, b11, b12⟩ yb
    refine hm_free yb.2.2 ?_
    refine hm_as1 yb (r := r) (t := Sum.inr (3, nI (hp_fb (fun id => nI (hp_ct (hp_as A r (Sum.inr (0, 0))) id)) 6 0))) hr ⟨(by decide : ¬ (3 : Int32) = 2), fun _ => ⟨_, hf, rfl⟩⟩ rfl rfl rfl ?_
    rintro ⟨fe, e1, e2, e3, e4, e5, e6, e7, e8, e9, e10, e11, e12⟩ ye
    exact H _ ⟨h, ye⟩
  · refine ⟨-2, A, ?_⟩
    rintro post fa a1 a2 a3 a4 a5 a6 a7 a8 a9 a10 a11 a12 x H
    unfold wX_blob_62
    exact br_f c (H _ x)
theorem hx_b46 {A : hp_P} {r : Nat} (g : hp_G A) (hr : r < 21) (z : Nat) (hz : z = 0 ∨ z = 1) : ∃ (rv : Int32) (A' : hp_P), ∀ (post : Int32 → St1 → Prop) (fa : Int32) (a1 a2 a3 a4 a5 a6 a7 a8 a9 a10 a11 a12 : Nat → Int32), hp_X A (fa, a1, a2, a3, a4, a5, a6, a7, a8, a9, a10, a11, a12) → (∀ u', hp_X A' u' → post rv u') → wX_blob_46 post (nI r) (nI z) fa a1 a2 a3 a4 a5 a6 a7 a8 a9 a10 a11 a12 := by
  obtain ⟨rv, A', K⟩ := hx_b62 g hr (nI z)
  refine ⟨rv, A', ?_⟩
  rintro post fa a1 a2 a3 a4 a5 a6 a7 a8 a9 a10 a11 a12 x H
  unfold wX_blob_46
  have x' := x
  obtain ⟨h, y⟩ := x'
  refine hm_kept y.2.2 ?_
  rcases hz with e | e
  · subst e
    exact br_t rfl (K post fa a1 a2 a3 a4 a5 a6 a7 a8 a9 a10 a11 a12 x H)
  · subst e
    exact br_f (by decide) (K post fa a1 a2 a3 a4 a5 a6 a7 a8 a9 a10 a11 a12 x H)
theorem hx_blob {A : hp_P} {p d : Nat} (g : hp_G A) (hp : p < 3) (hd : d < 4) : ∃ (rv : Int32) (A' : hp_P), ∀ (u : St1) (post : Int32 → St1 → Prop), hp_X A u → (∀ u', hp_X A' u' → post rv u') → wpX_blob post u (nI p) (nI d) := by
  have hr : 4 * p + d < 21 := by omega
  by_cases c1 : hp_kd (hp_pl A (4 * p + d)) = 3
  · have gr := g.1 _ hr
    have hj : ∃ j, j < 6 ∧ ∀ b, hp_vl b (hp_pl A (4 * p + d)) = nI j := by
      cases e : hp_pl A (4 * p + d) with
      | inl i =>
        rw [e] at c1
        exact absurd c1 (show ¬ (2 : Int32) = 3 by decide)
      | inr w =>
        rw [e] at c1 gr
        obtain ⟨j, hj, ej⟩ := gr.2 c1
        exact ⟨j, hj, fun _ => ej⟩
    obtain ⟨j, hj, ej⟩ := hj
    have hct := hp_ct_le g j
    by_cases c2 : hp_ct A j = 1
    · obtain ⟨rv, A', K⟩ := hx_b46 g hr 1 (Or.inr rfl)
      refine ⟨rv, A', ?_⟩
      rintro ⟨fa, a1, a2, a3, a4, a5, a6, a7, a8, a9, a10, a11, a12⟩ post x H
      obtain ⟨h, y⟩ := id x
      have t1 : a1 (4 * p + d) = hp_kd (hp_pl A (4 * p + d)) := (y.2.2.1 _ hr).1
      have t2 : a2 (4 * p + d) = hp_vl (hp_bs h (hp_ow (4 * p + d))) (hp_pl A (4 * p + d)) := (y.2.2.1 _ hr).2
      have t3 : a11 j = nI (hp_ct A j) := y.2.2.2.2.2 j hj
      unfold wpX_blob
      refine hw_fits hp hd (br_f hp_1n0 (nm_r hp_40 ⟨hp_in hr, ?_⟩))
      rw [nI_clamp (show 4 * p + d < 2 ^ 31 by omega), t1, t2, ej, nI_clamp (show j < 2 ^ 31 by omega), t3, c2]
      exact br_t c1 ⟨hp_in hr, hp_in hj, br_t rfl (K post fa a1 a2 a3 a4 a5 a6 a7 a8 a9 a10 a11 a12 x H)⟩
    · obtain ⟨rv, A', K⟩ := hx_b46 g hr 0 (Or.inl rfl)
      refine ⟨rv, A', ?_⟩
      rintro ⟨fa, a1, a2, a3, a4, a5, a6, a7, a8, a9, a10, a11, a12⟩ post x H
      obtain ⟨h, y⟩ := id x
      have t1 : a1 (4 * p + d) = hp_kd (hp_pl A (4 * p + d)) := (y.2.2.1 _ hr).1
      have t2 : a2 (4 * p + d) = hp_vl (hp_bs h (hp_ow (4 * p + d))) (hp_pl A (4 * p + d)) := (y.2.2.1 _ hr).2
      have t3 : a11 j = nI (hp_ct A j) := y.2.2.2.2.2 j hj
      unfold wpX_blob
      refine hw_fits hp hd (br_f hp_1n0 (nm_r hp_40 ⟨hp_in hr, ?_⟩))
      rw [nI_clamp (show 4 * p + d < 2 ^ 31 by omega), t1, t2, ej, nI_clamp (show j < 2 ^ 31 by omega), t3]
      refine br_t c1 ⟨hp_in hr, hp_in hj, br_f (fun z => c2 ((nI_eq (b := 1) (by omega) (by omega)).mp z)) ?_⟩
      unfold wX_blob_45
      exact K post fa a1 a2 a3 a4 a5 a6 a7 a8 a9 a10 a11 a12 x H
  · obtain ⟨rv, A', K⟩ := hx_b46 g hr 0 (Or.inl rfl)
    refine ⟨rv, A', ?_⟩
    rintro ⟨fa, a1, a2, a3, a4, a5, a6, a7, a8, a9, a10, a11, a12⟩ post x H
    obtain ⟨h, y⟩ := id x
    have t1 : a1 (4 * p + d) = hp_kd (hp_pl A (4 * p + d)) := (y.2.2.1 _ hr).1
    unfold wpX_blob
    refine hw_fits hp hd (br_f hp_1n0 (nm_r hp_40 ⟨hp_in hr, ?_⟩))
    rw [nI_clamp (show 4 * p + d < 2 ^ 31 by omega)]
    refine br_f (by rw [t1]; exact c1) ?_
    unfold wX_blob_45
    exact K post fa a1 a2 a3 a4 a5 a6 a7 a8 a9 a10 a11 a12 x H
/-! restart -/
theorem hp_r1 {o s b c x : Int32} (h : o + s = x) : o - b - c + (s + (b + c)) = x := by
  grind
theorem hp_r2 {o : Int32} {a b : Nat} (h : o + nI a = nI (b + a)) : o = nI b := by
  rw [← nI_add] at h
  grind
def hp_nl (A : hp_P) (p : Nat) : Nat → hp_P
  | 0 => A
  | q + 1 => hp_as (hp_nl A p q) (hp_rt p q) (Sum.inr (0, 0))
def hp_re (A : hp_P) (p : Nat) : hp_P := (fun r => if hp_ow r = p then Sum.inr (0, 0) else hp_pl A r, hp_hd A, hp_tl A, fun q => if q = p then 0 else hp_n A q, fun q => if q = p then 0 else hp_w A q)
theorem hp_nl_2 (A : hp_P) (p : Nat) : ∀ q, (hp_nl A p q).2 = A.2 := by
  intro q
  induction q with
  | zero => rfl
  | succ q ih => exact ih
theorem hp_nl_p (A : hp_P) (p r : Nat) : ∀ q, (∀ j, j < q → r ≠ hp_rt p j) → hp_pl (hp_nl A p q) r = hp_pl A r := by
  intro q
  induction q with
  | zero => exact fun _ => rfl
  | succ q ih =>
    intro h
    show hp_pl (hp_as (hp_nl A p q) (hp_rt p q) (Sum.inr (0, 0))) r = _
    rw [hp_as_o _ _ (h q (by omega))]
    exact ih (fun j hj => h j (by omega))
theorem hp_nl_r (A : hp_P) (p j : Nat) : ∀ q, j < q → hp_pl (hp_nl A p q) (hp_rt p j) = Sum.inr (0, 0) := by
  intro q
  induction q with
  | zero => exact fun h => absurd h (by omega)
  | succ q ih =>
    intro h
    show hp_pl (hp_as (hp_nl A p q) (hp_rt p q) (Sum.inr (0, 0))) (hp_rt p j) = _
    by_cases e : hp_rt p j = hp_rt p q
    · rw [e, hp_as_s]
    · rw [hp_as_o _ _ e]
      refine ih ?_
      by_cases e2 : j = q
      · exact absurd (by rw [e2]) e
      · omega
theorem hp_nl_re {A : hp_P} {p r : Nat} (hp : p < 3) (hr : r < 21) : hp_pl (hp_nl A p 7) r = hp_pl (hp_re A p) r := by
  show _ = (if hp_ow r = p then (Sum.inr (0, 0) : hp_T) else hp_pl A r)
  by_cases e : hp_ow r = p
  · rw [if_pos e]
    obtain ⟨q, hq, rfl⟩ := hp_rt_all hr e
    exact hp_nl_r A p q 7 hq
  · rw [if_neg e]
    exact hp_nl_p A p r 7 (fun j hj z => e (by rw [z]; exact hp_rt_ow hp hj))
theorem hp_re_n (A : hp_P) (p : Nat) : hp_n (hp_re A p) p = 0 := if_pos rfl
theorem hp_re_no (A : hp_P) {p q : Nat} (h : ¬ q = p) : hp_n (hp_re A p) q = hp_n A q := if_neg h
theorem hp_re_ct {A : hp_P} {p : Nat} (hp : p < 3) (id : Nat) : hp_ct (hp_re A p) id + hp_sm (hp_pc A p id) (hp_n A p) = hp_ct (hp_nl A p 7) id := by
  have e2 := hp_nl_2 A p 7
  have k := hp_ct_hp (A := hp_nl A p 7) (B := hp_re A p) (id := id) hp (fun r hr => by rw [hp_nl_re hp hr]) (fun q _ hq => by
    unfold hp_hc hp_pc hp_n hp_hd hp_tl
    rw [e2]
    have e := hp_re_no A hq
    unfold hp_n at e
    rw [e]
    rfl)
  have k1 : hp_hc (hp_re A p) id p = 0 := by
    unfold hp_hc
    rw [hp_re_n]
    rfl
  have k2 : hp_hc (hp_nl A p 7) id p = hp_sm (hp_pc A p id) (hp_n A p) := by
    unfold hp_hc hp_pc hp_n hp_hd hp_tl
    rw [e2]
  omega
theorem hp_re_G {A : hp_P} {p : Nat} (g : hp_G A) : hp_G (hp_re A p) := by
  refine ⟨fun r hr => ?_, fun q hq => ?_⟩
  · show hp_gd (if hp_ow r = p then 0 else hp_n A (hp_ow r)) (if hp_ow r = p then (Sum.inr (0, 0) : hp_T) else hp_pl A r)
    by_cases e : hp_ow r = p
    · rw [if_pos e, if_pos e]
      exact hp_gd_0 _
    · rw [if_neg e, if_neg e]
      exact g.1 r hr
  · show (if q = p then 0 else hp_n A q) ≤ 20 ∧ (if q = p then 0 else hp_w A q) ≤ 3 ∧ ∀ i, i < (if q = p then 0 else hp_n A q) → hp_gd (if q = p then 0 else hp_n A q) (hp_hd A q i) ∧ hp_gd (if q = p then 0 else hp_n A q) (hp_tl A q i)
    by_cases e : q = p
    · rw [if_pos e, if_pos e]
      exact ⟨by omega, by omega, fun i hi => absurd hi (by omega)⟩
    · rw [if_neg e, if_neg e]
      exact g.2 q hq
theorem hp_rt4 {p i : Nat} (hi : i < 4) : hp_rt p i = 4 * p + i := if_pos hi
theorem hp_rt3 {p i : Nat} : hp_rt p (4 + i) = 12 + 3 * p + i := by
  unfold hp_rt
  rw [if_neg (by omega)]
  omega
theorem hw_restart_85 {post : Int32 → St1 → Prop} {fa : Int32} {a1 a2 a3 a4 a5 a6 a7 a8 a9 a10 a11 a12 : Nat → Int32} {A : hp_P} {p b : Nat} (g : hp_G A) (hp : p < 3) (hb : b + 20 ≤ 120) (m5 : a5 p = nI (hp_n A p))
    (mh : ∀ i, i < hp_n A p → hp_tm b (hp_hd A p i) (a6 (b + i)) (a7 (b + i)) ∧ hp_tm b (hp_tl A p i) (a8 (b + i)) (a9 (b + i))) {N : Nat → Nat} (m11 : ∀ id, id < 6 → a11 id = nI (N id))
    (H : ∀ o, (∀ id, id < 6 → o id + nI (hp_sm (hp_pc A p id) (hp_n A p)) = nI (N id)) → post 0 (fa, a1, a2, a3, a4, upd a5 p 0, a6, a7, a8, a9, a10, o, a12)) : ∃ n, wX_restart_85 post (nI p) (nI b) n (nI b) fa a1 a2 a3 a4 a5 a6 a7 a8 a9 a10 a11 a12 := by
  have hn := (g.2 p hp).1
  refine pk_loop (fun n i o => wX_restart_85 post (nI p) (nI b) n (nI (b + i)) fa a1 a2 a3 a4 a5 a6 a7 a8 a9 a10 o a12) (fun i o => ∀ id, id < 6 → o id + nI (hp_sm (hp_pc A p id) i) = nI (N id)) (hp_n A p) 0 a11 (by omega) ?_ ?_ ?_
  · intro id hid
    rw [m11 id hid]
    show nI (N id) + nI 0 = _
    rw [nI_add]
    rfl
  · intro n o ho
    show wX_restart_85 post (nI p) (nI b) (n + 1) (nI (b + hp_n A p)) fa a1 a2 a3 a4 a5 a6 a7 a8 a9 a10 o a12
    refine ⟨hp_in hp, ?_⟩
    rw [nI_clamp (show p < 2 ^ 31 by omega), m5, nI_add]
    exact pk_le (b + hp_n A p) (b + hp_n A p) (fun _ => ⟨hp_in hp, nm_e (H o ho)⟩) (fun z => absurd z (by omega))
  · intro n i o hi ho hk
    show wX_restart_85 post (nI p) (nI b) (n + 1) (nI (b + i)) fa a1 a2 a3 a4 a5 a6 a7 a8 a9 a10 o a12
    have gi := (g.2 p hp).2.2 i hi
    have mi := mh i hi
    have hbi : b + i < 120 := by omega
    refine ⟨hp_in hp, ?_⟩
    rw [nI_clamp (show p < 2 ^ 31 by omega), m5, nI_add, nI_clamp (show b + i < 2 ^ 31 by omega)]
    refine pk_le (b + hp_n A p) (b + i) (fun z => absurd z (by omega)) (fun _ => ⟨hp_in hbi, hp_in hbi, ?_⟩)
    refine hw_letGo (by rw [mi.1.1, mi.1.2]; exact hp_in6 gi.1) ⟨hp_in hbi, hp_in hbi, hw_letGo (by rw [mi.2.1, mi.2.2]; exact hp_in6 gi.2) (nm_r (nI_1 (b + i)) (hk _ ?_))⟩
    intro id hid
    rw [mi.1.1, mi.1.2, mi.2.1, mi.2.2, hp_lg_t gi.2 hid, hp_lg_t gi.1 hid, hp_sm_s]
    show o id - nI (hp_bl id (hp_hd A p i)) - nI (hp_bl id (hp_tl A p i)) + nI (hp_sm (hp_pc A p id) i + (hp_bl id (hp_hd A p i) + hp_bl id (hp_tl A p i))) = nI (N id)
    rw [← nI_add, ← nI_add]
    exact hp_r1 (ho id hid)
theorem hx_restart {post : Int32 → St1 → Prop} {A : hp_P} {u : St1} {p : Nat} (x : hp_X A u) (hp : p < 3) (H : ∀ u', hp_X (hp_re A p) u' → post 0 u') : wpX_restart post u (nI p) := by
  obtain ⟨h, y⟩ := x
  obtain ⟨fa, a1, a2, a3, a4, a5, a6, a7, a8, a9, a10, a11, a12⟩ := u
  unfold wpX_restart
  refine hw_fits (r := 0) hp (by omega) (br_f hp_1n0 ?_)
  refine pk_loop (fun n i s => wX_restart_12 post (nI p) n (nI i) s.1 s.2.1 s.2.2.1 s.2.2.2.1 s.2.2.2.2.1 s.2.2.2.2.2.1 s.2.2.2.2.2.2.1 s.2.2.2.2.2.2.2.1 s.2.2.2.2.2.2.2.2.1 s.2.2.2.2.2.2.2.2.2.1 s.2.2.2.2.2.2.2.2.2.2.1 s.2.2.2.2.2.2.2.2.2.2.2.1 s.2.2.2.2.2.2.2.2.2.2.2.2) (fun i s => hp_Y h (hp_nl A p i) s) 4 0 (fa, a1, a2, a3, a4, a5, a6, a7, a8, a9, a10, a11, a12) (by omega) y ?_ ?_
  · rintro n ⟨fb, b1, b2, b3, b4, b5, b6, b7, b8, b9, b10, b11, b12⟩ yb
    show wX_restart_12 post (nI p) (n + 1) (nI 4) fb b1 b2 b3 b4 b5 b6 b7 b8 b9 b10 b11 b12
    refine pk_le 4 4 (fun _ => ?_) (fun z => absurd z (by omega))
    refine pk_loop (fun n i s => wX_restart_36 post (nI p) n (nI i) s.1 s.2.1 s.2.2.1 s.2.2.2.1 s.2.2.2.2.1 s.2.2.2.2.2.1 s.2.2.2.2.2.2.1 s.2.2.2.2.2.2.2.1 s.2.2.2.2.2.2.2.2.1 s.2.2.2.2.2.2.2.2.2.1 s.2.2.2.2.2.2.2.2.2.2.1 s.2.2.2.2.2.2.2.2.2.2.2.1 s.2.2.2.2.2.2.2.2.2.2.2.2) (fun i s => hp_Y h (hp_nl A p (4 + i)) s) 3 0 (fb, b1, b2, b3, b4, b5, b6, b7, b8, b9, b10, b11, b12) (by omega) yb ?_ ?_
    · rintro n ⟨fc, c1, c2, c3, c4, c5, c6, c7, c8, c9, c10, c11, c12⟩ yc
      show wX_restart_36 post (nI p) (n + 1) (nI 3) fc c1 c2 c3 c4 c5 c6 c7 c8 c9 c10 c11 c12
      have e2 := hp_nl_2 A p 7
      have hh := (yc.2.2.2.1 p hp).1
      have m4 : c4 p = nI (h p) := (yc.2.2.2.1 p hp).2.2.1
      have m5 : c5 p = nI (hp_n A p) := by
        have z := (yc.2.2.2.1 p hp).2.2.2
        unfold hp_n at z ⊢
        rw [e2] at z
        exact z
      have eb : (40 : Int32) * nI p + 20 * nI (h p) = nI (hp_bs h p) := by
        rw [show (40 : Int32) = nI 40 from rfl, show (20 : Int32) = nI 20 from rfl, pk_mul, pk_mul, nI_add]
        rfl
      have hb : hp_bs h p + 20 ≤ 120 := by
        unfold hp_bs
        omega
      refine pk_le 3 3 (fun _ => ⟨hp_in hp, nm_e ⟨hp_in hp, nm_r (e' := nI (hp_bs h p)) (by rw [nI_clamp (show p < 2 ^ 31 by omega), m4]; exact eb) ?_⟩⟩) (fun z => absurd z (by omega))
      rw [nI_clamp (show p < 2 ^ 31 by omega)]
      refine hw_restart_85 (A := A) (N := hp_ct (hp_nl A p 7)) y.1 hp hb m5 ?_ (fun id hid => yc.2.2.2.2.2 id hid) ?_
      · intro i hi
        have z := yc.2.2.2.2.1 p hp i
        unfold hp_n hp_hd hp_tl at z
        rw [e2] at z
        exact z hi
      · intro o ho
        refine H _ ⟨h, hp_re_G y.1, yc.2.1, fun r hr => ?_, fun q hq => ?_, fun q hq i hi => ?_, fun id hid => ?_⟩
        · rw [← hp_nl_re hp hr]
          exact yc.2.2.1 r hr
        · have z := yc.2.2.2.1 q hq
          unfold hp_n hp_w at z
          rw [e2] at z
          refine ⟨z.1, ?_, z.2.2.1, ?_⟩
          · show upd c3 p 0 q = nI (if q = p then 0 else hp_w A q)
            by_cases e : q = p
            · rw [e, pk_us, if_pos rfl]
              rfl
            · rw [pk_un e, if_neg e]
              exact z.2.1
          · show upd c5 p 0 q = nI (if q = p then 0 else hp_n A q)
            by_cases e : q = p
            · rw [e, pk_us, if_pos rfl]
              rfl
            · rw [pk_un e, if_neg e]
              exact z.2.2.2
        · by_cases e : q = p
          · rw [e, hp_re_n] at hi
            exact absurd hi (by omega)
          · rw [hp_re_no A e] at hi
            have z := yc.2.2.2.2.1 q hq i
            unfold hp_n hp_hd hp_tl at z
            rw [e2] at z
            exact z hi
        · have z := ho id hid
          rw [← hp_re_ct hp id] at z
          exact hp_r2 z
    · rintro n i ⟨fc, c1, c2, c3, c4, c5, c6, c7, c8, c9, c10, c11, c12⟩ hi yc hk
      show wX_restart_36 post (nI p) (n + 1) (nI i) fc c1 c2 c3 c4 c5 c6 c7 c8 c9 c10 c11 c12
      have ow := hp_ow12 (p := p) (k := i) hp hi
      refine pk_le 3 i (fun z => absurd z (by omega)) (fun _ => hm_as1 yc (r := hp_rt p (4 + i)) (t := Sum.inr (0, 0)) (hp_rt_lt hp (by omega)) (hp_gd_0 _) ?_ rfl rfl ?_)
      · rw [hp_12, nI_add, hp_rt3]
      · rintro ⟨fe, e1, e2, e3, e4, e5, e6, e7, e8, e9, e10, e11, e12⟩ ye
        exact nm_r (nI_1 i) (hk (fe, e1, e2, e3, e4, e5, e6, e7, e8, e9, e10, e11, e12) ye)
  · rintro n i ⟨fc, c1, c2, c3, c4, c5, c6, c7, c8, c9, c10, c11, c12⟩ hi yc hk
    show wX_restart_12 post (nI p) (n + 1) (nI i) fc c1 c2 c3 c4 c5 c6 c7 c8 c9 c10 c11 c12
    refine pk_le 4 i (fun z => absurd z (by omega)) (fun _ => hm_as1 yc (r := hp_rt p i) (t := Sum.inr (0, 0)) (hp_rt_lt hp (by omega)) (hp_gd_0 _) ?_ rfl rfl ?_)
    · rw [hp_40, hp_rt4 hi]
    · rintro ⟨fe, e1, e2, e3, e4, e5, e6, e7, e8, e9, e10, e11, e12⟩ ye
      exact nm_r (nI_1 i) (hk (fe, e1, e2, e3, e4, e5, e6, e7, e8, e9, e10, e11, e12) ye)
/-! the start -/
def hp_A0 : hp_P := (fun _ => Sum.inr (0, 0), fun _ _ => Sum.inr (0, 0), fun _ _ => Sum.inr (0, 0), fun _ => 0, fun _ => 0)
theorem hp_bl_0 (id : Nat) : hp_bl id (Sum.inr (0, 0)) = 0 := by
  show (if (0 : Int32) = 3 ∧ (0 : Int32) = nI id then 1 else 0) = 0
  exact if_neg (fun z => absurd z.1 (by decide))
theorem hp_ct_0 {A : hp_P} {id : Nat} (h1 : ∀ r, r < 21 → hp_pl A r = Sum.inr (0, 0)) (h2 : ∀ p, p < 3 → hp_n A p = 0) : hp_ct A id = 0 := by
  have k1 : hp_sm (fun r => hp_bl id (hp_pl A r)) 21 = 0 := hp_sm_z (fun r hr => by
    show hp_bl id (hp_pl A r) = 0
    rw [h1 r hr, hp_bl_0])
  have k2 : hp_sm (hp_hc A id) 3 = 0 := hp_sm_z (fun p hp => by
    unfold hp_hc
    rw [h2 p hp]
    rfl)
  unfold hp_ct
  omega
theorem hx_init {post : St1 → Prop} (H : ∀ u, hp_X hp_A0 u → post u) : wpX_init post 12 677 0 := by
  refine ⟨by omega, by omega, by omega, by omega, by omega, by omega, by omega, by omega, by omega, by omega, by omega, by omega, by omega, by omega, by omega, by omega, by omega, by omega, by omega, by omega, by omega, by omega, by omega, by omega, ?_⟩
  refine pk_loop (fun n i s => wX_init_99 post 12 677 12 677 0 n (nI i) (fun _ => 0) (fun _ => 0) (fun _ => 0) (fun _ => 0) (fun _ => 0) (fun _ => 0) (fun _ => 0) (fun _ => 0) (fun _ => 0) s (fun _ => 0) (fun _ => 0)) (fun i s => ∀ c, c < i → s c = -1) 120 0 (fun _ => 0) (by omega) (fun c hc => absurd hc (by omega)) ?_ ?_
  · intro n s hs
    refine pk_le 120 120 (fun _ => H _ ⟨fun _ => 0, ⟨fun r hr => hp_gd_0 _, fun p hp => ⟨Nat.zero_le _, Nat.zero_le _, fun i hi => absurd hi (Nat.not_lt_zero i)⟩⟩, hs, fun r hr => ⟨rfl, rfl⟩, fun p hp => ⟨Nat.zero_le _, rfl, rfl, rfl⟩, fun p hp i hi => absurd hi (Nat.not_lt_zero i), fun id hid => ?_⟩) (fun z => absurd z (by omega))
    rw [hp_ct_0 (fun _ _ => rfl) (fun _ _ => rfl)]
    rfl
  · intro n i s hi hs hk
    refine pk_le 120 i (fun z => absurd z (by omega)) (fun _ => ⟨pk_in i 120 hi, nm_e (nm_r (nI_1 i) (hk _ ?_))⟩)
    intro c hc
    rw [nI_clamp (show i < 2 ^ 31 by omega)]
    by_cases e : c = i
    · rw [e, pk_us]
    · rw [pk_un e]
      exact hs c (by omega)
end
section
/-- where the other half of process p begins -/
def hp_nb (h : Nat → Nat) (p : Nat) : Nat := 40 * p + 20 * (1 - h p)
/-- marks: g in the half that begins at b, none elsewhere -/
def hp_fm (b : Nat) (g : Nat → Int32) (w : Nat → Int32) : Prop := (∀ i, i < 20 → w (b + i) = g i) ∧ ∀ c, c < 120 → (c < b ∨ b + 20 ≤ c) → w c = -1
/-- kind and value hold the moved term -/
def hp_en (b : Nat) (L : List Nat) (t : hp_T) (k v : Int32) : Prop := hp_cl (fun x => x ∈ L) t ∧ hp_tm b (hp_rn (fun i => hp_ix i L) t) k v
theorem hp_en_ex {b : Nat} {L R : List Nat} {t : hp_T} {k v : Int32} (x : hp_ex L R) (e : hp_en b L t k v) : hp_en b R t k v := by
  refine ⟨hp_cl_ex x e.1, ?_⟩
  have z : hp_rn (fun i => hp_ix i R) t = hp_rn (fun i => hp_ix i L) t := by
    cases t with
    | inl i =>
      show (Sum.inl (hp_ix i R) : hp_T) = Sum.inl (hp_ix i L)
      rw [hp_ex_ix x e.1]
    | inr w => rfl
  rw [z]
  exact e.2
theorem hp_en_r {b b' : Nat} {L : List Nat} {w : Int32 × Int32} {k v : Int32} (e : hp_tm b (Sum.inr w) k v) : hp_en b' L (Sum.inr w) k v := ⟨trivial, e⟩
/-- the state inside a collection: L moved, q places done, kh heads and kt tails done -/
def hp_C (h : Nat → Nat) (A : hp_P) (p : Nat) (L : List Nat) (q kh kt : Nat) (u : St1) : Prop :=
  (∀ j, j < q → hp_en (hp_nb h p) L (hp_pl A (hp_rt p j)) (hs_pk u (hp_rt p j)) (hs_pv u (hp_rt p j))) ∧
  (∀ r, r < 21 → (∀ j, j < q → r ≠ hp_rt p j) → hp_tm (hp_bs h (hp_ow r)) (hp_pl A r) (hs_pk u r) (hs_pv u r)) ∧
  (∀ s, s < 3 → h s ≤ 1 ∧ hs_wt u s = nI (hp_w A s) ∧ hs_hf u s = nI (if s = p then 1 - h p else h s) ∧ hs_us u s = nI (if s = p then L.length else hp_n A s)) ∧
  (∀ s, s < 3 → ∀ i, i < hp_n A s → hp_tm (hp_bs h s) (hp_hd A s i) (hs_hk u (hp_bs h s + i)) (hs_hv u (hp_bs h s + i)) ∧ hp_tm (hp_bs h s) (hp_tl A s i) (hs_tk u (hp_bs h s + i)) (hs_tv u (hp_bs h s + i))) ∧
  (∀ j, j < L.length → (j < kh → hp_en (hp_nb h p) L (hp_hd A p (hp_at L j)) (hs_hk u (hp_nb h p + j)) (hs_hv u (hp_nb h p + j))) ∧ (kh ≤ j → hp_tm (hp_bs h p) (hp_hd A p (hp_at L j)) (hs_hk u (hp_nb h p + j)) (hs_hv u (hp_nb h p + j))) ∧
    (j < kt → hp_en (hp_nb h p) L (hp_tl A p (hp_at L j)) (hs_tk u (hp_nb h p + j)) (hs_tv u (hp_nb h p + j))) ∧ (kt ≤ j → hp_tm (hp_bs h p) (hp_tl A p (hp_at L j)) (hs_tk u (hp_nb h p + j)) (hs_tv u (hp_nb h p + j)))) ∧
  hp_fm (hp_bs h p) (fun i => if i ∈ L then nI (hp_nb h p + hp_ix i L) else -1) (hs_fw u) ∧
  (∀ id, id < 6 → hs_ho u id = nI (hp_ct A id)) ∧
  hp_ok (hp_n A p) L ∧ kh ≤ L.length ∧ kt ≤ L.length
/-! a pair is moved -/
theorem hp_C_new {h : Nat → Nat} {A : hp_P} {p : Nat} {L : List Nat} {q kh kt x : Nat} {fa : Int32} {a1 a2 a3 a4 a5 a6 a7 a8 a9 a10 a11 a12 : Nat → Int32} (g : hp_G A) (hp : p < 3) (c : hp_C h A p L q kh kt (fa, a1, a2, a3, a4, a5, a6, a7, a8, a9, a10, a11, a12)) (hx : x < hp_n A p) (e : ¬ x ∈ L) :
    hp_C h A p (L ++ [x]) q kh kt (fa, a1, a2, a3, a4, upd a5 p (nI (L.length + 1)), upd a6 (hp_nb h p + L.length) (a6 (hp_bs h p + x)), upd a7 (hp_nb h p + L.length) (a7 (hp_bs h p + x)), upd a8 (hp_nb h p + L.length) (a8 (hp_bs h p + x)), upd a9 (hp_nb h p + L.length) (a9 (hp_bs h p + x)), upd a10 (hp_bs h p + x) (nI (hp_nb h p + L.length)), a11, a12) := by
  obtain ⟨c1, c2, c3, c4, c5, c6, c7, c8, c9, c10⟩ := c
  have hh := (c3 p hp).1
  have hn := (g.2 p hp).1
  have ok' := hp_ok_app c8 hx e
  have hl := hp_ok_len ok'
  have el : (L ++ [x]).length = L.length + 1 := by
    rw [List.length_append]
    rfl
  rw [el] at hl
  have ex : hp_ex L (L ++ [x]) := ⟨[x], rfl⟩
  have far : ∀ s, s < 3 → ∀ i, i < hp_n A s → hp_bs h s + i ≠ hp_nb h p + L.length := by
    intro s hs i hi
    have h1 := (c3 s hs).1
    have h2 := (g.2 s hs).1
    by_cases es : s = p
    · subst es
      unfold hp_bs hp_nb
      omega
    · unfold hp_bs hp_nb
      omega
  have tx := c4 p hp x hx
  refine ⟨fun j hj => hp_en_ex ex (c1 j hj), c2, fun s hs => ?_, fun s hs i hi => ?_, fun j hj => ?_, ⟨fun i hi => ?_, fun c hc ho => ?_⟩, c7, ok', by rw [el]; omega, by rw [el]; omega⟩
  · have z := c3 s hs
    refine ⟨z.1, z.2.1, z.2.2.1, ?_⟩
    show upd a5 p (nI (L.length + 1)) s = nI (if s = p then (L ++ [x]).length else hp_n A s)
    by_cases es : s = p
    · rw [es, pk_us, if_pos rfl, el]
    · have z4 := z.2.2.2
      rw [if_neg es] at z4
      rw [pk_un es, if_neg es]
      exact z4
  · have z := c4 s hs i hi
    have f := far s hs i hi
    show hp_tm (hp_bs h s) (hp_hd A s i) (upd a6 _ _ (hp_bs h s + i)) (upd a7 _ _ (hp_bs h s + i)) ∧ hp_tm (hp_bs h s) (hp_tl A s i) (upd a8 _ _ (hp_bs h s + i)) (upd a9 _ _ (hp_bs h s + i))
    rw [pk_un f, pk_un f, pk_un f, pk_un f]
    exact z
  · rw [el] at hj
    show (j < kh → hp_en (hp_nb h p) (L ++ [x]) (hp_hd A p (hp_at (L ++ [x]) j)) (upd a6 _ _ (hp_nb h p + j)) (upd a7 _ _ (hp_nb h p + j))) ∧ (kh ≤ j → hp_tm (hp_bs h p) (hp_hd A p (hp_at (L ++ [x]) j)) (upd a6 _ _ (hp_nb h p + j)) (upd a7 _ _ (hp_nb h p + j))) ∧ (j < kt → hp_en (hp_nb h p) (L ++ [x]) (hp_tl A p (hp_at (L ++ [x]) j)) (upd a8 _ _ (hp_nb h p + j)) (upd a9 _ _ (hp_nb h p + j))) ∧ (kt ≤ j → hp_tm (hp_bs h p) (hp_tl A p (hp_at (L ++ [x]) j)) (upd a8 _ _ (hp_nb h p + j)) (upd a9 _ _ (hp_nb h p + j)))
    by_cases ej : j = L.length
    · subst ej
      rw [hp_at_new, pk_us, pk_us, pk_us, pk_us]
      exact ⟨fun z => absurd z (by omega), fun _ => tx.1, fun z => absurd z (by omega), fun _ => tx.2⟩
    · have hj' : j < L.length := by omega
      have f : hp_nb h p + j ≠ hp_nb h p + L.length := by omega
      rw [hp_at_app hj', pk_un f, pk_un f, pk_un f, pk_un f]
      have z := c5 j hj'
      exact ⟨fun y => hp_en_ex ex (z.1 y), z.2.1, fun y => hp_en_ex ex (z.2.2.1 y), z.2.2.2⟩
  · show upd a10 (hp_bs h p + x) (nI (hp_nb h p + L.length)) (hp_bs h p + i) = if i ∈ L ++ [x] then nI (hp_nb h p + hp_ix i (L ++ [x])) else -1
    by_cases ei : i = x
    · subst ei
      rw [pk_us, if_pos (List.mem_append_right L List.mem_cons_self), hp_ix_new e]
    · rw [pk_un (by omega)]
      have z : a10 (hp_bs h p + i) = if i ∈ L then nI (hp_nb h p + hp_ix i L) else -1 := c6.1 i hi
      rw [z]
      by_cases ej : i ∈ L
      · rw [if_pos ej, if_pos (List.mem_append_left _ ej), hp_ix_app ej]
      · rw [if_neg ej, if_neg (fun y => (List.mem_append.mp y).elim ej (fun w => ei (List.mem_singleton.mp w)))]
  · show upd a10 (hp_bs h p + x) (nI (hp_nb h p + L.length)) c = -1
    rw [pk_un (by omega)]
    exact c6.2 c hc ho
theorem hw_fresh {post : Int32 → St1 → Prop} {fa : Int32} {a1 a2 a3 a4 a5 a6 a7 a8 a9 a10 a11 a12 : Nat → Int32} {p b n : Nat} (hp : p < 3) (m4 : (40 : Int32) * nI p + 20 * a4 p = nI b) (m5 : a5 p = nI n) (H : post (nI (b + n)) (fa, a1, a2, a3, a4, upd a5 p (nI (n + 1)), a6, a7, a8, a9, a10, a11, a12)) : wpX_freshPair post (fa, a1, a2, a3, a4, a5, a6, a7, a8, a9, a10, a11, a12) (nI p) := by
  unfold wpX_freshPair
  have hc : (nI p).toNatClampNeg = p := nI_clamp (by omega)
  refine ⟨hp_in hp, hp_in hp, nm_r (by rw [hc, m4, m5, nI_add]) ⟨hp_in hp, hp_in hp, nm_r (by rw [hc, m5, nI_1]) H⟩⟩
theorem hw_fresh_2 {post : Int32 → St1 → Prop} {fa : Int32} {a1 a2 a3 a4 a5 a6 a7 a8 a9 a10 a11 a12 : Nat → Int32} {p b n : Nat} (hp : p < 3) (m4 : (40 : Int32) * nI p + 20 * a4 p = nI b) (m5 : a5 p = nI n) (H : post (nI (b + n)) (fa, a1, a2, a3, a4, upd a5 p (nI (n + 1)), a6, a7, a8, a9, a10, a11, a12)) : wpX_freshPair_2 post (fa, a1, a2, a3, a4, a5, a6, a7, a8, a9, a10, a11, a12) (nI p) := by
  unfold wpX_freshPair_2
  have hc : (nI p).toNatClampNeg = p := nI_clamp (by omega)
  refine ⟨hp_in hp, hp_in hp, nm_r (by rw [hc, m4, m5, nI_add]) ⟨hp_in hp, hp_in hp, nm_r (by rw [hc, m5, nI_1]) H⟩⟩
theorem hw_fresh_3 {post : Int32 → St1 → Prop} {fa : Int32} {a1 a2 a3 a4 a5 a6 a7 a8 a9 a10 a11 a12 : Nat → Int32} {p b n : Nat} (hp : p < 3) (m4 : (40 : Int32) * nI p + 20 * a4 p = nI b) (m5 : a5 p = nI n) (H : post (nI (b + n)) (fa, a1, a2, a3, a4, upd a5 p (nI (n + 1)), a6, a7, a8, a9, a10, a11, a12)) : wpX_freshPair_3 post (fa, a1, a2, a3, a4, a5, a6, a7, a8, a9, a10, a11, a12) (nI p) := by
  unfold wpX_freshPair_3
  have hc : (nI p).toNatClampNeg = p := nI_clamp (by omega)
  refine ⟨hp_in hp, hp_in hp, nm_r (by rw [hc, m4, m5, nI_add]) ⟨hp_in hp, hp_in hp, nm_r (by rw [hc, m5, nI_1]) H⟩⟩
theorem hw_fresh_4 {post : Int32 → St1 → Prop} {fa : Int32} {a1 a2 a3 a4 a5 a6 a7 a8 a9 a10 a11 a12 : Nat → Int32} {p b n : Nat} (hp : p < 3) (m4 : (40 : Int32) * nI p + 20 * a4 p = nI b) (m5 : a5 p = nI n) (H : post (nI (b + n)) (fa, a1, a2, a3, a4, upd a5 p (nI (n + 1)), a6, a7, a8, a9, a10, a11, a12)) : wpX_freshPair_4 post (fa, a1, a2, a3, a4, a5, a6, a7, a8, a9, a10, a11, a12) (nI p) := by
  unfold wpX_freshPair_4
  have hc : (nI p).toNatClampNeg = p := nI_clamp (by omega)
  refine ⟨hp_in hp, hp_in hp, nm_r (by rw [hc, m4, m5, nI_add]) ⟨hp_in hp, hp_in hp, nm_r (by rw [hc, m5, nI_1]) H⟩⟩
theorem hw_fresh_5 {post : Int32 → St1 → Prop} {fa : Int32} {a1 a2 a3 a4 a5 a6 a7 a8 a9 a10 a11 a12 : Nat → Int32} {p b n : Nat} (hp : p < 3) (m4 : (40 : Int32) * nI p + 20 * a4 p = nI b) (m5 : a5 p = nI n) (H : post (nI (b + n)) (fa, a1, a2, a3, a4, upd a5 p (nI (n + 1)), a6, a7, a8, a9, a10, a11, a12)) : wpX_freshPair_5 post (fa, a1, a2, a3, a4, a5, a6, a7, a8, a9, a10, a11, a12) (nI p) := by
  unfold wpX_freshPair_5
  have hc : (nI p).toNatClampNeg = p := nI_clamp (by omega)
  refine ⟨hp_in hp, hp_in hp, nm_r (by rw [hc, m4, m5, nI_add]) ⟨hp_in hp, hp_in hp, nm_r (by rw [hc, m5, nI_1]) H⟩⟩
theorem hp_eb (p x : Nat) : (40 : Int32) * nI p + 20 * nI x = nI (40 * p + 20 * x) := by
  rw [show (40 : Int32) = nI 40 from rfl, show (20 : Int32) = nI 20 from rfl, pk_mul, pk_mul, nI_add]
theorem hm_moved {post : Int32 → St1 → Prop} {h : Nat → Nat} {A : hp_P} {p : Nat} {L : List Nat} {q kh kt x : Nat} {u : St1} (g : hp_G A) (hp : p < 3) (c : hp_C h A p L q kh kt u) (hx : x < hp_n A p)
    (H : ∀ u', hp_C h A p (hp_vi L (Sum.inl x)) q kh kt u' → post (nI (hp_nb h p + hp_ix x (hp_vi L (Sum.inl x)))) u') : wpX_moved post u (nI (hp_bs h p + x)) (nI p) := by
  obtain ⟨fa, a1, a2, a3, a4, a5, a6, a7, a8, a9, a10, a11, a12⟩ := u
  have hn := (g.2 p hp).1
  have hh := (c.2.2.1 p hp).1
  have hb : hp_bs h p + x < 120 := by
    unfold hp_bs
    omega
  have fx : a10 (hp_bs h p + x) = if x ∈ L then nI (hp_nb h p + hp_ix x L) else -1 := c.2.2.2.2.2.1.1 x (by omega)
  have hc : (nI (hp_bs h p + x)).toNatClampNeg = hp_bs h p + x := nI_clamp (by omega)
  unfold wpX_moved
  refine ⟨hp_in hb, ?_⟩
  by_cases e : x ∈ L
  · rw [if_pos e] at fx
    rw [hp_vi_old e] at H
    have hi := hp_ix_lt e
    have hl := hp_ok_len c.2.2.2.2.2.2.2.1
    rw [hc, fx]
    exact br_t (nI_pos' (by unfold hp_nb; omega)) ⟨hp_in hb, H _ c⟩
  · rw [if_neg e] at fx
    rw [hp_vi_new e, hp_ix_new e] at H
    have hl := hp_ok_len (hp_ok_app c.2.2.2.2.2.2.2.1 hx e)
    rw [List.length_append] at hl
    have hl' : L.length + 1 ≤ hp_n A p := hl
    have m4 : a4 p = nI (1 - h p) := by
      have z := (c.2.2.1 p hp).2.2.1
      rw [if_pos rfl] at z
      exact z
    have m5 : a5 p = nI L.length := by
      have z := (c.2.2.1 p hp).2.2.2
      rw [if_pos rfl] at z
      exact z
    have ht : hp_nb h p + L.length < 120 := by
      unfold hp_nb
      omega
    have hc2 : (nI (hp_nb h p + L.length)).toNatClampNeg = hp_nb h p + L.length := nI_clamp (by omega)
    refine br_f (by rw [hc, fx]; decide) (hw_fresh (b := hp_nb h p) hp (by rw [m4]; exact hp_eb p (1 - h p)) m5 ?_)
    have i1 : vp_in (nI (hp_bs h p + x)) 120 := hp_in hb
    have i2 : vp_in (nI (hp_nb h p + L.length)) 120 := hp_in ht
    refine ⟨i1, i2, nm_e ⟨i1, i2, nm_e ⟨i1, i2, nm_e ⟨i1, i2, nm_e ⟨i1, nm_e ⟨i1, ?_⟩⟩⟩⟩⟩⟩
    rw [hc, hc2, pk_us]
    exact H _ (hp_C_new g hp c hx e)
theorem hm_moved_2 {post : Int32 → St1 → Prop} {h : Nat → Nat} {A : hp_P} {p : Nat} {L : List Nat} {q kh kt x : Nat} {u : St1} (g : hp_G A) (hp : p < 3) (c : hp_C h A p L q kh kt u) (hx : x < hp_n A p)
    (H : ∀ u', hp_C h A p (hp_vi L (Sum.inl x)) q kh kt u' → post (nI (hp_nb h p + hp_ix x (hp_vi L (Sum.inl x)))) u') : wpX_moved_2 post u (nI (hp_bs h p + x)) (nI p) := by
  obtain ⟨fa, a1, a2, a3, a4, a5, a6, a7, a8, a9, a10, a11, a12⟩ := u
  have hn := (g.2 p hp).1
  have hh := (c.2.2.1 p hp).1
  have hb : hp_bs h p + x < 120 := by
    unfold hp_bs
    omega
  have fx : a10 (hp_bs h p + x) = if x ∈ L then nI (hp_nb h p + hp_ix x L) else -1 := c.2.2.2.2.2.1.1 x (by omega)
  have hc : (nI (hp_bs h p + x)).toNatClampNeg = hp_bs h p + x := nI_clamp (by omega)
  unfold wpX_moved_2
  refine ⟨hp_in hb, ?_⟩
  by_cases e : x ∈ L
  · rw [if_pos e] at fx
    rw [hp_vi_old e] at H
    have hi := hp_ix_lt e
    have hl := hp_ok_len c.2.2.2.2.2.2.2.1
    rw [hc, fx]
    exact br_t (nI_pos' (by unfold hp_nb; omega)) ⟨hp_in hb, H _ c⟩
  · rw [if_neg e] at fx
    rw [hp_vi_new e, hp_ix_new e] at H
    have hl := hp_ok_len (hp_ok_app c.2.2.2.2.2.2.2.1 hx e)
    rw [List.length_append] at hl
    have hl' : L.length + 1 ≤ hp_n A p := hl
    have m4 : a4 p = nI (1 - h p) := by
      have z := (c.2.2.1 p hp).2.2.1
      rw [if_pos rfl] at z
      exact z
    have m5 : a5 p = nI L.length := by
      have z := (c.2.2.1 p hp).2.2.2
      rw [if_pos rfl] at z
      exact z
    have ht : hp_nb h p + L.length < 120 := by
      unfold hp_nb
      omega
    have hc2 : (nI (hp_nb h p + L.length)).toNatClampNeg = hp_nb h p + L.length := nI_clamp (by omega)
    refine br_f (by rw [hc, fx]; decide) (hw_fresh_2 (b := hp_nb h p) hp (by rw [m4]; exact hp_eb p (1 - h p)) m5 ?_)
    have i1 : vp_in (nI (hp_bs h p + x)) 120 := hp_in hb
    have i2 : vp_in (nI (hp_nb h p + L.length)) 120 := hp_in ht
    refine ⟨i1, i2, nm_e ⟨i1, i2, nm_e ⟨i1, i2, nm_e ⟨i1, i2, nm_e ⟨i1, nm_e ⟨i1, ?_⟩⟩⟩⟩⟩⟩
    rw [hc, hc2, pk_us]
    exact H _ (hp_C_new g hp c hx e)
theorem hm_moved_3 {post : Int32 → St1 → Prop} {h : Nat → Nat} {A : hp_P} {p : Nat} {L : List Nat} {q kh kt x : Nat} {u : St1} (g : hp_G A) (hp : p < 3) (c : hp_C h A p L q kh kt u) (hx : x < hp_n A p)
    (H : ∀ u', hp_C h A p (hp_vi L (Sum.inl x)) q kh kt u' → post (nI (hp_nb h p + hp_ix x (hp_vi L (Sum.inl x)))) u') : wpX_moved_3 post u (nI (hp_bs h p + x)) (nI p) := by
  obtain ⟨fa, a1, a2, a3, a4, a5, a6, a7, a8, a9, a10, a11, a12⟩ := u
  have hn := (g.2 p hp).1
  have hh := (c.2.2.1 p hp).1
  have hb : hp_bs h p + x < 120 := by
    unfold hp_bs
    omega
  have fx : a10 (hp_bs h p + x) = if x ∈ L then nI (hp_nb h p + hp_ix x L) else -1 := c.2.2.2.2.2.1.1 x (by omega)
  have hc : (nI (hp_bs h p + x)).toNatClampNeg = hp_bs h p + x := nI_clamp (by omega)
  unfold wpX_moved_3
  refine ⟨hp_in hb, ?_⟩
  by_cases e : x ∈ L
  · rw [if_pos e] at fx
    rw [hp_vi_old e] at H
    have hi := hp_ix_lt e
    have hl := hp_ok_len c.2.2.2.2.2.2.2.1
    rw [hc, fx]
    exact br_t (nI_pos' (by unfold hp_nb; omega)) ⟨hp_in hb, H _ c⟩
  · rw [if_neg e] at fx
    rw [hp_vi_new e, hp_ix_new e] at H
    have hl := hp_ok_len (hp_ok_app c.2.2.2.2.2.2.2.1 hx e)
    rw [List.length_append] at hl
    have hl' : L.length + 1 ≤ hp_n A p := hl
    have m4 : a4 p = nI (1 - h p) := by
      have z := (c.2.2.1 p hp).2.2.1
      rw [if_pos rfl] at z
      exact z
    have m5 : a5 p = nI L.length := by
      have z := (c.2.2.1 p hp).2.2.2
      rw [if_pos rfl] at z
      exact z
    have ht : hp_nb h p + L.length < 120 := by
      unfold hp_nb
      omega
    have hc2 : (nI (hp_nb h p + L.length)).toNatClampNeg = hp_nb h p + L.length := nI_clamp (by omega)
    refine br_f (by rw [hc, fx]; decide) (hw_fresh_3 (b := hp_nb h p) hp (by rw [m4]; exact hp_eb p (1 - h p)) m5 ?_)
    have i1 : vp_in (nI (hp_bs h p + x)) 120 := hp_in hb
    have i2 : vp_in (nI (hp_nb h p + L.length)) 120 := hp_in ht
    refine ⟨i1, i2, nm_e ⟨i1, i2, nm_e ⟨i1, i2, nm_e ⟨i1, i2, nm_e ⟨i1, nm_e ⟨i1, ?_⟩⟩⟩⟩⟩⟩
    rw [hc, hc2, pk_us]
    exact H _ (hp_C_new g hp c hx e)
/-! a place is done -/
theorem hp_C_place {h : Nat → Nat} {A : hp_P} {p : Nat} {L : List Nat} {q kh kt : Nat} {fa : Int32} {a1 a2 a3 a4 a5 a6 a7 a8 a9 a10 a11 a12 : Nat → Int32} {w : Nat → Int32} (hp : p < 3) (hq : q < 7) (c : hp_C h A p L q kh kt (fa, a1, a2, a3, a4, a5, a6, a7, a8, a9, a10, a11, a12)) (ew : hp_en (hp_nb h p) L (hp_pl A (hp_rt p q)) (a1 (hp_rt p q)) (w (hp_rt p q))) (eo : ∀ r, r ≠ hp_rt p q → w r = a2 r) :
    hp_C h A p L (q + 1) kh kt (fa, a1, w, a3, a4, a5, a6, a7, a8, a9, a10, a11, a12) := by
  obtain ⟨c1, c2, cr⟩ := c
  refine ⟨fun j hj => ?_, fun r hr hj => ?_, cr⟩
  · show hp_en (hp_nb h p) L (hp_pl A (hp_rt p j)) (a1 (hp_rt p j)) (w (hp_rt p j))
    by_cases e : j = q
    · subst e
      exact ew
    · rw [eo (hp_rt p j) (fun z => e (hp_rt_inj hp hq (by omega) z))]
      exact c1 j (by omega)
  · show hp_tm (hp_bs h (hp_ow r)) (hp_pl A r) (a1 r) (w r)
    rw [eo r (hj q (by omega))]
    exact c2 r hr (fun j h' => hj j (by omega))
theorem hm_movePlace {post : St1 → Prop} {h : Nat → Nat} {A : hp_P} {p : Nat} {L : List Nat} {q : Nat} {u : St1} {p0 : Int32} (g : hp_G A) (hp : p < 3) (hq : q < 7) (c : hp_C h A p L q 0 0 u) (e0 : p0 = nI (hp_rt p q))
    (H : ∀ u', hp_C h A p (hp_vi L (hp_pl A (hp_rt p q))) (q + 1) 0 0 u' → post u') : wpX_movePlace post u p0 (nI p) := by
  subst e0
  obtain ⟨fa, a1, a2, a3, a4, a5, a6, a7, a8, a9, a10, a11, a12⟩ := u
  have hr := hp_rt_lt hp hq
  have t : hp_tm (hp_bs h (hp_ow (hp_rt p q))) (hp_pl A (hp_rt p q)) (a1 (hp_rt p q)) (a2 (hp_rt p q)) := c.2.1 (hp_rt p q) hr (fun j hj z => absurd (hp_rt_inj hp (by omega) hq z) (by omega))
  have gt := g.1 (hp_rt p q) hr
  rw [hp_rt_ow hp hq] at t gt
  have hc : (nI (hp_rt p q)).toNatClampNeg = hp_rt p q := nI_clamp (by omega)
  have i1 : vp_in (nI (hp_rt p q)) 21 := hp_in hr
  unfold wpX_movePlace
  refine ⟨i1, ?_⟩
  rw [hc]
  cases e : hp_pl A (hp_rt p q) with
  | inr w =>
    rw [e] at t gt H
    have t1 : a1 (hp_rt p q) = w.1 := t.1
    refine br_f (by rw [t1]; exact gt.1) (H _ ?_)
    exact hp_C_place (w := a2) hp hq c (by rw [e]; exact hp_en_r t) (fun r _ => rfl)
  | inl x =>
    rw [e] at t gt H
    have t1 : a1 (hp_rt p q) = 2 := t.1
    have t2 : a2 (hp_rt p q) = nI (hp_bs h p + x) := t.2
    refine br_t t1 ⟨i1, ?_⟩
    rw [t2]
    refine hm_moved_3 g hp c gt ?_
    rintro ⟨fb, b1, b2, b3, b4, b5, b6, b7, b8, b9, b10, b11, b12⟩ cb
    refine ⟨i1, nm_e ?_⟩
    have tb : hp_tm (hp_bs h (hp_ow (hp_rt p q))) (hp_pl A (hp_rt p q)) (b1 (hp_rt p q)) (b2 (hp_rt p q)) := cb.2.1 (hp_rt p q) hr (fun j hj z => absurd (hp_rt_inj hp (by omega) hq z) (by omega))
    rw [e] at tb
    refine H _ (hp_C_place hp hq cb ?_ (fun r hr' => pk_un hr'))
    rw [e, pk_us]
    exact ⟨hp_vi_in L (Sum.inl x), tb.1, rfl⟩
/-! a head, a tail is done -/
theorem hp_C_far {h : Nat → Nat} {A : hp_P} {p : Nat} {L : List Nat} {q kh kt k : Nat} {u : St1} (g : hp_G A) (hp : p < 3) (c : hp_C h A p L q kh kt u) (hk : k < L.length) : ∀ s, s < 3 → ∀ i, i < hp_n A s → hp_bs h s + i ≠ hp_nb h p + k := by
  intro s hs i hi
  have h1 := (c.2.2.1 s hs).1
  have h2 := (g.2 s hs).1
  have h3 := (c.2.2.1 p hp).1
  have h4 := hp_ok_len c.2.2.2.2.2.2.2.1
  have h5 := (g.2 p hp).1
  by_cases es : s = p
  · subst es
    unfold hp_bs hp_nb
    omega
  · unfold hp_bs hp_nb
    omega
theorem hp_C_head {h : Nat → Nat} {A : hp_P} {p : Nat} {L : List Nat} {q k kt : Nat} {fa : Int32} {a1 a2 a3 a4 a5 a6 a7 a8 a9 a10 a11 a12 : Nat → Int32} {w : Nat → Int32} (g : hp_G A) (hp : p < 3) (hk : k < L.length) (c : hp_C h A p L q k kt (fa, a1, a2, a3, a4, a5, a6, a7, a8, a9, a10, a11, a12)) (ew : hp_en (hp_nb h p) L (hp_hd A p (hp_at L k)) (a6 (hp_nb h p + k)) (w (hp_nb h p + k))) (eo : ∀ r, r ≠ hp_nb h p + k → w r = a7 r) :
    hp_C h A p L q (k + 1) kt (fa, a1, a2, a3, a4, a5, a6, w, a8, a9, a10, a11, a12) := by
  have far := hp_C_far g hp c hk
  obtain ⟨c1, c2, c3, c4, c5, c6, c7, c8, c9, c10⟩ := c
  refine ⟨c1, c2, c3, fun s hs i hi => ?_, fun j hj => ?_, c6, c7, c8, hk, c10⟩
  · show hp_tm (hp_bs h s) (hp_hd A s i) (a6 (hp_bs h s + i)) (w (hp_bs h s + i)) ∧ hp_tm (hp_bs h s) (hp_tl A s i) (a8 (hp_bs h s + i)) (a9 (hp_bs h s + i))
    rw [eo _ (far s hs i hi)]
    exact c4 s hs i hi
  · show (j < k + 1 → hp_en (hp_nb h p) L (hp_hd A p (hp_at L j)) (a6 (hp_nb h p + j)) (w (hp_nb h p + j))) ∧ (k + 1 ≤ j → hp_tm (hp_bs h p) (hp_hd A p (hp_at L j)) (a6 (hp_nb h p + j)) (w (hp_nb h p + j))) ∧ _
    have z := c5 j hj
    refine ⟨fun y => ?_, fun y => ?_, z.2.2⟩
    · by_cases e : j = k
      · subst e
        exact ew
      · rw [eo _ (by omega)]
        exact z.1 (by omega)
    · rw [eo _ (by omega)]
      exact z.2.1 (by omega)
theorem hp_C_tail {h : Nat → Nat} {A : hp_P} {p : Nat} {L : List Nat} {q k kh : Nat} {fa : Int32} {a1 a2 a3 a4 a5 a6 a7 a8 a9 a10 a11 a12 : Nat → Int32} {w : Nat → Int32} (g : hp_G A) (hp : p < 3) (hk : k < L.length) (c : hp_C h A p L q kh k (fa, a1, a2, a3, a4, a5, a6, a7, a8, a9, a10, a11, a12)) (ew : hp_en (hp_nb h p) L (hp_tl A p (hp_at L k)) (a8 (hp_nb h p + k)) (w (hp_nb h p + k))) (eo : ∀ r, r ≠ hp_nb h p + k → w r = a9 r) :
    hp_C h A p L q kh (k + 1) (fa, a1, a2, a3, a4, a5, a6, a7, a8, w, a10, a11, a12) := by
  have far := hp_C_far g hp c hk
  obtain ⟨c1, c2, c3, c4, c5, c6, c7, c8, c9, c10⟩ := c
  refine ⟨c1, c2, c3, fun s hs i hi => ?_, fun j hj => ?_, c6, c7, c8, c9, hk⟩
  · show hp_tm (hp_bs h s) (hp_hd A s i) (a6 (hp_bs h s + i)) (a7 (hp_bs h s + i)) ∧ hp_tm (hp_bs h s) (hp_tl A s i) (a8 (hp_bs h s + i)) (w (hp_bs h s + i))
    rw [eo _ (far s hs i hi)]
    exact c4 s hs i hi
  · have z := c5 j hj
    refine ⟨z.1, z.2.1, ?_⟩
    show (j < k + 1 → hp_en (hp_nb h p) L (hp_tl A p (hp_at L j)) (a8 (hp_nb h p + j)) (w (hp_nb h p + j))) ∧ (k + 1 ≤ j → hp_tm (hp_bs h p) (hp_tl A p (hp_at L j)) (a8 (hp_nb h p + j)) (w (hp_nb h p + j)))
    refine ⟨fun y => ?_, fun y => ?_⟩
    · by_cases e : j = k
      · subst e
        exact ew
      · rw [eo _ (by omega)]
        exact z.2.2.1 (by omega)
    · rw [eo _ (by omega)]
      exact z.2.2.2 (by omega)
theorem hm_col_174 {post : St1 → Prop} {J : Int32 → Int32 → (Nat → Int32) → (Nat → Int32) → (Nat → Int32) → (Nat → Int32) → (Nat → Int32) → (Nat → Int32) → (Nat → Int32) → (Nat → Int32) → (Nat → Int32) → (Nat → Int32) → (Nat → Int32) → (Nat → Int32) → Prop} {h : Nat → Nat} {A : hp_P} {p k : Nat} {L : List Nat} {fa : Int32} {a1 a2 a3 a4 a5 a6 a7 a8 a9 a10 a11 a12 : Nat → Int32} {x2 x3 x4 : Int32} (g : hp_G A) (hp : p < 3) (hk : k < L.length) (c : hp_C h A p L 7 (k + 1) k (fa, a1, a2, a3, a4, a5, a6, a7, a8, a9, a10, a11, a12))
    (H : ∀ (fb : Int32) (b1 b2 b3 b4 b5 b6 b7 b8 b9 b10 b11 b12 : Nat → Int32), hp_C h A p (hp_vi L (hp_tl A p (hp_at L k))) 7 (k + 1) (k + 1) (fb, b1, b2, b3, b4, b5, b6, b7, b8, b9, b10, b11, b12) → J (nI (hp_nb h p + (k + 1))) fb b1 b2 b3 b4 b5 b6 b7 b8 b9 b10 b11 b12) : wX_collectHeap_174 post J (nI p) x2 x3 x4 (nI (hp_nb h p + k)) fa a1 a2 a3 a4 a5 a6 a7 a8 a9 a10 a11 a12 := by
  have hn := (g.2 p hp).1
  have hh := (c.2.2.1 p hp).1
  have ok := c.2.2.2.2.2.2.2.1
  have hl := hp_ok_len ok
  have hb : hp_nb h p + k < 120 := by
    unfold hp_nb
    omega
  have i1 : vp_in (nI (hp_nb h p + k)) 120 := hp_in hb
  have hc : (nI (hp_nb h p + k)).toNatClampNeg = hp_nb h p + k := nI_clamp (by omega)
  have t : hp_tm (hp_bs h p) (hp_tl A p (hp_at L k)) (a8 (hp_nb h p + k)) (a9 (hp_nb h p + k)) := (c.2.2.2.2.1 k hk).2.2.2 (Nat.le_refl k)
  have gt := ((g.2 p hp).2.2 _ (ok.2 _ (hp_at_mem hk))).2
  unfold wX_collectHeap_174
  refine ⟨i1, ?_⟩
  rw [hc]
  cases e : hp_tl A p (hp_at L k) with
  | inr w =>
    rw [e] at t gt H
    have t1 : a8 (hp_nb h p + k) = w.1 := t.1
    refine br_f (by rw [t1]; exact gt.1) (nm_r (nI_1 _) (H fa a1 a2 a3 a4 a5 a6 a7 a8 a9 a10 a11 a12 ?_))
    exact hp_C_tail (L := L) (w := a9) g hp hk c (by rw [e]; exact hp_en_r t) (fun r _ => rfl)
  | inl x =>
    rw [e] at t gt H
    have t1 : a8 (hp_nb h p + k) = 2 := t.1
    have t2 : a9 (hp_nb h p + k) = nI (hp_bs h p + x) := t.2
    refine br_t t1 ⟨i1, ?_⟩
    rw [t2]
    refine hm_moved g hp c gt ?_
    rintro ⟨fb, b1, b2, b3, b4, b5, b6, b7, b8, b9, b10, b11, b12⟩ cb
    have ex := hp_vi_ex L (Sum.inl x)
    have hk' : k < (hp_vi L (Sum.inl x)).length := Nat.lt_of_lt_of_le hk (hp_ex_len ex)
    have tb : hp_tm (hp_bs h p) (hp_tl A p (hp_at (hp_vi L (Sum.inl x)) k)) (b8 (hp_nb h p + k)) (b9 (hp_nb h p + k)) := (cb.2.2.2.2.1 k hk').2.2.2 (Nat.le_refl k)
    rw [hp_ex_at ex hk, e] at tb
    refine ⟨i1, nm_e (nm_r (nI_1 _) (H _ _ _ _ _ _ _ _ _ _ _ _ _ (hp_C_tail g hp hk' cb ?_ ?_)))⟩
    · rw [hp_ex_at ex hk, e, pk_us]
      exact ⟨hp_vi_in L (Sum.inl x), tb.1, rfl⟩
    · intro r hr
      rw [pk_un hr]
end
section
/-! the old half is swept -/
theorem hm_sweep {post : St1 → Prop} {fa : Int32} {a1 a2 a3 a4 a5 a6 a7 a8 a9 a10 a11 a12 : Nat → Int32} {A : hp_P} {p b e : Nat} {L : List Nat} (g : hp_G A) (hp : p < 3) (hb : b + 20 ≤ 120) (he : e + 20 ≤ 120) (ok : hp_ok (hp_n A p) L)
    (mh : ∀ i, i < hp_n A p → hp_tm b (hp_hd A p i) (a6 (b + i)) (a7 (b + i)) ∧ hp_tm b (hp_tl A p i) (a8 (b + i)) (a9 (b + i))) (fm : hp_fm b (fun i => if i ∈ L then nI (e + hp_ix i L) else -1) a10) {N : Nat → Nat} (m11 : ∀ id, id < 6 → a11 id = nI (N id))
    (H : ∀ w o, (∀ c, c < 120 → w c = -1) → (∀ id, id < 6 → o id + nI (hp_sm (fun i => if i ∈ L then 0 else hp_pc A p id i) (hp_n A p)) = nI (N id)) → post (fa, a1, a2, a3, a4, a5, a6, a7, a8, a9, w, o, a12)) : wpX_sweepOld post (fa, a1, a2, a3, a4, a5, a6, a7, a8, a9, a10, a11, a12) (nI b) (nI (b + hp_n A p)) := by
  have hn := (g.2 p hp).1
  have hl := hp_ok_len ok
  refine pk_loop (σ := (Nat → Int32) × (Nat → Int32)) (fun n i s => wX_sweepOld_2 post (nI (b + hp_n A p)) n (nI (b + i)) fa a1 a2 a3 a4 a5 a6 a7 a8 a9 s.1 s.2 a12)
    (fun i s => (∀ j, j < i → s.1 (b + j) = -1) ∧ (∀ c, (c < b ∨ b + i ≤ c) → s.1 c = a10 c) ∧ ∀ id, id < 6 → s.2 id + nI (hp_sm (fun j => if j ∈ L then 0 else hp_pc A p id j) i) = nI (N id)) (hp_n A p) 0 (a10, a11) (by omega) ⟨fun j hj => absurd hj (by omega), fun c _ => rfl, fun id hid => ?_⟩ ?_ ?_
  · show a11 id + nI 0 = nI (N id)
    rw [m11 id hid, nI_add]
    rfl
  · rintro n ⟨w, o⟩ ⟨h1, h2, h3⟩
    show wX_sweepOld_2 post (nI (b + hp_n A p)) (n + 1) (nI (b + hp_n A p)) fa a1 a2 a3 a4 a5 a6 a7 a8 a9 w o a12
    refine pk_le (b + hp_n A p) (b + hp_n A p) (fun _ => H w o (fun c hc => ?_) h3) (fun z => absurd z (by omega))
    by_cases e1 : b ≤ c ∧ c < b + hp_n A p
    · have z := h1 (c - b) (by omega)
      rw [show b + (c - b) = c by omega] at z
      exact z
    · have z : w c = a10 c := h2 c (by omega)
      rw [z]
      by_cases e2 : b ≤ c ∧ c < b + 20
      · have y := fm.1 (c - b) (by omega)
        rw [show b + (c - b) = c by omega] at y
        rw [y]
        exact if_neg (fun q => absurd (ok.2 _ q) (by omega))
      · exact fm.2 c hc (by omega)
  · rintro n i ⟨w, o⟩ hi ⟨h1, h2, h3⟩ hk
    show wX_sweepOld_2 post (nI (b + hp_n A p)) (n + 1) (nI (b + i)) fa a1 a2 a3 a4 a5 a6 a7 a8 a9 w o a12
    have h1' : ∀ j, j < i → w (b + j) = -1 := h1
    have h2' : ∀ c, (c < b ∨ b + i ≤ c) → w c = a10 c := h2
    have h3' : ∀ id, id < 6 → o id + nI (hp_sm (fun j => if j ∈ L then 0 else hp_pc A p id j) i) = nI (N id) := h3
    have hbi : b + i < 120 := by omega
    have i1 : vp_in (nI (b + i)) 120 := hp_in hbi
    have hc : (nI (b + i)).toNatClampNeg = b + i := nI_clamp (by omega)
    have fi : w (b + i) = if i ∈ L then nI (e + hp_ix i L) else -1 := by
      rw [h2' (b + i) (by omega)]
      exact fm.1 i (by omega)
    have q1 : ∀ j, j < i + 1 → upd w (b + i) (-1) (b + j) = -1 := by
      intro j hj
      by_cases ej : j = i
      · rw [ej, pk_us]
      · rw [pk_un (by omega)]
        exact h1' j (by omega)
    have q2 : ∀ c, (c < b ∨ b + (i + 1) ≤ c) → upd w (b + i) (-1) c = a10 c := by
      intro c hc'
      rw [pk_un (by omega)]
      exact h2' c (by omega)
    refine pk_le (b + hp_n A p) (b + i) (fun z => absurd z (by omega)) (fun _ => ⟨i1, ?_⟩)
    rw [hc]
    by_cases ei : i ∈ L
    · rw [if_pos ei] at fi
      have hx := hp_ix_lt ei
      refine br_t (by rw [fi]; exact nI_pos' (by omega)) ⟨i1, nm_e (nm_r (nI_1 (b + i)) (hk (upd w (b + i) (-1), o) ⟨q1, q2, fun id hid => ?_⟩))⟩
      show o id + nI (hp_sm (fun j => if j ∈ L then 0 else hp_pc A p id j) (i + 1)) = nI (N id)
      rw [hp_sm_s, if_pos ei]
      exact h3' id hid
    · rw [if_neg ei] at fi
      have gi := (g.2 p hp).2.2 i hi
      have mi := mh i hi
      refine br_f (by rw [fi]; decide) ⟨i1, i1, ?_⟩
      rw [mi.1.1, mi.1.2]
      refine hw_letGo (hp_in6 gi.1) ⟨i1, i1, ?_⟩
      rw [mi.2.1, mi.2.2]
      refine hw_letGo (hp_in6 gi.2) ⟨i1, nm_e (nm_r (nI_1 (b + i)) ?_)⟩
      refine hk (upd w (b + i) (-1), _) ⟨q1, q2, fun id hid => ?_⟩
      show hp_lg (hp_lg o (hp_kd (hp_hd A p i)) (hp_vl b (hp_hd A p i))) (hp_kd (hp_tl A p i)) (hp_vl b (hp_tl A p i)) id + nI (hp_sm (fun j => if j ∈ L then 0 else hp_pc A p id j) (i + 1)) = nI (N id)
      rw [hp_lg_t gi.2 hid, hp_lg_t gi.1 hid, hp_sm_s, if_neg ei]
      show o id - nI (hp_bl id (hp_hd A p i)) - nI (hp_bl id (hp_tl A p i)) + nI (hp_sm (fun j => if j ∈ L then 0 else hp_pc A p id j) i + (hp_bl id (hp_hd A p i) + hp_bl id (hp_tl A p i))) = nI (N id)
      rw [← nI_add, ← nI_add]
      exact hp_r1 (h3' id hid)
/-! a collection ends -/
def hp_fl (h : Nat → Nat) (p : Nat) : Nat → Nat := fun s => if s = p then 1 - h p else h s
theorem hp_fl_s (h : Nat → Nat) (p : Nat) : hp_bs (hp_fl h p) p = hp_nb h p := by
  unfold hp_bs hp_nb hp_fl
  rw [if_pos rfl]
theorem hp_fl_o (h : Nat → Nat) {p s : Nat} (e : ¬ s = p) : hp_bs (hp_fl h p) s = hp_bs h s := by
  unfold hp_bs hp_fl
  rw [if_neg e]
theorem hp_C_fin {h : Nat → Nat} {A : hp_P} {p k : Nat} {fa : Int32} {a1 a2 a3 a4 a5 a6 a7 a8 a9 a10 a11 a12 : Nat → Int32} {w o : Nat → Int32} (g : hp_G A) (hp : p < 3) (c : hp_C h A p (hp_L A p) 7 k k (fa, a1, a2, a3, a4, a5, a6, a7, a8, a9, a10, a11, a12)) (hk : (hp_L A p).length ≤ k) (hw : ∀ c, c < 120 → w c = -1) (ho : ∀ id, id < 6 → o id + nI (hp_sm (fun i => if i ∈ hp_L A p then 0 else hp_pc A p id i) (hp_n A p)) = nI (hp_ct A id)) :
    hp_X (hp_co A p) (fa, a1, a2, a3, a4, a5, a6, a7, a8, a9, w, o, a12) := by
  obtain ⟨c1, c2, c3, c4, c5, c6, c7, c8, c9, c10⟩ := c
  refine ⟨hp_fl h p, hp_G_co g hp, hw, fun r hr => ?_, fun s hs => ?_, fun s hs i hi => ?_, fun id hid => ?_⟩
  · by_cases e : hp_ow r = p
    · rw [hp_co_p A e, e, hp_fl_s]
      obtain ⟨q, hq, rfl⟩ := hp_rt_all hr e
      exact (c1 q hq).2
    · rw [hp_co_po A e, hp_fl_o h e]
      exact c2 r hr (fun j hj z => e (by rw [z]; exact hp_rt_ow hp hj))
  · have z := c3 s hs
    refine ⟨?_, z.2.1, z.2.2.1, z.2.2.2⟩
    unfold hp_fl
    split
    · omega
    · exact z.1
  · by_cases e : s = p
    · subst e
      rw [hp_co_n] at hi
      have z := c5 i hi
      rw [hp_co_h, hp_co_t, hp_fl_s]
      exact ⟨(z.1 (by omega)).2, (z.2.2.1 (by omega)).2⟩
    · rw [hp_co_no A e] at hi
      rw [hp_co_ho A i e, hp_co_to A i e, hp_fl_o h e]
      exact c4 s hs i hi
  · have z := ho id hid
    rw [← hp_ct_co g hp id] at z
    exact hp_r2 z
theorem hm_col_210 {post : St1 → Prop} {h : Nat → Nat} {A : hp_P} {p k : Nat} {fa : Int32} {a1 a2 a3 a4 a5 a6 a7 a8 a9 a10 a11 a12 : Nat → Int32} (g : hp_G A) (hp : p < 3) (c : hp_C h A p (hp_L A p) 7 k k (fa, a1, a2, a3, a4, a5, a6, a7, a8, a9, a10, a11, a12)) (hk : (hp_L A p).length ≤ k) (H : ∀ u', hp_X (hp_co A p) u' → post u') :
    wX_collectHeap_210 post (nI (hp_bs h p)) (nI (hp_bs h p + hp_n A p)) fa a1 a2 a3 a4 a5 a6 a7 a8 a9 a10 a11 a12 := by
  have hh := (c.2.2.1 p hp).1
  have fin := fun (w o : Nat → Int32) hw ho => hp_C_fin (w := w) (o := o) g hp c hk hw ho
  obtain ⟨c1, c2, c3, c4, c5, c6, c7, c8, c9, c10⟩ := c
  unfold wX_collectHeap_210
  exact hm_sweep (e := hp_nb h p) (L := hp_L A p) (N := hp_ct A) g hp (by unfold hp_bs; omega) (by unfold hp_nb; omega) c8 (fun i hi => c4 p hp i hi) c6 c7 (fun w o hw ho => H _ (fin w o hw ho))
theorem hm_col_120 {post : St1 → Prop} {h : Nat → Nat} {A : hp_P} {p : Nat} (g : hp_G A) (hp : p < 3) (H : ∀ u', hp_X (hp_co A p) u' → post u') :
    ∀ (f k : Nat) (L : List Nat) (fa : Int32) (a1 a2 a3 a4 a5 a6 a7 a8 a9 a10 a11 a12 : Nat → Int32), k + f = 20 → hp_C h A p L 7 k k (fa, a1, a2, a3, a4, a5, a6, a7, a8, a9, a10, a11, a12) → hp_bf (hp_hd A p) (hp_tl A p) f k L = hp_L A p → wX_collectHeap_120 post (nI p) (nI (hp_bs h p)) (nI (hp_bs h p + hp_n A p)) (nI (hp_nb h p)) (f + 1) (nI (hp_nb h p + k)) fa a1 a2 a3 a4 a5 a6 a7 a8 a9 a10 a11 a12 := by
  have hn := (g.2 p hp).1
  have hc3 : (nI p).toNatClampNeg = p := nI_clamp (by omega)
  intro f
  induction f with
  | zero =>
    intro k L fa a1 a2 a3 a4 a5 a6 a7 a8 a9 a10 a11 a12 hk c hb
    have hl := hp_ok_len c.2.2.2.2.2.2.2.1
    have hh := (c.2.2.1 p hp).1
    have m5 : a5 p = nI L.length := by
      have z := (c.2.2.1 p hp).2.2.2
      rw [if_pos rfl] at z
      exact z
    have eL : L = hp_L A p := hb
    subst eL
    refine ⟨hp_in hp, ?_⟩
    rw [hc3, m5, nI_add]
    exact pk_le (hp_nb h p + (hp_L A p).length) (hp_nb h p + k) (fun _ => hm_col_210 g hp c (by omega) H) (fun z => absurd z (by omega)) rfl rfl (by unfold hp_nb; omega) (by unfold hp_nb; omega)
  | succ f ih =>
    intro k L fa a1 a2 a3 a4 a5 a6 a7 a8 a9 a10 a11 a12 hk c hb
    have ok := c.2.2.2.2.2.2.2.1
    have hl := hp_ok_len ok
    have hh := (c.2.2.1 p hp).1
    have m5 : a5 p = nI L.length := by
      have z := (c.2.2.1 p hp).2.2.2
      rw [if_pos rfl] at z
      exact z
    have hnb : hp_nb h p + 20 ≤ 120 := by
      unfold hp_nb
      omega
    refine ⟨hp_in hp, ?_⟩
    rw [hc3, m5, nI_add]
    refine pk_le (hp_nb h p + L.length) (hp_nb h p + k) (fun z => ?_) (fun z => ?_)
    · have eL : L = hp_L A p := by
        rw [hp_bf_e (by omega)] at hb
        exact hb
      subst eL
      exact hm_col_210 g hp c (by omega) H
    · have hkl : k < L.length := by omega
      rw [show (20 : Int32) = nI 20 from rfl, nI_add]
      refine pk_le (hp_nb h p + 20) (hp_nb h p + k) (fun y => absurd y (by omega)) (fun _ => ?_)
      rw [hp_bf_s hkl] at hb
      have i1 : vp_in (nI (hp_nb h p + k)) 120 := hp_in (by omega)
      have hc : (nI (hp_nb h p + k)).toNatClampNeg = hp_nb h p + k := nI_clamp (by omega)
      have t : hp_tm (hp_bs h p) (hp_hd A p (hp_at L k)) (a6 (hp_nb h p + k)) (a7 (hp_nb h p + k)) := (c.2.2.2.2.1 k hkl).2.1 (Nat.le_refl k)
      have gt := ((g.2 p hp).2.2 _ (ok.2 _ (hp_at_mem hkl))).1
      have ex := hp_vi_ex L (hp_hd A p (hp_at L k))
      have hk' : k < (hp_vi L (hp_hd A p (hp_at L k))).length := Nat.lt_of_lt_of_le hkl (hp_ex_len ex)
      have ea := hp_ex_at ex hkl
      have go : ∀ (fb : Int32) (b1 b2 b3 b4 b5 b6 b7 b8 b9 b10 b11 b12 : Nat → Int32), hp_C h A p (hp_vi L (hp_hd A p (hp_at L k))) 7 (k + 1) k (fb, b1, b2, b3, b4, b5, b6, b7, b8, b9, b10, b11, b12) → wX_collectHeap_174 post (wX_collectHeap_120 post (nI p) (nI (hp_bs h p)) (nI (hp_bs h p + hp_n A p)) (nI (hp_nb h p)) (f + 1)) (nI p) (nI (hp_bs h p)) (nI (hp_bs h p + hp_n A p)) (nI (hp_nb h p)) (nI (hp_nb h p + k)) fb b1 b2 b3 b4 b5 b6 b7 b8 b9 b10 b11 b12 := by
        intro fb b1 b2 b3 b4 b5 b6 b7 b8 b9 b10 b11 b12 cb
        refine hm_col_174 g hp hk' cb ?_
        intro fd d1 d2 d3 d4 d5 d6 d7 d8 d9 d10 d11 d12 cd
        rw [ea] at cd
        exact ih (k + 1) _ fd d1 d2 d3 d4 d5 d6 d7 d8 d9 d10 d11 d12 (by omega) cd hb
      refine ⟨i1, ?_⟩
      rw [hc]
      cases e : hp_hd A p (hp_at L k) with
      | inr w =>
        rw [e] at t gt go
        have t1 : a6 (hp_nb h p + k) = w.1 := t.1
        refine br_f (by rw [t1]; exact gt.1) (go fa a1 a2 a3 a4 a5 a6 a7 a8 a9 a10 a11 a12 ?_)
        exact hp_C_head (L := L) (w := a7) g hp hkl c (by rw [e]; exact hp_en_r t) (fun r _ => rfl)
      | inl x =>
        rw [e] at t gt go ex hk' ea
        have t1 : a6 (hp_nb h p + k) = 2 := t.1
        have t2 : a7 (hp_nb h p + k) = nI (hp_bs h p + x) := t.2
        refine br_t t1 ⟨i1, ?_⟩
        rw [t2]
        refine hm_moved_2 g hp c gt ?_
        rintro ⟨fb, b1, b2, b3, b4, b5, b6, b7, b8, b9, b10, b11, b12⟩ cb
        have tb : hp_tm (hp_bs h p) (hp_hd A p (hp_at (hp_vi L (Sum.inl x)) k)) (b6 (hp_nb h p + k)) (b7 (hp_nb h p + k)) := (cb.2.2.2.2.1 k hk').2.1 (Nat.le_refl k)
        rw [ea, e] at tb
        refine ⟨i1, nm_e (go _ _ _ _ _ _ _ _ _ _ _ _ _ (hp_C_head g hp hk' cb ?_ ?_))⟩
        · rw [ea, e, pk_us]
          exact ⟨hp_vi_in L (Sum.inl x), tb.1, rfl⟩
        · intro r hr
          rw [pk_un hr]
theorem hx_collectHeap {post : St1 → Prop} {A : hp_P} {u : St1} {p : Nat} (x : hp_X A u) (hp : p < 3) (H : ∀ u', hp_X (hp_co A p) u' → post u') : wpX_collectHeap post u (nI p) := by
  obtain ⟨h, g, hf, m⟩ := x
  obtain ⟨fa, a1, a2, a3, a4, a5, a6, a7, a8, a9, a10, a11, a12⟩ := u
  have hn := (g.2 p hp).1
  have hc3 : (nI p).toNatClampNeg = p := nI_clamp (by omega)
  have i3 : vp_in (nI p) 3 := hp_in hp
  have hh := (m.2.1 p hp).1
  have m4 : a4 p = nI (h p) := (m.2.1 p hp).2.2.1
  have m5 : a5 p = nI (hp_n A p) := (m.2.1 p hp).2.2.2
  have c0 : hp_C h A p [] 0 0 0 (fa, a1, a2, a3, upd a4 p (nI (1 - h p)), upd a5 p 0, a6, a7, a8, a9, a10, a11, a12) := by
    refine ⟨fun j hj => absurd hj (by omega), fun r hr _ => m.1 r hr, fun s hs => ?_, m.2.2.1, fun j hj => absurd hj (Nat.not_lt_zero j), ⟨fun i hi => ?_, fun c hc _ => hf c hc⟩, m.2.2.2, hp_ok_0 _, Nat.le_refl 0, Nat.le_refl 0⟩
    · have z := m.2.1 s hs
      refine ⟨z.1, z.2.1, ?_, ?_⟩
      · show upd a4 p (nI (1 - h p)) s = nI (if s = p then 1 - h p else h s)
        by_cases e : s = p
        · rw [e, pk_us, if_pos rfl]
        · rw [pk_un e, if_neg e]
          exact z.2.2.1
      · show upd a5 p 0 s = nI (if s = p then 0 else hp_n A s)
        by_cases e : s = p
        · rw [e, pk_us, if_pos rfl]
          rfl
        · rw [pk_un e, if_neg e]
          exact z.2.2.2
    · have z : a10 (hp_bs h p + i) = -1 := hf _ (by unfold hp_bs; omega)
      exact z.trans (if_neg List.not_mem_nil).symm
  unfold wpX_collectHeap
  refine ⟨i3, nm_r (e' := nI (hp_bs h p)) (by rw [hc3, m4]; exact hp_eb p (h p)) ⟨i3, nm_r (by rw [hc3, m5, nI_add]) ⟨i3, i3, nm_r (by rw [hc3, m4, show (1 : Int32) = nI 1 from rfl, pk_sub hh]) ⟨i3, nm_r (by rw [hc3]) ?_⟩⟩⟩⟩
  refine pk_loop (fun n i s => wX_collectHeap_48 post (nI p) (nI (hp_bs h p)) (nI (hp_bs h p + hp_n A p)) n (nI i) s.1 s.2.1 s.2.2.1 s.2.2.2.1 s.2.2.2.2.1 s.2.2.2.2.2.1 s.2.2.2.2.2.2.1 s.2.2.2.2.2.2.2.1 s.2.2.2.2.2.2.2.2.1 s.2.2.2.2.2.2.2.2.2.1 s.2.2.2.2.2.2.2.2.2.2.1 s.2.2.2.2.2.2.2.2.2.2.2.1 s.2.2.2.2.2.2.2.2.2.2.2.2) (fun i s => hp_C h A p (hp_vq A p i) i 0 0 s) 4 0 (fa, a1, a2, a3, upd a4 p (nI (1 - h p)), upd a5 p 0, a6, a7, a8, a9, a10, a11, a12) (by omega) c0 ?_ ?_
  · rintro n ⟨fb, b1, b2, b3, b4, b5, b6, b7, b8, b9, b10, b11, b12⟩ cb
    show wX_collectHeap_48 post (nI p) (nI (hp_bs h p)) (nI (hp_bs h p + hp_n A p)) (n + 1) (nI 4) fb b1 b2 b3 b4 b5 b6 b7 b8 b9 b10 b11 b12
    refine pk_le 4 4 (fun _ => ?_) (fun z => absurd z (by omega))
    refine pk_loop (fun n i s => wX_collectHeap_74 post (nI p) (nI (hp_bs h p)) (nI (hp_bs h p + hp_n A p)) n (nI i) s.1 s.2.1 s.2.2.1 s.2.2.2.1 s.2.2.2.2.1 s.2.2.2.2.2.1 s.2.2.2.2.2.2.1 s.2.2.2.2.2.2.2.1 s.2.2.2.2.2.2.2.2.1 s.2.2.2.2.2.2.2.2.2.1 s.2.2.2.2.2.2.2.2.2.2.1 s.2.2.2.2.2.2.2.2.2.2.2.1 s.2.2.2.2.2.2.2.2.2.2.2.2) (fun i s => hp_C h A p (hp_vq A p (4 + i)) (4 + i) 0 0 s) 3 0 (fb, b1, b2, b3, b4, b5, b6, b7, b8, b9, b10, b11, b12) (by omega) cb ?_ ?_
    · rintro n ⟨fd, d1, d2, d3, d4, d5, d6, d7, d8, d9, d10, d11, d12⟩ cd
      show wX_collectHeap_74 post (nI p) (nI (hp_bs h p)) (nI (hp_bs h p + hp_n A p)) (n + 1) (nI 3) fd d1 d2 d3 d4 d5 d6 d7 d8 d9 d10 d11 d12
      have md4 : d4 p = nI (1 - h p) := by
        have z := (cd.2.2.1 p hp).2.2.1
        rw [if_pos rfl] at z
        exact z
      refine pk_le 3 3 (fun _ => ⟨i3, nm_r (e' := nI (hp_nb h p)) (by rw [hc3, md4]; exact hp_eb p (1 - h p)) ⟨21, ?_⟩⟩) (fun z => absurd z (by omega))
      exact hm_col_120 g hp H 20 0 (hp_vq A p 7) fd d1 d2 d3 d4 d5 d6 d7 d8 d9 d10 d11 d12 (by omega) cd rfl
    · rintro n i ⟨fd, d1, d2, d3, d4, d5, d6, d7, d8, d9, d10, d11, d12⟩ hi cd hk
      show wX_collectHeap_74 post (nI p) (nI (hp_bs h p)) (nI (hp_bs h p + hp_n A p)) (n + 1) (nI i) fd d1 d2 d3 d4 d5 d6 d7 d8 d9 d10 d11 d12
      refine pk_le 3 i (fun z => absurd z (by omega)) (fun _ => hm_movePlace g hp (show 4 + i < 7 by omega) cd ?_ ?_)
      · rw [hp_12, nI_add, hp_rt3]
      · rintro ⟨fe, e1, e2, e3, e4, e5, e6, e7, e8, e9, e10, e11, e12⟩ ce
        exact nm_r (nI_1 i) (hk (fe, e1, e2, e3, e4, e5, e6, e7, e8, e9, e10, e11, e12) ce)
  · rintro n i ⟨fd, d1, d2, d3, d4, d5, d6, d7, d8, d9, d10, d11, d12⟩ hi cd hk
    show wX_collectHeap_48 post (nI p) (nI (hp_bs h p)) (nI (hp_bs h p + hp_n A p)) (n + 1) (nI i) fd d1 d2 d3 d4 d5 d6 d7 d8 d9 d10 d11 d12
    refine pk_le 4 i (fun z => absurd z (by omega)) (fun _ => hm_movePlace g hp (show i < 7 by omega) cd ?_ ?_)
    · rw [hp_40, hp_rt4 hi]
    · rintro ⟨fe, e1, e2, e3, e4, e5, e6, e7, e8, e9, e10, e11, e12⟩ ce
      exact nm_r (nI_1 i) (hk (fe, e1, e2, e3, e4, e5, e6, e7, e8, e9, e10, e11, e12) ce)
theorem hx_collect {post : Int32 → St1 → Prop} {A : hp_P} {u : St1} {p : Nat} (x : hp_X A u) (hp : p < 3) (H : ∀ u', hp_X (hp_co A p) u' → post (nI (hp_L A p).length) u') : wpX_collect post u (nI p) := by
  obtain ⟨fa, a1, a2, a3, a4, a5, a6, a7, a8, a9, a10, a11, a12⟩ := u
  unfold wpX_collect
  refine hw_fits (r := 0) hp (by omega) (br_f hp_1n0 (hx_collectHeap x hp ?_))
  rintro ⟨fb, b1, b2, b3, b4, b5, b6, b7, b8, b9, b10, b11, b12⟩ ⟨h, y⟩
  have m5 : b5 p = nI (hp_n (hp_co A p) p) := (y.2.2.2.1 p hp).2.2.2
  rw [hp_co_n] at m5
  refine ⟨hp_in hp, ?_⟩
  rw [nI_clamp (show p < 2 ^ 31 by omega), m5]
  exact H _ ⟨h, y⟩
/-! room -/
def hp_mr (A : hp_P) (p m : Nat) : hp_P := if hp_n A p ≤ 20 - m then A else hp_co A p
theorem hp_sub20 {m : Nat} (hm : m ≤ 20) : (20 : Int32) - nI m = nI (20 - m) := pk_sub (a := 20) hm
theorem hx_mr18 {post : Int32 → St1 → Prop} {A : hp_P} {p m : Nat} {fa : Int32} {a1 a2 a3 a4 a5 a6 a7 a8 a9 a10 a11 a12 : Nat → Int32} (x : hp_X A (fa, a1, a2, a3, a4, a5, a6, a7, a8, a9, a10, a11, a12)) (hp : p < 3) (hm : m ≤ 20) (H1 : hp_n A p + m ≤ 20 → post 1 (fa, a1, a2, a3, a4, a5, a6, a7, a8, a9, a10, a11, a12)) (H0 : ¬ hp_n A p + m ≤ 20 → post 0 (fa, a1, a2, a3, a4, a5, a6, a7, a8, a9, a10, a11, a12)) : wX_makeRoom_18 post (nI p) (nI m) fa a1 a2 a3 a4 a5 a6 a7 a8 a9 a10 a11 a12 := by
  obtain ⟨h, y⟩ := x
  have hn := (y.1.2 p hp).1
  have m5 : a5 p = nI (hp_n A p) := (y.2.2.2.1 p hp).2.2.2
  unfold wX_makeRoom_18
  refine ⟨hp_in hp, ?_⟩
  rw [nI_clamp (show p < 2 ^ 31 by omega), m5, hp_sub20 hm]
  exact pk_lt (20 - m) (hp_n A p) (fun z => H0 (by omega)) (fun z => H1 (by omega))
theorem hx_makeRoom {post : Int32 → St1 → Prop} {A : hp_P} {u : St1} {p m : Nat} (x : hp_X A u) (hp : p < 3) (hm : m ≤ 20) (H1 : hp_n (hp_mr A p m) p + m ≤ 20 → ∀ u', hp_X (hp_mr A p m) u' → post 1 u') (H0 : ¬ hp_n (hp_mr A p m) p + m ≤ 20 → ∀ u', hp_X (hp_mr A p m) u' → post 0 u') : wpX_makeRoom post u (nI p) (nI m) := by
  obtain ⟨fa, a1, a2, a3, a4, a5, a6, a7, a8, a9, a10, a11, a12⟩ := u
  obtain ⟨h, y⟩ := id x
  have hn := (y.1.2 p hp).1
  have m5 : a5 p = nI (hp_n A p) := (y.2.2.2.1 p hp).2.2.2
  unfold wpX_makeRoom
  refine ⟨hp_in hp, ?_⟩
  rw [nI_clamp (show p < 2 ^ 31 by omega), m5, hp_sub20 hm]
  refine pk_le (hp_n A p) (20 - m) (fun z => ?_) (fun z => ?_)
  · have e : hp_mr A p m = A := if_pos z
    rw [e] at H1 H0
    exact hx_mr18 x hp hm (fun q => H1 q _ x) (fun q => H0 q _ x)
  · have e : hp_mr A p m = hp_co A p := if_neg (by omega)
    rw [e] at H1 H0
    refine hx_collectHeap x hp ?_
    rintro ⟨fb, b1, b2, b3, b4, b5, b6, b7, b8, b9, b10, b11, b12⟩ xb
    exact hx_mr18 xb hp hm (fun q => H1 q _ xb) (fun q => H0 q _ xb)
theorem hp_mr_G {A : hp_P} {p m : Nat} (g : hp_G A) (hp : p < 3) : hp_G (hp_mr A p m) := by
  unfold hp_mr
  split
  · exact g
  · exact hp_G_co g hp
end
section
/-! a pair is filled -/
theorem hw_fill {post : St1 → Prop} {fa : Int32} {a1 a2 a3 a4 a5 a6 a7 a8 a9 a10 a11 a12 : Nat → Int32} {c : Nat} {k1 v1 k2 v2 : Int32} (hc : c < 120) (h1 : k1 = 3 → vp_in v1 6) (h2 : k2 = 3 → vp_in v2 6)
    (H : post (fa, a1, a2, a3, a4, a5, upd a6 c k1, upd a7 c v1, upd a8 c k2, upd a9 c v2, a10, hp_hl (hp_hl a11 k1 v1) k2 v2, a12)) : wpX_fill post (fa, a1, a2, a3, a4, a5, a6, a7, a8, a9, a10, a11, a12) (nI c) k1 v1 k2 v2 := by
  have i1 : vp_in (nI c) 120 := hp_in hc
  have hcl : (nI c).toNatClampNeg = c := nI_clamp (by omega)
  unfold wpX_fill
  refine hw_hold h1 (hw_hold h2 ⟨i1, nm_r (by rw [hcl]) ⟨i1, nm_r (by rw [hcl]) ⟨i1, nm_r (by rw [hcl]) ⟨i1, nm_r (by rw [hcl]) H⟩⟩⟩⟩)
theorem hm_fill {post : St1 → Prop} {h U : Nat → Nat} {A : hp_P} {u : St1} {p n1 n2 : Nat} {t1 t2 : hp_T} {p0 k1 v1 k2 v2 : Int32} (m : hp_N h A U u) (hn : ∀ q, q < 3 → hp_n A q ≤ 20) (hp : p < 3) (hlt : hp_n A p < 20) (g1 : hp_gd n1 t1) (g2 : hp_gd n2 t2)
    (e0 : p0 = nI (hp_bs h p + hp_n A p)) (e1 : k1 = hp_kd t1) (e2 : v1 = hp_vl (hp_bs h p) t1) (e3 : k2 = hp_kd t2) (e4 : v2 = hp_vl (hp_bs h p) t2)
    (H : ∀ u', hp_N h (hp_ap A p t1 t2) U u' → hs_fw u' = hs_fw u → hs_li u' = hs_li u → hs_ls u' = hs_ls u → post u') : wpX_fill post u p0 k1 v1 k2 v2 := by
  obtain ⟨fa, a1, a2, a3, a4, a5, a6, a7, a8, a9, a10, a11, a12⟩ := u
  subst e0 e1 e2 e3 e4
  have hh := (m.2.1 p hp).1
  refine hw_fill (by unfold hp_bs; omega) (hp_in6 g1) (hp_in6 g2) (H _ ?_ rfl rfl rfl)
  refine ⟨m.1, m.2.1, fun q hq i hi => ?_, fun id hid => ?_⟩
  · show hp_tm (hp_bs h q) (hp_hd (hp_ap A p t1 t2) q i) (upd a6 _ _ (hp_bs h q + i)) (upd a7 _ _ (hp_bs h q + i)) ∧ hp_tm (hp_bs h q) (hp_tl (hp_ap A p t1 t2) q i) (upd a8 _ _ (hp_bs h q + i)) (upd a9 _ _ (hp_bs h q + i))
    by_cases e : q = p ∧ i = hp_n A p
    · obtain ⟨eq, ei⟩ := e
      subst eq ei
      rw [hp_ap_h, hp_ap_t, pk_us, pk_us, pk_us, pk_us]
      exact ⟨⟨rfl, rfl⟩, ⟨rfl, rfl⟩⟩
    · have hi' : i < hp_n A q := by
        by_cases eq : q = p
        · subst eq
          rw [hp_ap_n] at hi
          by_cases ei : i = hp_n A q
          · exact absurd ⟨rfl, ei⟩ e
          · omega
        · rw [hp_ap_no A t1 t2 eq] at hi
          exact hi
      have f : hp_bs h q + i ≠ hp_bs h p + hp_n A p := by
        have h1 := (m.2.1 q hq).1
        have h2 := hn q hq
        by_cases eq : q = p
        · subst eq
          omega
        · unfold hp_bs
          omega
      rw [hp_ap_ho A t1 t2 e, hp_ap_to A t1 t2 e, pk_un f, pk_un f, pk_un f, pk_un f]
      exact m.2.2.1 q hq i hi'
  · show hp_hl (hp_hl a11 (hp_kd t1) (hp_vl (hp_bs h p) t1)) (hp_kd t2) (hp_vl (hp_bs h p) t2) id = nI (hp_ct (hp_ap A p t1 t2) id)
    have m3 : a11 id = nI (hp_ct A id) := m.2.2.2 id hid
    rw [hp_hl_t g2 hid, hp_hl_t g1 hid, m3, nI_add, nI_add, hp_ct_ap A t1 t2 hp id]
theorem hp_G_ap {A : hp_P} {p : Nat} {t1 t2 : hp_T} (g : hp_G A) (hlt : hp_n A p + 1 ≤ 20) (g1 : hp_gd (hp_n A p + 1) t1) (g2 : hp_gd (hp_n A p + 1) t2) : hp_G (hp_ap A p t1 t2) := by
  refine ⟨fun r hr => ?_, fun q hq => ?_⟩
  · have z := g.1 r hr
    by_cases e : hp_ow r = p
    · rw [e] at z ⊢
      rw [hp_ap_n]
      exact hp_gd_le (Nat.le_succ _) z
    · rw [hp_ap_no A t1 t2 e]
      exact z
  · by_cases e : q = p
    · subst e
      rw [hp_ap_n]
      refine ⟨hlt, (g.2 q hq).2.1, fun i hi => ?_⟩
      by_cases ei : i = hp_n A q
      · subst ei
        rw [hp_ap_h, hp_ap_t]
        exact ⟨g1, g2⟩
      · rw [hp_ap_ho A t1 t2 (fun z => ei z.2), hp_ap_to A t1 t2 (fun z => ei z.2)]
        have z := (g.2 q hq).2.2 i (by omega)
        exact ⟨hp_gd_le (Nat.le_succ _) z.1, hp_gd_le (Nat.le_succ _) z.2⟩
    · rw [hp_ap_no A t1 t2 e]
      refine ⟨(g.2 q hq).1, (g.2 q hq).2.1, fun i hi => ?_⟩
      rw [hp_ap_ho A t1 t2 (fun z => e z.1), hp_ap_to A t1 t2 (fun z => e z.1)]
      exact (g.2 q hq).2.2 i hi
theorem hx_pair {A : hp_P} {p d s t : Nat} (g : hp_G A) (hp : p < 3) (hd : d < 4) (hs : s < 4) (ht : t < 4) : ∃ (rv : Int32) (A' : hp_P), ∀ (u : St1) (post : Int32 → St1 → Prop), hp_X A u → (∀ u', hp_X A' u' → post rv u') → wpX_pair post u (nI p) (nI d) (nI s) (nI t) := by
  by_cases c : hp_n (hp_mr A p 1) p + 1 ≤ 20
  · refine ⟨0, hp_as (hp_ap (hp_mr A p 1) p (hp_pl (hp_mr A p 1) (4 * p + s)) (hp_pl (hp_mr A p 1) (4 * p + t))) (4 * p + d) (Sum.inl (hp_n (hp_mr A p 1) p)), ?_⟩
    rintro ⟨fa, a1, a2, a3, a4, a5, a6, a7, a8, a9, a10, a11, a12⟩ post x H
    unfold wpX_pair
    refine hw_fits hp hd (br_f hp_1n0 (hw_fits hp hs (br_f hp_1n0 (hw_fits hp ht (br_f hp_1n0 (hx_makeRoom (m := 1) x hp (by omega) (fun _ => ?_) (fun z => absurd c z)))))))
    rintro ⟨fb, b1, b2, b3, b4, b5, b6, b7, b8, b9, b10, b11, b12⟩ ⟨h, y⟩
    refine br_f hp_1n0 ?_
    have hh := (y.2.2.2.1 p hp).1
    have m4 : b4 p = nI (h p) := (y.2.2.2.1 p hp).2.2.1
    have m5 : b5 p = nI (hp_n (hp_mr A p 1) p) := (y.2.2.2.1 p hp).2.2.2
    refine hw_fresh_5 (b := hp_bs h p) hp (by rw [m4]; exact hp_eb p (h p)) m5 ?_
    have ts : hp_tm (hp_bs h (hp_ow (4 * p + s))) (hp_pl (hp_mr A p 1) (4 * p + s)) (b1 (4 * p + s)) (b2 (4 * p + s)) := y.2.2.1 (4 * p + s) (by omega)
    have tt : hp_tm (hp_bs h (hp_ow (4 * p + t))) (hp_pl (hp_mr A p 1) (4 * p + t)) (b1 (4 * p + t)) (b2 (4 * p + t)) := y.2.2.1 (4 * p + t) (by omega)
    have gs := y.1.1 (4 * p + s) (by omega)
    have gt := y.1.1 (4 * p + t) (by omega)
    rw [hp_ow4 hp hs] at ts gs
    rw [hp_ow4 hp ht] at tt gt
    have m' : hp_N h (hp_mr A p 1) (fun q => if q = p then hp_n (hp_mr A p 1) p + 1 else hp_n (hp_mr A p 1) q) (fb, b1, b2, b3, b4, upd b5 p (nI (hp_n (hp_mr A p 1) p + 1)), b6, b7, b8, b9, b10, b11, b12) := by
      refine ⟨y.2.2.1, fun q hq => ?_, y.2.2.2.2⟩
      have z := y.2.2.2.1 q hq
      refine ⟨z.1, z.2.1, z.2.2.1, ?_⟩
      show upd b5 p (nI (hp_n (hp_mr A p 1) p + 1)) q = nI (if q = p then hp_n (hp_mr A p 1) p + 1 else hp_n (hp_mr A p 1) q)
      by_cases e : q = p
      · rw [e, pk_us, if_pos rfl]
      · rw [pk_un e, if_neg e]
        exact z.2.2.2
    have i6 : vp_in (nI (4 * p + s)) 21 := hp_in (by omega)
    have i7 : vp_in (nI (4 * p + t)) 21 := hp_in (by omega)
    refine nm_r hp_40 (nm_r hp_40 ⟨i6, i6, i7, i7, ?_⟩)
    rw [nI_clamp (show 4 * p + s < 2 ^ 31 by omega), nI_clamp (show 4 * p + t < 2 ^ 31 by omega)]
    refine hm_fill m' (fun q hq => (y.1.2 q hq).1) hp (by omega) gs gt rfl ts.1 ts.2 tt.1 tt.2 ?_
    rintro ⟨fe, e1, e2, e3, e4, e5, e6, e7, e8, e9, e10, e11, e12⟩ me q1 q2 q3
    have ge := hp_G_ap y.1 c (hp_gd_le (Nat.le_succ _) gs) (hp_gd_le (Nat.le_succ _) gt)
    have ye : hp_Y h (hp_ap (hp_mr A p 1) p (hp_pl (hp_mr A p 1) (4 * p + s)) (hp_pl (hp_mr A p 1) (4 * p + t))) (fe, e1, e2, e3, e4, e5, e6, e7, e8, e9, e10, e11, e12) := by
      refine ⟨ge, fun c hc => ?_, me⟩
      rw [q1]
      exact y.2.1 c hc
    refine hm_as1 ye (r := 4 * p + d) (t := Sum.inl (hp_n (hp_mr A p 1) p)) (by omega) ?_ hp_40 rfl ?_ ?_
    · rw [hp_ow4 hp hd, hp_ap_n]
      exact Nat.lt_succ_self _
    · rw [hp_ow4 hp hd]
      rfl
    · rintro ⟨fz, z1, z2, z3, z4, z5, z6, z7, z8, z9, z10, z11, z12⟩ yz
      exact H _ ⟨h, yz⟩
  · refine ⟨-2, hp_mr A p 1, ?_⟩
    rintro ⟨fa, a1, a2, a3, a4, a5, a6, a7, a8, a9, a10, a11, a12⟩ post x H
    unfold wpX_pair
    refine hw_fits hp hd (br_f hp_1n0 (hw_fits hp hs (br_f hp_1n0 (hw_fits hp ht (br_f hp_1n0 (hx_makeRoom (m := 1) x hp (by omega) (fun z => absurd z c) (fun _ => ?_)))))))
    rintro ⟨fb, b1, b2, b3, b4, b5, b6, b7, b8, b9, b10, b11, b12⟩ xb
    exact br_t rfl (H _ xb)
end
section
/-! listing -/
def hp_Q (b n : Nat) (L : List Nat) (f : Int32) (w l : Nat → Int32) : Prop := f = nI L.length ∧ hp_fm b (fun i => if i ∈ L then nI (b + i) else -1) w ∧ (∀ j, j < L.length → l j = nI (b + hp_at L j)) ∧ hp_ok n L
theorem hm_enlist {post : St1 → Prop} {fa : Int32} {a1 a2 a3 a4 a5 a6 a7 a8 a9 a10 a11 a12 : Nat → Int32} {b n : Nat} {L : List Nat} {t : hp_T} {k v : Int32} (hn : n ≤ 20) (hb : b + 20 ≤ 120) (q : hp_Q b n L fa a10 a12) (gt : hp_gd n t) (hk : k = hp_kd t) (hv : v = hp_vl b t)
    (H : ∀ f w l, hp_Q b n (hp_vi L t) f w l → post (f, a1, a2, a3, a4, a5, a6, a7, a8, a9, w, a11, l)) : wpX_enlist post (fa, a1, a2, a3, a4, a5, a6, a7, a8, a9, a10, a11, a12) k v := by
  unfold wpX_enlist
  cases t with
  | inr w => exact br_f (by rw [hk]; exact gt.1) (H _ _ _ q)
  | inl x =>
    have hk' : k = 2 := hk
    have hv' : v = nI (b + x) := hv
    have hx : x < n := gt
    subst hk' hv'
    obtain ⟨q1, q2, q3, q4⟩ := q
    subst q1
    have hc : (nI (b + x)).toNatClampNeg = b + x := nI_clamp (by omega)
    have i1 : vp_in (nI (b + x)) 120 := hp_in (by omega)
    have fx : a10 (b + x) = if x ∈ L then nI (b + x) else -1 := q2.1 x (by omega)
    refine br_t rfl ⟨i1, ?_⟩
    rw [hc]
    by_cases e : x ∈ L
    · rw [if_pos e] at fx
      rw [hp_vi_old e] at H
      exact br_t (by rw [fx]; exact nI_pos' (by omega)) (H _ _ _ ⟨rfl, q2, q3, q4⟩)
    · rw [if_neg e] at fx
      rw [hp_vi_new e] at H
      have ok' := hp_ok_app q4 hx e
      have hl := hp_ok_len ok'
      have el : (L ++ [x]).length = L.length + 1 := by
        rw [List.length_append]
        rfl
      rw [el] at hl
      have hcl : (nI L.length).toNatClampNeg = L.length := nI_clamp (by omega)
      refine br_f (by rw [fx]; decide) ⟨i1, nm_e ⟨hp_in (by omega), nm_r (by rw [hcl]) (nm_r (nI_1 _) (H _ _ _ ⟨by rw [el], ⟨fun i hi => ?_, fun c hc' ho => ?_⟩, fun j hj => ?_, ok'⟩))⟩⟩
      · show upd a10 (b + x) (nI (b + x)) (b + i) = if i ∈ L ++ [x] then nI (b + i) else -1
        by_cases ei : i = x
        · subst ei
          rw [pk_us, if_pos (List.mem_append_right L List.mem_cons_self)]
        · rw [pk_un (by omega)]
          have z : a10 (b + i) = if i ∈ L then nI (b + i) else -1 := q2.1 i hi
          rw [z]
          by_cases ej : i ∈ L
          · rw [if_pos ej, if_pos (List.mem_append_left _ ej)]
          · rw [if_neg ej, if_neg (fun y => (List.mem_append.mp y).elim ej (fun w => ei (List.mem_singleton.mp w)))]
      · rw [pk_un (by omega)]
        exact q2.2 c hc' ho
      · rw [el] at hj
        by_cases ej : j = L.length
        · rw [ej, pk_us, hp_at_new]
        · rw [pk_un ej, hp_at_app (by omega)]
          exact q3 j (by omega)
theorem hm_forget {post : St1 → Prop} {fa : Int32} {a1 a2 a3 a4 a5 a6 a7 a8 a9 a10 a11 a12 : Nat → Int32} {b n : Nat} {L : List Nat} (hn : n ≤ 20) (hb : b + 20 ≤ 120) (ok : hp_ok n L) (hf : fa = nI L.length) (hl : ∀ j, j < L.length → a12 j = nI (b + hp_at L j)) (hm : ∀ c, c < 120 → a10 c = -1 ∨ ∃ i, i ∈ L ∧ c = b + i)
    (H : ∀ w, (∀ c, c < 120 → w c = -1) → post (fa, a1, a2, a3, a4, a5, a6, a7, a8, a9, w, a11, a12)) : wpX_forgetForwards post (fa, a1, a2, a3, a4, a5, a6, a7, a8, a9, a10, a11, a12) := by
  subst hf
  have hlen := hp_ok_len ok
  refine pk_loop (fun n i w => wX_forgetForwards_2 post (nI L.length) n (nI i) a1 a2 a3 a4 a5 a6 a7 a8 a9 w a11 a12) (fun i w => ∀ c, c < 120 → w c = -1 ∨ ∃ j, i ≤ j ∧ j < L.length ∧ c = b + hp_at L j) L.length 0 a10 (by omega) ?_ ?_ ?_
  · intro c hc
    rcases hm c hc with z | ⟨i, hi, e⟩
    · exact Or.inl z
    · exact Or.inr ⟨hp_ix i L, by omega, hp_ix_lt hi, by rw [hp_at_ix hi]; exact e⟩
  · intro n w hw
    refine pk_le L.length L.length (fun _ => H w (fun c hc => ?_)) (fun z => absurd z (by omega))
    rcases hw c hc with z | ⟨j, h1, h2, _⟩
    · exact z
    · omega
  · intro n i w hi hw hk
    have hi2 := ok.2 _ (hp_at_mem hi)
    have ea := hl i hi
    have hc : (nI i).toNatClampNeg = i := nI_clamp (by omega)
    refine pk_le L.length i (fun z => absurd z (by omega)) (fun _ => ⟨hp_in (by omega), ?_⟩)
    rw [hc, ea]
    refine ⟨hp_in (by omega), nm_r (by rw [nI_clamp (show b + hp_at L i < 2 ^ 31 by omega)]) (nm_r (nI_1 i) (hk (upd w (b + hp_at L i) (-1)) ?_))⟩
    intro c hc'
    by_cases e : c = b + hp_at L i
    · left
      rw [e, pk_us]
    · rw [pk_un e]
      rcases hw c hc' with z | ⟨j, h1, h2, h3⟩
      · exact Or.inl z
      · refine Or.inr ⟨j, ?_, h2, h3⟩
        by_cases ej : j = i
        · subst ej
          exact absurd h3 e
        · omega
theorem hm_list_82 {post : St1 → Prop} {fa : Int32} {a1 a2 a3 a4 a5 a6 a7 a8 a9 a10 a11 a12 : Nat → Int32} {b n : Nat} {L : List Nat} (hn : n ≤ 20) (hb : b + 20 ≤ 120) (q : hp_Q b n L fa a10 a12) (H : ∀ w, (∀ c, c < 120 → w c = -1) → post (fa, a1, a2, a3, a4, a5, a6, a7, a8, a9, w, a11, a12)) : wX_listPairs_82 post fa a1 a2 a3 a4 a5 a6 a7 a8 a9 a10 a11 a12 := by
  obtain ⟨q1, q2, q3, q4⟩ := q
  unfold wX_listPairs_82
  refine hm_forget hn hb q4 q1 q3 (fun c hc => ?_) H
  by_cases e : b ≤ c ∧ c < b + 20
  · have z := q2.1 (c - b) (by omega)
    rw [show b + (c - b) = c by omega] at z
    by_cases y : c - b ∈ L
    · exact Or.inr ⟨c - b, y, by omega⟩
    · exact Or.inl (z.trans (if_neg y))
  · exact Or.inl (q2.2 c hc (by omega))
theorem hm_list_23 {post : St1 → Prop} {A : hp_P} {p b : Nat} {K : List Nat} {a1 a2 a3 a4 a5 a6 a7 a8 a9 a11 : Nat → Int32} (g : hp_G A) (hp : p < 3) (hb : b + 20 ≤ 120)
    (mh : ∀ i, i < hp_n A p → hp_tm b (hp_hd A p i) (a6 (b + i)) (a7 (b + i)) ∧ hp_tm b (hp_tl A p i) (a8 (b + i)) (a9 (b + i)))
    (H : ∀ w l, (∀ c, c < 120 → w c = -1) → (∀ j, j < K.length → l j = nI (b + hp_at K j)) → post (nI K.length, a1, a2, a3, a4, a5, a6, a7, a8, a9, w, a11, l)) :
    ∀ (f k : Nat) (L : List Nat) (fa : Int32) (a10 a12 : Nat → Int32), k + f = 20 → hp_Q b (hp_n A p) L fa a10 a12 → hp_bf (hp_hd A p) (hp_tl A p) f k L = K → wX_listPairs_23 post (f + 1) (nI k) fa a1 a2 a3 a4 a5 a6 a7 a8 a9 a10 a11 a12 := by
  have hn := (g.2 p hp).1
  have out : ∀ (L : List Nat) (fa : Int32) (a10 a12 : Nat → Int32), hp_Q b (hp_n A p) L fa a10 a12 → L = K → wX_listPairs_82 post fa a1 a2 a3 a4 a5 a6 a7 a8 a9 a10 a11 a12 := by
    intro L fa a10 a12 q e
    subst e
    have q' := q
    obtain ⟨q1, q2, q3, q4⟩ := q
    subst q1
    exact hm_list_82 hn hb q' (fun w hw => H w a12 hw q3)
  intro f
  induction f with
  | zero =>
    intro k L fa a10 a12 hk q e
    have hl := hp_ok_len q.2.2.2
    have o := out L fa a10 a12 q e
    obtain ⟨q1, q2, q3, q4⟩ := q
    subst q1
    exact pk_le L.length k (fun _ => o) (fun z => absurd z (by omega))
  | succ f ih =>
    intro k L fa a10 a12 hk q e
    have hl := hp_ok_len q.2.2.2
    by_cases hkl : k < L.length
    · rw [hp_bf_s hkl] at e
      have q' := q
      obtain ⟨q1, q2, q3, q4⟩ := q
      subst q1
      have hm := q4.2 _ (hp_at_mem hkl)
      have mi := mh _ hm
      have gi := (g.2 p hp).2.2 _ hm
      have hc : (nI k).toNatClampNeg = k := nI_clamp (by omega)
      have hc2 : (nI (b + hp_at L k)).toNatClampNeg = b + hp_at L k := nI_clamp (by omega)
      have i1 : vp_in (nI (b + hp_at L k)) 120 := hp_in (by omega)
      refine pk_le L.length k (fun z => absurd z (by omega)) (fun _ => pk_le 20 k (fun z => absurd z (by omega)) (fun _ => ⟨hp_in (by omega), nm_r (by rw [hc]; exact q3 k hkl) ⟨i1, i1, ?_⟩⟩))
      rw [hc2]
      refine hm_enlist hn hb q' gi.1 mi.1.1 mi.1.2 ?_
      intro f1 w1 l1 q1
      refine ⟨i1, i1, ?_⟩
      refine hm_enlist hn hb q1 gi.2 mi.2.1 mi.2.2 ?_
      intro f2 w2 l2 q2
      exact nm_r (nI_1 k) (ih (k + 1) _ f2 w2 l2 (by omega) q2 e)
    · rw [hp_bf_e (by omega)] at e
      have o := out L fa a10 a12 q e
      obtain ⟨q1, q2, q3, q4⟩ := q
      subst q1
      exact pk_le L.length k (fun _ => o) (fun z => absurd z (by omega))
theorem hm_list {post : St1 → Prop} {h : Nat → Nat} {A : hp_P} {p r : Nat} {fa : Int32} {a1 a2 a3 a4 a5 a6 a7 a8 a9 a10 a11 a12 : Nat → Int32} (y : hp_Y h A (fa, a1, a2, a3, a4, a5, a6, a7, a8, a9, a10, a11, a12)) (hp : p < 3) (hr : r < 21) (ho : hp_ow r = p)
    (H : ∀ w l, (∀ c, c < 120 → w c = -1) → (∀ j, j < (hp_K A p r).length → l j = nI (hp_bs h p + hp_at (hp_K A p r) j)) → post (nI (hp_K A p r).length, a1, a2, a3, a4, a5, a6, a7, a8, a9, w, a11, l)) : wpX_listPairs post (fa, a1, a2, a3, a4, a5, a6, a7, a8, a9, a10, a11, a12) (nI r) := by
  obtain ⟨g, hf, m⟩ := y
  have hn := (g.2 p hp).1
  have hh := (m.2.1 p hp).1
  have hb : hp_bs h p + 20 ≤ 120 := by
    unfold hp_bs
    omega
  have t : hp_tm (hp_bs h (hp_ow r)) (hp_pl A r) (a1 r) (a2 r) := m.1 r hr
  have gt := g.1 r hr
  rw [ho] at t gt
  have i1 : vp_in (nI r) 21 := hp_in hr
  unfold wpX_listPairs
  refine ⟨i1, i1, ?_⟩
  rw [nI_clamp (show r < 2 ^ 31 by omega)]
  refine hm_enlist (b := hp_bs h p) (n := hp_n A p) (L := []) hn hb ⟨rfl, ⟨fun i hi => ?_, fun c hc _ => hf c hc⟩, fun j hj => absurd hj (Nat.not_lt_zero j), hp_ok_0 _⟩ gt t.1 t.2 ?_
  · have z : a10 (hp_bs h p + i) = -1 := hf (hp_bs h p + i) (by omega)
    exact z.trans (if_neg List.not_mem_nil).symm
  · intro f w l q
    exact ⟨21, hm_list_23 (K := hp_K A p r) g hp hb (fun i hi => m.2.2.1 p hp i hi) H 20 0 _ f w l (by omega) q rfl⟩
end
section
/-! copying -/
theorem hp_fwd {b e m n : Nat} {K : List Nat} {t : hp_T} {k v : Int32} {w : Nat → Int32} (fm : hp_fm b (fun i => if i ∈ K then nI (e + (m + hp_ix i K)) else -1) w) (c : hp_cl (fun x => x ∈ K) t) (g : hp_gd n t) (hn : n ≤ 20) (hb : b + 20 ≤ 120) (ht : hp_tm b t k v) :
    (k = 2 → vp_in v 120 ∧ w v.toNatClampNeg = hp_vl e (hp_rn (fun i => m + hp_ix i K) t)) ∧ (¬ k = 2 → v = hp_vl e (hp_rn (fun i => m + hp_ix i K) t)) := by
  cases t with
  | inr y =>
    have t1 : k = y.1 := ht.1
    exact ⟨fun z => absurd (by rw [← t1]; exact z) g.1, fun _ => ht.2⟩
  | inl x =>
    have t1 : k = 2 := ht.1
    have t2 : v = nI (b + x) := ht.2
    have hx : x < n := g
    refine ⟨fun _ => ?_, fun z => absurd t1 z⟩
    rw [t2, nI_clamp (show b + x < 2 ^ 31 by omega)]
    refine ⟨hp_in (by omega), ?_⟩
    rw [fm.1 x (by omega)]
    exact if_pos c
theorem hm_copy_111 {post : St1 → Prop} {J : Int32 → Int32 → (Nat → Int32) → (Nat → Int32) → (Nat → Int32) → (Nat → Int32) → (Nat → Int32) → (Nat → Int32) → (Nat → Int32) → (Nat → Int32) → (Nat → Int32) → (Nat → Int32) → (Nat → Int32) → (Nat → Int32) → Prop} {h U : Nat → Nat} {B : hp_P} {to x i n1 n2 : Nat} {t1 t2 : hp_T} {fa : Int32} {a1 a2 a3 a4 a5 a6 a7 a8 a9 a10 a11 a12 : Nat → Int32} {x4 z0 : Int32} (m : hp_N h B U (fa, a1, a2, a3, a4, a5, a6, a7, a8, a9, a10, a11, a12)) (hn : ∀ q, q < 3 → hp_n B q ≤ 20) (ht : to < 3) (hlt : hp_n B to < 20) (g1 : hp_gd n1 t1) (g2 : hp_gd n2 t2) (hx : x < 120)
    (e0 : a10 x = nI (hp_bs h to + hp_n B to)) (e1 : a6 x = hp_kd t1) (e2 : x4 = hp_vl (hp_bs h to) t1) (e3 : a8 x = hp_kd t2) (e4 : z0 = hp_vl (hp_bs h to) t2)
    (H : ∀ (fb : Int32) (b1 b2 b3 b4 b5 b6 b7 b8 b9 b10 b11 b12 : Nat → Int32), hp_N h (hp_ap B to t1 t2) U (fb, b1, b2, b3, b4, b5, b6, b7, b8, b9, b10, b11, b12) → b10 = a10 → fb = fa → b12 = a12 → J (nI (i + 1)) fb b1 b2 b3 b4 b5 b6 b7 b8 b9 b10 b11 b12) : wX_copyListed_111 post J (nI i) (nI x) x4 z0 fa a1 a2 a3 a4 a5 a6 a7 a8 a9 a10 a11 a12 := by
  have i1 : vp_in (nI x) 120 := hp_in hx
  unfold wX_copyListed_111
  refine ⟨i1, i1, i1, ?_⟩
  rw [nI_clamp (show x < 2 ^ 31 by omega)]
  refine hm_fill m hn ht hlt g1 g2 e0 e1 e2 e3 e4 ?_
  rintro ⟨fb, b1, b2, b3, b4, b5, b6, b7, b8, b9, b10, b11, b12⟩ mb f1 f2 f3
  exact nm_r (nI_1 i) (H fb b1 b2 b3 b4 b5 b6 b7 b8 b9 b10 b11 b12 mb f1 f2 f3)
theorem hm_copy_34 {post : St1 → Prop} {h U : Nat → Nat} {A : hp_P} {p to : Nat} {K : List Nat} {w l : Nat → Int32} (g : hp_G A) (hp : p < 3) (ht : to < 3) (hh : h p ≤ 1) (ok : hp_ok (hp_n A p) K) (hc : ∀ i, i ∈ K → hp_cl (fun x => x ∈ K) (hp_hd A p i) ∧ hp_cl (fun x => x ∈ K) (hp_tl A p i)) (hN : hp_n A to + K.length ≤ 20)
    (fm : hp_fm (hp_bs h p) (fun i => if i ∈ K then nI (hp_bs h to + (hp_n A to + hp_ix i K)) else -1) w) (hl : ∀ j, j < K.length → l j = nI (hp_bs h p + hp_at K j))
    (H : ∀ u', hp_N h (hp_cp A (hp_hd A p) (hp_tl A p) to (hp_n A to) K K.length) U u' → hs_fw u' = w → hs_li u' = nI K.length → hs_ls u' = l → post u')
    (u : St1) (m : hp_N h A U u) (f1 : hs_fw u = w) (f2 : hs_li u = nI K.length) (f3 : hs_ls u = l) : ∃ n, wX_copyListed_34 post n 0 u.1 u.2.1 u.2.2.1 u.2.2.2.1 u.2.2.2.2.1 u.2.2.2.2.2.1 u.2.2.2.2.2.2.1 u.2.2.2.2.2.2.2.1 u.2.2.2.2.2.2.2.2.1 u.2.2.2.2.2.2.2.2.2.1 u.2.2.2.2.2.2.2.2.2.2.1 u.2.2.2.2.2.2.2.2.2.2.2.1 u.2.2.2.2.2.2.2.2.2.2.2.2 := by
  have hn := (g.2 p hp).1
  have hlen := hp_ok_len ok
  have hb : hp_bs h p + 20 ≤ 120 := by
    unfold hp_bs
    omega
  refine pk_loop (fun n i s => wX_copyListed_34 post n (nI i) s.1 s.2.1 s.2.2.1 s.2.2.2.1 s.2.2.2.2.1 s.2.2.2.2.2.1 s.2.2.2.2.2.2.1 s.2.2.2.2.2.2.2.1 s.2.2.2.2.2.2.2.2.1 s.2.2.2.2.2.2.2.2.2.1 s.2.2.2.2.2.2.2.2.2.2.1 s.2.2.2.2.2.2.2.2.2.2.2.1 s.2.2.2.2.2.2.2.2.2.2.2.2) (fun i s => hp_N h (hp_cp A (hp_hd A p) (hp_tl A p) to (hp_n A to) K i) U s ∧ hs_fw s = w ∧ hs_li s = nI K.length ∧ hs_ls s = l) K.length 0 u (by omega) ⟨m, f1, f2, f3⟩ ?_ ?_
  · rintro n ⟨fa, a1, a2, a3, a4, a5, a6, a7, a8, a9, a10, a11, a12⟩ ⟨ma, h1, h2, h3⟩
    show wX_copyListed_34 post (n + 1) (nI K.length) fa a1 a2 a3 a4 a5 a6 a7 a8 a9 a10 a11 a12
    have h1' : a10 = w := h1
    have h2' : fa = nI K.length := h2
    have h3' : a12 = l := h3
    subst h1' h2' h3'
    exact pk_le K.length K.length (fun _ => H _ ma rfl rfl rfl) (fun z => absurd z (by omega))
  · rintro n i ⟨fa, a1, a2, a3, a4, a5, a6, a7, a8, a9, a10, a11, a12⟩ hi ⟨ma, h1, h2, h3⟩ hk
    show wX_copyListed_34 post (n + 1) (nI i) fa a1 a2 a3 a4 a5 a6 a7 a8 a9 a10 a11 a12
    have h1' : a10 = w := h1
    have h2' : fa = nI K.length := h2
    have h3' : a12 = l := h3
    subst h1' h2' h3'
    have nn := hp_cp_n A (hp_hd A p) (hp_tl A p) to (hp_n A to) K i
    have hm := hp_at_mem hi
    have hx := ok.2 _ hm
    have old := hp_cp_old A (hp_hd A p) (hp_tl A p) to (hp_n A to) K i p (hp_at K i) hx
    have tx := ma.2.2.1 p hp (hp_at K i) (by
      by_cases e : p = to
      · have e1 : hp_n (hp_cp A (hp_hd A p) (hp_tl A p) to (hp_n A to) K i) p = hp_n (hp_cp A (hp_hd A p) (hp_tl A p) to (hp_n A to) K i) to := congrArg _ e
        have e2 : hp_n A p = hp_n A to := congrArg _ e
        rw [e1, nn.1]
        omega
      · rw [nn.2.1 p e]
        exact hx)
    rw [old.1, old.2] at tx
    have gx := (g.2 p hp).2.2 _ hx
    have cx := hc _ hm
    have th : hp_tm (hp_bs h p) (hp_hd A p (hp_at K i)) (a6 (hp_bs h p + hp_at K i)) (a7 (hp_bs h p + hp_at K i)) := tx.1
    have tt : hp_tm (hp_bs h p) (hp_tl A p (hp_at K i)) (a8 (hp_bs h p + hp_at K i)) (a9 (hp_bs h p + hp_at K i)) := tx.2
    have fh := hp_fwd fm cx.1 gx.1 hn hb th
    have ft := hp_fwd fm cx.2 gx.2 hn hb tt
    have hc1 : (nI i).toNatClampNeg = i := nI_clamp (by omega)
    have hc2 : (nI (hp_bs h p + hp_at K i)).toNatClampNeg = hp_bs h p + hp_at K i := nI_clamp (by omega)
    have i1 : vp_in (nI (hp_bs h p + hp_at K i)) 120 := hp_in (by omega)
    have hnq : ∀ q, q < 3 → hp_n (hp_cp A (hp_hd A p) (hp_tl A p) to (hp_n A to) K i) q ≤ 20 := by
      intro q hq
      by_cases e : q = to
      · rw [e, nn.1]
        omega
      · rw [nn.2.1 q e]
        exact (g.2 q hq).1
    have hlt : hp_n (hp_cp A (hp_hd A p) (hp_tl A p) to (hp_n A to) K i) to < 20 := by
      rw [nn.1]
      omega
    have e0 : a10 (hp_bs h p + hp_at K i) = nI (hp_bs h to + hp_n (hp_cp A (hp_hd A p) (hp_tl A p) to (hp_n A to) K i) to) := by
      rw [fm.1 _ (by omega), nn.1]
      show (if hp_at K i ∈ K then nI (hp_bs h to + (hp_n A to + hp_ix (hp_at K i) K)) else -1) = _
      rw [if_pos hm, hp_ix_at ok.1 hi]
    have gr1 : hp_gd 40 (hp_rn (fun i => hp_n A to + hp_ix i K) (hp_hd A p (hp_at K i))) := hp_gd_rn gx.1 cx.1 (fun j hj => by
      have := hp_ix_lt hj
      omega)
    have gr2 : hp_gd 40 (hp_rn (fun i => hp_n A to + hp_ix i K) (hp_tl A p (hp_at K i))) := hp_gd_rn gx.2 cx.2 (fun j hj => by
      have := hp_ix_lt hj
      omega)
    have last : ∀ x4 z0, x4 = hp_vl (hp_bs h to) (hp_rn (fun i => hp_n A to + hp_ix i K) (hp_hd A p (hp_at K i))) → z0 = hp_vl (hp_bs h to) (hp_rn (fun i => hp_n A to + hp_ix i K) (hp_tl A p (hp_at K i))) → wX_copyListed_111 post (wX_copyListed_34 post n) (nI i) (nI (hp_bs h p + hp_at K i)) x4 z0 (nI K.length) a1 a2 a3 a4 a5 a6 a7 a8 a9 a10 a11 a12 := by
      intro x4 z0 e4 ez
      refine hm_copy_111 ma hnq ht hlt gr1 gr2 (by omega) e0 (by rw [hp_kd_rn]; exact th.1) e4 (by rw [hp_kd_rn]; exact tt.1) ez ?_
      intro fb b1 b2 b3 b4 b5 b6 b7 b8 b9 b10 b11 b12 mb k1 k2 k3
      exact hk (fb, b1, b2, b3, b4, b5, b6, b7, b8, b9, b10, b11, b12) ⟨mb, k1, k2, k3⟩
    have mid : ∀ x4, x4 = hp_vl (hp_bs h to) (hp_rn (fun i => hp_n A to + hp_ix i K) (hp_hd A p (hp_at K i))) → wX_copyListed_79 post (wX_copyListed_34 post n) (nI i) (nI (hp_bs h p + hp_at K i)) x4 (nI K.length) a1 a2 a3 a4 a5 a6 a7 a8 a9 a10 a11 a12 := by
      intro x4 e4
      unfold wX_copyListed_79
      refine ⟨i1, ?_⟩
      rw [hc2]
      exact br_c (fun z => ⟨i1, (ft.1 z).1, last _ _ e4 (ft.1 z).2⟩) (fun z => ⟨i1, last _ _ e4 (ft.2 z)⟩)
    refine pk_le K.length i (fun z => absurd z (by omega)) (fun _ => ⟨hp_in (by omega), nm_r (by rw [hc1]; exact hl i hi) ⟨i1, ?_⟩⟩)
    rw [hc2]
    exact br_c (fun z => ⟨i1, (fh.1 z).1, mid _ (fh.1 z).2⟩) (fun z => ⟨i1, mid _ (fh.2 z)⟩)
theorem hm_copy {post : St1 → Prop} {h : Nat → Nat} {A : hp_P} {p to : Nat} {K : List Nat} {fa : Int32} {a1 a2 a3 a4 a5 a6 a7 a8 a9 a10 a11 a12 : Nat → Int32} (y : hp_Y h A (fa, a1, a2, a3, a4, a5, a6, a7, a8, a9, a10, a11, a12)) (hp : p < 3) (ht : to < 3) (ok : hp_ok (hp_n A p) K) (hc : ∀ i, i ∈ K → hp_cl (fun x => x ∈ K) (hp_hd A p i) ∧ hp_cl (fun x => x ∈ K) (hp_tl A p i)) (hN : hp_n A to + K.length ≤ 20)
    (hfa : fa = nI K.length) (hl : ∀ j, j < K.length → a12 j = nI (hp_bs h p + hp_at K j))
    (H : ∀ u', hp_N h (hp_cp A (hp_hd A p) (hp_tl A p) to (hp_n A to) K K.length) (fun q => if q = to then hp_n A to + K.length else hp_n A q) u' → hp_fm (hp_bs h p) (fun i => if i ∈ K then nI (hp_bs h to + (hp_n A to + hp_ix i K)) else -1) (hs_fw u') → hs_li u' = nI K.length → hs_ls u' = a12 → post u') : wpX_copyListed post (fa, a1, a2, a3, a4, a5, a6, a7, a8, a9, a10, a11, a12) (nI to) := by
  obtain ⟨g, hf, m⟩ := y
  subst hfa
  have hn := (g.2 p hp).1
  have hlen := hp_ok_len ok
  have hh := (m.2.1 p hp).1
  have hht := (m.2.1 to ht).1
  have hb : hp_bs h p + 20 ≤ 120 := by
    unfold hp_bs
    omega
  have m4 : a4 to = nI (h to) := (m.2.1 to ht).2.2.1
  have m5 : ∀ q, q < 3 → a5 q = nI (hp_n A q) := fun q hq => (m.2.1 q hq).2.2.2
  refine pk_loop (σ := (Nat → Int32) × (Nat → Int32)) (fun n i s => wX_copyListed_2 post (nI to) n (nI i) (nI K.length) a1 a2 a3 a4 s.1 a6 a7 a8 a9 s.2 a11 a12)
    (fun i s => (s.1 to = nI (hp_n A to + i) ∧ ∀ q, ¬ q = to → s.1 q = a5 q) ∧ hp_fm (hp_bs h p) (fun x => if x ∈ K ∧ hp_ix x K < i then nI (hp_bs h to + (hp_n A to + hp_ix x K)) else -1) s.2) K.length 0 (a5, a10) (by omega) ⟨⟨m5 to ht, fun q _ => rfl⟩, ⟨fun i hi => ?_, fun c hc _ => hf c hc⟩⟩ ?_ ?_
  · show a10 (hp_bs h p + i) = if i ∈ K ∧ hp_ix i K < 0 then nI (hp_bs h to + (hp_n A to + hp_ix i K)) else -1
    rw [if_neg (fun z => absurd z.2 (by omega))]
    exact hf (hp_bs h p + i) (by omega)
  · rintro n ⟨v, w⟩ ⟨⟨h1, h2⟩, h3⟩
    show wX_copyListed_2 post (nI to) (n + 1) (nI K.length) (nI K.length) a1 a2 a3 a4 v a6 a7 a8 a9 w a11 a12
    have h1' : v to = nI (hp_n A to + K.length) := h1
    have h2' : ∀ q, ¬ q = to → v q = a5 q := h2
    refine pk_le K.length K.length (fun _ => ?_) (fun z => absurd z (by omega))
    have fm : hp_fm (hp_bs h p) (fun i => if i ∈ K then nI (hp_bs h to + (hp_n A to + hp_ix i K)) else -1) w := by
      refine ⟨fun i hi => ?_, h3.2⟩
      have z : w (hp_bs h p + i) = if i ∈ K ∧ hp_ix i K < K.length then nI (hp_bs h to + (hp_n A to + hp_ix i K)) else -1 := h3.1 i hi
      show w (hp_bs h p + i) = if i ∈ K then nI (hp_bs h to + (hp_n A to + hp_ix i K)) else -1
      by_cases e : i ∈ K
      · rw [if_pos ⟨e, hp_ix_lt e⟩] at z
        rw [if_pos e]
        exact z
      · rw [if_neg (fun q => e q.1)] at z
        rw [if_neg e]
        exact z
    refine hm_copy_34 (l := a12) g hp ht hh ok hc hN fm hl (fun u' mu k1 k2 k3 => H u' mu (by rw [k1]; exact fm) k2 k3) (nI K.length, a1, a2, a3, a4, v, a6, a7, a8, a9, w, a11, a12) ⟨m.1, fun q hq => ?_, m.2.2⟩ rfl rfl rfl
    have z := m.2.1 q hq
    refine ⟨z.1, z.2.1, z.2.2.1, ?_⟩
    show v q = nI (if q = to then hp_n A to + K.length else hp_n A q)
    by_cases e : q = to
    · rw [e, if_pos rfl]
      exact h1'
    · rw [if_neg e, h2' q e]
      exact z.2.2.2
  · rintro n i ⟨v, w⟩ hi ⟨⟨h1, h2⟩, h3⟩ hk
    show wX_copyListed_2 post (nI to) (n + 1) (nI i) (nI K.length) a1 a2 a3 a4 v a6 a7 a8 a9 w a11 a12
    have h1' : v to = nI (hp_n A to + i) := h1
    have h2' : ∀ q, ¬ q = to → v q = a5 q := h2
    have hx := ok.2 _ (hp_at_mem hi)
    have hc1 : (nI i).toNatClampNeg = i := nI_clamp (by omega)
    have hc2 : (nI (hp_bs h p + hp_at K i)).toNatClampNeg = hp_bs h p + hp_at K i := nI_clamp (by omega)
    refine pk_le K.length i (fun z => absurd z (by omega)) (fun _ => ⟨hp_in (by omega), ?_⟩)
    refine hw_fresh_4 (b := hp_bs h to) (n := hp_n A to + i) ht (by rw [m4]; exact hp_eb to (h to)) h1' ?_
    refine ⟨by rw [hc1, hl i hi]; exact hp_in (by omega), nm_r (by rw [hc1, hl i hi, hc2]) (nm_r (nI_1 i) (hk (upd v to (nI (hp_n A to + i + 1)), upd w (hp_bs h p + hp_at K i) (nI (hp_bs h to + (hp_n A to + i)))) ⟨⟨?_, fun q hq => ?_⟩, ⟨fun x hx' => ?_, fun c hc' ho => ?_⟩⟩))⟩
    · show upd v to (nI (hp_n A to + i + 1)) to = nI (hp_n A to + (i + 1))
      rw [pk_us]
      rfl
    · show upd v to (nI (hp_n A to + i + 1)) q = a5 q
      rw [pk_un hq]
      exact h2' q hq
    · show upd w (hp_bs h p + hp_at K i) (nI (hp_bs h to + (hp_n A to + i))) (hp_bs h p + x) = if x ∈ K ∧ hp_ix x K < i + 1 then nI (hp_bs h to + (hp_n A to + hp_ix x K)) else -1
      by_cases e : x = hp_at K i
      · rw [e, pk_us, hp_ix_at ok.1 hi, if_pos ⟨hp_at_mem hi, Nat.lt_succ_self i⟩]
      · rw [pk_un (by omega)]
        have z : w (hp_bs h p + x) = if x ∈ K ∧ hp_ix x K < i then nI (hp_bs h to + (hp_n A to + hp_ix x K)) else -1 := h3.1 x hx'
        rw [z]
        by_cases c : x ∈ K ∧ hp_ix x K < i
        · rw [if_pos c, if_pos ⟨c.1, by omega⟩]
        · rw [if_neg c, if_neg (fun q => c ⟨q.1, ?_⟩)]
          by_cases e2 : hp_ix x K = i
          · exact absurd (by rw [← e2, hp_at_ix q.1]) e
          · omega
    · show upd w (hp_bs h p + hp_at K i) (nI (hp_bs h to + (hp_n A to + i))) c = -1
      rw [pk_un (by omega)]
      exact h3.2 c hc' ho
/-! sending -/
theorem hp_K_mr {A : hp_P} {p to r m : Nat} (g : hp_G A) (hp : p < 3) (hr : r < 21) (ho : hp_ow r = p) : (hp_K (hp_mr A to m) p r).length = (hp_K A p r).length := by
  unfold hp_mr
  split
  · rfl
  · exact hp_K_co g hp hr ho
theorem hp_mr_w {A : hp_P} {p m : Nat} : hp_w (hp_mr A p m) = hp_w A := by
  unfold hp_mr
  split <;> rfl
/-- what a send makes of the picture once there is room -/
def hp_sn (A : hp_P) (p s to : Nat) : hp_P :=
  hp_sw (hp_as (hp_cp A (hp_hd A p) (hp_tl A p) to (hp_n A to) (hp_K A p (4 * p + s)) (hp_K A p (4 * p + s)).length) (12 + 3 * to + hp_w A to) (hp_rn (fun i => hp_n A to + hp_ix i (hp_K A p (4 * p + s))) (hp_pl A (4 * p + s)))) to (hp_w A to + 1)
theorem hm_send_127 {post : Int32 → St1 → Prop} {h : Nat → Nat} {A : hp_P} {p s to : Nat} {fa : Int32} {a1 a2 a3 a4 a5 a6 a7 a8 a9 a10 a11 a12 : Nat → Int32} {z0 z1 z2 : Int32} (g : hp_G A) (hp : p < 3) (hs : s < 4) (ht : to < 3) (hw : hp_w A to < 3) (hh : h p ≤ 1) (hN : hp_n A to + (hp_K A p (4 * p + s)).length ≤ 20)
    (m : hp_N h (hp_cp A (hp_hd A p) (hp_tl A p) to (hp_n A to) (hp_K A p (4 * p + s)) (hp_K A p (4 * p + s)).length) (fun q => if q = to then hp_n A to + (hp_K A p (4 * p + s)).length else hp_n A q) (fa, a1, a2, a3, a4, a5, a6, a7, a8, a9, a10, a11, a12))
    (fm : hp_fm (hp_bs h p) (fun i => if i ∈ hp_K A p (4 * p + s) then nI (hp_bs h to + (hp_n A to + hp_ix i (hp_K A p (4 * p + s)))) else -1) a10) (hfa : fa = nI (hp_K A p (4 * p + s)).length) (hl : ∀ j, j < (hp_K A p (4 * p + s)).length → a12 j = nI (hp_bs h p + hp_at (hp_K A p (4 * p + s)) j))
    (e0 : z0 = hp_vl (hp_bs h to) (hp_rn (fun i => hp_n A to + hp_ix i (hp_K A p (4 * p + s))) (hp_pl A (4 * p + s)))) (e1 : z1 = hp_kd (hp_pl A (4 * p + s))) (e2 : z2 = nI (12 + 3 * to + hp_w A to))
    (H : ∀ u', hp_X (hp_sn A p s to) u' → post 0 u') : wX_send_127 post (nI to) z0 z1 z2 fa a1 a2 a3 a4 a5 a6 a7 a8 a9 a10 a11 a12 := by
  have ho := hp_ow4 hp hs
  have hK := hp_K_ok g hp (show 4 * p + s < 21 by omega) ho
  have hn := (g.2 p hp).1
  have hb : hp_bs h p + 20 ≤ 120 := by
    unfold hp_bs
    omega
  have gt := g.1 (4 * p + s) (by omega)
  have gN := hp_cp_G g hp ht hN hK.1 hK.2.2
  have nn := hp_cp_n A (hp_hd A p) (hp_tl A p) to (hp_n A to) (hp_K A p (4 * p + s)) (hp_K A p (4 * p + s)).length
  have ow : hp_ow (12 + 3 * to + hp_w A to) = to := hp_ow12 ht hw
  have hr : 12 + 3 * to + hp_w A to < 21 := by omega
  have gr : hp_gd (hp_n A to + (hp_K A p (4 * p + s)).length) (hp_rn (fun i => hp_n A to + hp_ix i (hp_K A p (4 * p + s))) (hp_pl A (4 * p + s))) := hp_gd_rn gt hK.2.1 (fun i hi => by
    have := hp_ix_lt hi
    omega)
  unfold wX_send_127
  refine hm_asg (r := 12 + 3 * to + hp_w A to) m hr (gN.1 _ hr) gr e2 (by rw [hp_kd_rn]; exact e1) (by rw [ow]; exact e0) ?_
  rintro ⟨fb, b1, b2, b3, b4, b5, b6, b7, b8, b9, b10, b11, b12⟩ mb f1 f2 f3
  have f1' : b10 = a10 := f1
  have f2' : fb = fa := f2
  have f3' : b12 = a12 := f3
  subst f1' f2' f3'
  have w3 : b3 to = nI (hp_w A to) := by
    have z := (mb.2.1 to ht).2.1
    have e : hp_w (hp_as (hp_cp A (hp_hd A p) (hp_tl A p) to (hp_n A to) (hp_K A p (4 * p + s)) (hp_K A p (4 * p + s)).length) (12 + 3 * to + hp_w A to) (hp_rn (fun i => hp_n A to + hp_ix i (hp_K A p (4 * p + s))) (hp_pl A (4 * p + s)))) = hp_w A := nn.2.2.2
    rw [e] at z
    exact z
  have hc : (nI to).toNatClampNeg = to := nI_clamp (by omega)
  refine ⟨hp_in ht, hp_in ht, nm_r (by rw [hc, w3, nI_1]) ?_⟩
  refine hm_forget hn hb hK.1 hfa hl (fun c hc' => ?_) ?_
  · by_cases e : hp_bs h p ≤ c ∧ c < hp_bs h p + 20
    · have z := fm.1 (c - hp_bs h p) (by omega)
      rw [show hp_bs h p + (c - hp_bs h p) = c by omega] at z
      by_cases y : c - hp_bs h p ∈ hp_K A p (4 * p + s)
      · exact Or.inr ⟨c - hp_bs h p, y, by omega⟩
      · exact Or.inl (z.trans (if_neg y))
    · exact Or.inl (fm.2 c hc' (by omega))
  · intro w hw'
    refine H _ ⟨h, hp_G_sw (hp_G_as gN (by rw [ow, nn.1]; exact gr)) (by omega), hw', ?_⟩
    have mb' := hm_sw (p := to) (x := hp_w A to + 1) mb
    have mc := hp_U_N (V := hp_n (hp_sn A p s to)) (fun q hq => by
      show hp_n (hp_cp A (hp_hd A p) (hp_tl A p) to (hp_n A to) (hp_K A p (4 * p + s)) (hp_K A p (4 * p + s)).length) q = if q = to then hp_n A to + (hp_K A p (4 * p + s)).length else hp_n A q
      by_cases e : q = to
      · rw [if_pos e, e, nn.1]
      · rw [if_neg e, nn.2.1 q e]) mb'
    exact mc
theorem hx_send {A : hp_P} {p s to : Nat} (g : hp_G A) (hp : p < 3) (hs : s < 4) (ht : to < 3) : ∃ (rv : Int32) (A' : hp_P), ∀ (u : St1) (post : Int32 → St1 → Prop), hp_X A u → (∀ u', hp_X A' u' → post rv u') → wpX_send post u (nI p) (nI s) (nI to) := by
  have ho := hp_ow4 hp hs
  have hr : 4 * p + s < 21 := by omega
  have hK := hp_K_ok g hp hr ho
  have hlen := hp_ok_len hK.1
  have hn := (g.2 p hp).1
  have hm20 : (hp_K A p (4 * p + s)).length ≤ 20 := by omega
  have hc : (nI to).toNatClampNeg = to := nI_clamp (by omega)
  have hcs : (nI (4 * p + s)).toNatClampNeg = 4 * p + s := nI_clamp (by omega)
  by_cases cw : hp_w A to < 3
  · by_cases c : hp_n (hp_mr A to (hp_K A p (4 * p + s)).length) to + (hp_K A p (4 * p + s)).length ≤ 20
    · refine ⟨0, hp_sn (hp_mr A to (hp_K A p (4 * p + s)).length) p s to, ?_⟩
      rintro ⟨fa, a1, a2, a3, a4, a5, a6, a7, a8, a9, a10, a11, a12⟩ post x H
      obtain ⟨h, y⟩ := x
      have m3 : a3 to = nI (hp_w A to) := (y.2.2.2.1 to ht).2.1
      unfold wpX_send
      refine hw_fits hp hs (br_f hp_1n0 (hw_fits (r := 0) ht (by omega) (br_f hp_1n0 ⟨hp_in ht, ?_⟩)))
      rw [hc, m3]
      refine br_t (nI_lt (b := 3) cw (by omega)) (nm_r hp_40 (hm_list y hp hr ho ?_))
      intro w l hw hl
      have xb : hp_X A (nI (hp_K A p (4 * p + s)).length, a1, a2, a3, a4, a5, a6, a7, a8, a9, w, a11, l) := ⟨h, y.1, hw, y.2.2⟩
      refine hx_makeRoom xb ht hm20 (fun _ => ?_) (fun z => absurd c z)
      rintro ⟨fb, b1, b2, b3, b4, b5, b6, b7, b8, b9, b10, b11, b12⟩ ⟨h', y'⟩
      have g' := y'.1
      have eK : (hp_K (hp_mr A to (hp_K A p (4 * p + s)).length) p (4 * p + s)).length = (hp_K A p (4 * p + s)).length := hp_K_mr g hp hr ho
      have hK' := hp_K_ok g' hp hr ho
      refine br_f hp_1n0 (hm_list y' hp hr ho ?_)
      intro w' l' hw' hl'
      have yc : hp_Y h' (hp_mr A to (hp_K A p (4 * p + s)).length) (nI (hp_K (hp_mr A to (hp_K A p (4 * p + s)).length) p (4 * p + s)).length, b1, b2, b3, b4, b5, b6, b7, b8, b9, w', b11, l') := ⟨g', hw', y'.2.2⟩
      have hN : hp_n (hp_mr A to (hp_K A p (4 * p + s)).length) to + (hp_K (hp_mr A to (hp_K A p (4 * p + s)).length) p (4 * p + s)).length ≤ 20 := by omega
      refine hm_copy yc hp ht hK'.1 hK'.2.2 hN rfl hl' ?_
      rintro ⟨fe, e1, e2, e3, e4, e5, e6, e7, e8, e9, e10, e11, e12⟩ me fm f2 f3
      have hhp := (me.2.1 p hp).1
      have nn := hp_cp_n (hp_mr A to (hp_K A p (4 * p + s)).length) (hp_hd (hp_mr A to (hp_K A p (4 * p + s)).length) p) (hp_tl (hp_mr A to (hp_K A p (4 * p + s)).length) p) to (hp_n (hp_mr A to (hp_K A p (4 * p + s)).length) to) (hp_K (hp_mr A to (hp_K A p (4 * p + s)).length) p (4 * p + s)) (hp_K (hp_mr A to (hp_K A p (4 * p + s)).length) p (4 * p + s)).length
      have hwm : hp_w (hp_mr A to (hp_K A p (4 * p + s)).length) to < 3 := by
        rw [hp_mr_w]
        exact cw
      have me3 : e3 to = nI (hp_w (hp_mr A to (hp_K A p (4 * p + s)).length) to) := by
        have z := (me.2.1 to ht).2.1
        rw [nn.2.2.2] at z
        exact z
      have te : hp_tm (hp_bs h' (hp_ow (4 * p + s))) (hp_pl (hp_mr A to (hp_K A p (4 * p + s)).length) (4 * p + s)) (e1 (4 * p + s)) (e2 (4 * p + s)) := by
        have z := me.1 (4 * p + s) hr
        rw [nn.2.2.1] at z
        exact z
      rw [ho] at te
      have gte := g'.1 (4 * p + s) hr
      rw [ho] at gte
      have hb : hp_bs h' p + 20 ≤ 120 := by
        unfold hp_bs
        omega
      have fw := hp_fwd fm hK'.2.1 gte ((g'.2 p hp).1) hb te
      have hl2 : ∀ j, j < (hp_K (hp_mr A to (hp_K A p (4 * p + s)).length) p (4 * p + s)).length → e12 j = nI (hp_bs h' p + hp_at (hp_K (hp_mr A to (hp_K A p (4 * p + s)).length) p (4 * p + s)) j) := by
        intro j hj
        have z : e12 = l' := f3
        rw [z]
        exact hl' j hj
      refine ⟨hp_in ht, nm_r (by rw [me3, hp_12, nI_add]) ⟨hp_in hr, nm_r (by rw [hcs]) ?_⟩⟩
      refine br_c (fun z => ⟨hp_in hr, ?_⟩) (fun z => ⟨hp_in hr, ?_⟩)
      · rw [hcs]
        exact ⟨(fw.1 z).1, hm_send_127 g' hp hs ht hwm hhp hN me fm f2 hl2 (fw.1 z).2 te.1 rfl H⟩
      · rw [hcs]
        exact hm_send_127 g' hp hs ht hwm hhp hN me fm f2 hl2 (fw.2 z) te.1 rfl H
    · refine ⟨-2, hp_mr A to (hp_K A p (4 * p + s)).length, ?_⟩
      rintro ⟨fa, a1, a2, a3, a4, a5, a6, a7, a8, a9, a10, a11, a12⟩ post x H
      obtain ⟨h, y⟩ := x
      have m3 : a3 to = nI (hp_w A to) := (y.2.2.2.1 to ht).2.1
      unfold wpX_send
      refine hw_fits hp hs (br_f hp_1n0 (hw_fits (r := 0) ht (by omega) (br_f hp_1n0 ⟨hp_in ht, ?_⟩)))
      rw [hc, m3]
      refine br_t (nI_lt (b := 3) cw (by omega)) (nm_r hp_40 (hm_list y hp hr ho ?_))
      intro w l hw hl
      have xb : hp_X A (nI (hp_K A p (4 * p + s)).length, a1, a2, a3, a4, a5, a6, a7, a8, a9, w, a11, l) := ⟨h, y.1, hw, y.2.2⟩
      refine hx_makeRoom xb ht hm20 (fun z => absurd z c) (fun _ => ?_)
      rintro ⟨fb, b1, b2, b3, b4, b5, b6, b7, b8, b9, b10, b11, b12⟩ xb'
      exact br_t rfl (H _ xb')
  · refine ⟨-3, A, ?_⟩
    rintro ⟨fa, a1, a2, a3, a4, a5, a6, a7, a8, a9, a10, a11, a12⟩ post x H
    obtain ⟨h, y⟩ := id x
    have hw3 := (g.2 to ht).2.1
    have m3 : a3 to = nI (hp_w A to) := (y.2.2.2.1 to ht).2.1
    unfold wpX_send
    refine hw_fits hp hs (br_f hp_1n0 (hw_fits (r := 0) ht (by omega) (br_f hp_1n0 ⟨hp_in ht, ?_⟩)))
    rw [hc, m3]
    exact br_f (nI_nlt (b := 3) (by omega) (by omega)) (H _ x)
end
section
/-! one call -/
theorem hp_ne {k j : Nat} (hk : k < 100) (hj : j < 100) (h : k ≠ j) : ¬ nI k = nI j := fun z => h ((nI_eq (by omega) (by omega)).mp z)
theorem hp_m3 (c : Int32) : ∃ t, t < 3 ∧ (c &&& 255) - (c &&& 255) / 3 * 3 = nI t := by
  obtain ⟨j, hj, e⟩ := pk_andE c (m := 255) 8 (by decide)
  rw [e]
  exact ⟨j % 3, by omega, pk_rem (d := 3) (by omega) (by omega) (by omega)⟩
theorem hx_call {A : hp_P} {k p a b : Nat} (c : Int32) (g : hp_G A) (hk : k < 14) (hp : p < 3) (ha : a < 4) (hb : b < 4) : ∃ (rv : Int32) (A' : hp_P), ∀ (u : St1) (post : Int32 → St1 → Prop), hp_X A u → (∀ u', hp_X A' u' → post rv u') → wpL_call post u (nI k) (nI p) (nI a) (nI b) c := by
  by_cases k0 : k = 0
  · subst k0
    refine ⟨0, hp_as A (4 * p + a) (Sum.inr (1, c)), ?_⟩
    · rintro ⟨fe, e1, e2, e3, e4, e5, e6, e7, e8, e9, e10, e11, e12⟩ post x H
      unfold wpL_call
      refine br_t rfl (hx_number x hp ha ?_)
      rintro ⟨ff, f1, f2, f3, f4, f5, f6, f7, f8, f9, f10, f11, f12⟩ xf
      exact H _ xf
  have n0 : ¬ nI k = 0 := hp_ne (j := 0) (by omega) (by omega) k0
  by_cases k1 : k = 1
  · subst k1
    refine ⟨0, hp_as A (4 * p + a) (hp_pl A (4 * p + b)), ?_⟩
    · rintro ⟨fe, e1, e2, e3, e4, e5, e6, e7, e8, e9, e10, e11, e12⟩ post x H
      unfold wpL_call
      refine br_f n0 (br_t rfl (hx_move x hp ha hb ?_))
      rintro ⟨ff, f1, f2, f3, f4, f5, f6, f7, f8, f9, f10, f11, f12⟩ xf
      exact H _ xf
  have n1 : ¬ nI k = 1 := hp_ne (j := 1) (by omega) (by omega) k1
  by_cases k2 : k = 2
  · subst k2
    refine ⟨0, hp_as A (4 * p + a) (Sum.inr (0, 0)), ?_⟩
    · rintro ⟨fe, e1, e2, e3, e4, e5, e6, e7, e8, e9, e10, e11, e12⟩ post x H
      unfold wpL_call
      refine br_f n0 (br_f n1 (br_t rfl (hx_nil x hp ha ?_)))
      rintro ⟨ff, f1, f2, f3, f4, f5, f6, f7, f8, f9, f10, f11, f12⟩ xf
      exact H _ xf
  have n2 : ¬ nI k = 2 := hp_ne (j := 2) (by omega) (by omega) k2
  by_cases k3 : k = 3
  · subst k3
    obtain ⟨rv, A', K⟩ := hx_blob g hp ha
    refine ⟨rv, A', ?_⟩
    rintro ⟨fe, e1, e2, e3, e4, e5, e6, e7, e8, e9, e10, e11, e12⟩ post x H
    unfold wpL_call
    refine br_f n0 (br_f n1 (br_f n2 (br_t rfl (K _ _ x ?_))))
    rintro ⟨ff, f1, f2, f3, f4, f5, f6, f7, f8, f9, f10, f11, f12⟩ xf
    exact H _ xf
  have n3 : ¬ nI k = 3 := hp_ne (j := 3) (by omega) (by omega) k3
  by_cases k7 : k ≤ 7
  · obtain ⟨t, ht, et⟩ := pk_andE c (m := 3) 2 (by decide)
    obtain ⟨rv, A', K⟩ := hx_pair g hp ha hb (show t < 4 by omega)
    refine ⟨rv, A', ?_⟩
    rintro ⟨fe, e1, e2, e3, e4, e5, e6, e7, e8, e9, e10, e11, e12⟩ post x H
    unfold wpL_call
    refine br_f n0 (br_f n1 (br_f n2 (br_f n3 (br_f (nI_nlt (a := 7) k7 (by omega)) ?_))))
    rw [et]
    refine K _ _ x ?_
    rintro ⟨ff, f1, f2, f3, f4, f5, f6, f7, f8, f9, f10, f11, f12⟩ xf
    exact H _ xf
  have n7 : (7 : Int32) < nI k := nI_lt (a := 7) (by omega) (by omega)
  by_cases k9 : k ≤ 9
  · by_cases cc : (c &&& 1) = 0
    · refine ⟨hp_pr A p b, hp_pa A p a b true, ?_⟩
      · rintro ⟨fe, e1, e2, e3, e4, e5, e6, e7, e8, e9, e10, e11, e12⟩ post x H
        unfold wpL_call
        refine br_f n0 (br_f n1 (br_f n2 (br_f n3 (br_t n7 (br_f (nI_nlt (a := 9) k9 (by omega)) (br_t cc ?_))))))
        unfold wL_call_93
        refine hx_part true rfl x hp ha hb ?_
        rintro ⟨ff, f1, f2, f3, f4, f5, f6, f7, f8, f9, f10, f11, f12⟩ xf
        exact H _ xf
    · refine ⟨hp_pr A p b, hp_pa A p a b false, ?_⟩
      · rintro ⟨fe, e1, e2, e3, e4, e5, e6, e7, e8, e9, e10, e11, e12⟩ post x H
        unfold wpL_call
        refine br_f n0 (br_f n1 (br_f n2 (br_f n3 (br_t n7 (br_f (nI_nlt (a := 9) k9 (by omega)) (br_f cc ?_))))))
        unfold wL_call_93
        refine hx_part false rfl x hp ha hb ?_
        rintro ⟨ff, f1, f2, f3, f4, f5, f6, f7, f8, f9, f10, f11, f12⟩ xf
        exact H _ xf
  have n9 : (9 : Int32) < nI k := nI_lt (a := 9) (by omega) (by omega)
  by_cases k11 : k ≤ 11
  · obtain ⟨t, ht, et⟩ := hp_m3 c
    obtain ⟨rv, A', K⟩ := hx_send g hp ha ht
    refine ⟨rv, A', ?_⟩
    rintro ⟨fe, e1, e2, e3, e4, e5, e6, e7, e8, e9, e10, e11, e12⟩ post x H
    unfold wpL_call
    refine br_f n0 (br_f n1 (br_f n2 (br_f n3 (br_t n7 (br_t n9 (br_f (nI_nlt (a := 11) k11 (by omega)) ⟨by decide, ?_⟩))))))
    rw [et]
    refine K _ _ x ?_
    rintro ⟨ff, f1, f2, f3, f4, f5, f6, f7, f8, f9, f10, f11, f12⟩ xf
    exact H _ xf
  have n11 : (11 : Int32) < nI k := nI_lt (a := 11) (by omega) (by omega)
  by_cases k12 : k = 12
  · subst k12
    by_cases cw : hp_w A p = 0
    · refine ⟨-3, A, ?_⟩
      rintro ⟨fe, e1, e2, e3, e4, e5, e6, e7, e8, e9, e10, e11, e12⟩ post x H
      unfold wpL_call
      exact br_f n0 (br_f n1 (br_f n2 (br_f n3 (br_t n7 (br_t n9 (br_t n11 (br_t rfl (hx_receive0 x hp ha cw (H _ x)))))))))
    · refine ⟨0, hp_rv A p a, ?_⟩
      · rintro ⟨fe, e1, e2, e3, e4, e5, e6, e7, e8, e9, e10, e11, e12⟩ post x H
        unfold wpL_call
        refine br_f n0 (br_f n1 (br_f n2 (br_f n3 (br_t n7 (br_t n9 (br_t n11 (br_t rfl (hx_receive1 x hp ha (by omega) ?_))))))))
        rintro ⟨ff, f1, f2, f3, f4, f5, f6, f7, f8, f9, f10, f11, f12⟩ xf
        exact H _ xf
  have n12 : ¬ nI k = 12 := hp_ne (j := 12) (by omega) (by omega) k12
  have k13 : k = 13 := by omega
  subst k13
  by_cases cc : c ≤ 100
  · refine ⟨0, A, ?_⟩
    rintro ⟨fe, e1, e2, e3, e4, e5, e6, e7, e8, e9, e10, e11, e12⟩ post x H
    unfold wpL_call
    exact br_f n0 (br_f n1 (br_f n2 (br_f n3 (br_t n7 (br_t n9 (br_t n11 (br_f n12 (br_t rfl (br_t cc (H _ x))))))))))
  · refine ⟨0, hp_re A p, ?_⟩
    · rintro ⟨fe, e1, e2, e3, e4, e5, e6, e7, e8, e9, e10, e11, e12⟩ post x H
      unfold wpL_call
      refine br_f n0 (br_f n1 (br_f n2 (br_f n3 (br_t n7 (br_t n9 (br_t n11 (br_f n12 (br_t rfl (br_f cc (hx_restart x hp ?_))))))))))
      rintro ⟨ff, f1, f2, f3, f4, f5, f6, f7, f8, f9, f10, f11, f12⟩ xf
      exact H _ xf
/-! one collection of both -/
theorem hm_pairs {post : Int32 → Prop} {h U : Nat → Nat} {A : hp_P} {u : St1} {p : Nat} (m : hp_N h A U u) (hp : p < 3) (H : post (nI (U p))) : wpX_pairs post u (nI p) := by
  obtain ⟨fa, a1, a2, a3, a4, a5, a6, a7, a8, a9, a10, a11, a12⟩ := u
  refine hw_pairs hp ?_
  have z : a5 p = nI (U p) := (m.2.1 p hp).2.2.2
  rw [z]
  exact H
theorem hx_alike {post : Int32 → Prop} {A B : hp_P} {p : Nat} {fa : Int32} {a1 a2 a3 a4 a5 a6 a7 a8 a9 a10 a11 a12 : Nat → Int32} {fb : Int32} {b1 b2 b3 b4 b5 b6 b7 b8 b9 b10 b11 b12 : Nat → Int32} (s : hp_S p A B) (x : hp_X A (fa, a1, a2, a3, a4, a5, a6, a7, a8, a9, a10, a11, a12)) (y : hp_X B (fb, b1, b2, b3, b4, b5, b6, b7, b8, b9, b10, b11, b12)) (H : post 1) : wpL_alike post (fa, a1, a2, a3, a4, a5, a6, a7, a8, a9, a10, a11, a12, fb, b1, b2, b3, b4, b5, b6, b7, b8, b9, b10, b11, b12) := by
  obtain ⟨h, gx, fx, mx⟩ := x
  obtain ⟨h', gy, fy, my⟩ := y
  exact hw_alike (hp_S_al s gx gy mx my) H
theorem hp_kB_E {A B : hp_P} (e : hp_E A B) : hp_kB B = hp_kB A := hp_kb_c (fun i _ => by
  show nI (hp_ct B i) = nI (hp_ct A i)
  rw [hp_E_ct e])
theorem hx_col_56 {post : Int32 → St2 → Prop} {p : Nat} {x3 x4 : Int32} (hp : p < 3) (H : ∀ (A' : hp_P) (fc : Int32) (c1 c2 c3 c4 c5 c6 c7 c8 c9 c10 c11 c12 : Nat → Int32) (fd : Int32) (d1 d2 d3 d4 d5 d6 d7 d8 d9 d10 d11 d12 : Nat → Int32), hp_X A' (fc, c1, c2, c3, c4, c5, c6, c7, c8, c9, c10, c11, c12) → hp_X A' (fd, d1, d2, d3, d4, d5, d6, d7, d8, d9, d10, d11, d12) → post 1 (fc, c1, c2, c3, c4, c5, c6, c7, c8, c9, c10, c11, c12, fd, d1, d2, d3, d4, d5, d6, d7, d8, d9, d10, d11, d12)) :
    ∀ (f i : Nat) (A B : hp_P) (fa : Int32) (a1 a2 a3 a4 a5 a6 a7 a8 a9 a10 a11 a12 : Nat → Int32) (fb : Int32) (b1 b2 b3 b4 b5 b6 b7 b8 b9 b10 b11 b12 : Nat → Int32), i + f = 4 → hp_S p A B → hp_X A (fa, a1, a2, a3, a4, a5, a6, a7, a8, a9, a10, a11, a12) → hp_X B (fb, b1, b2, b3, b4, b5, b6, b7, b8, b9, b10, b11, b12) → wL_collected_56 post (nI p) x3 x4 (f + 1) (nI i) fa a1 a2 a3 a4 a5 a6 a7 a8 a9 a10 a11 a12 fb b1 b2 b3 b4 b5 b6 b7 b8 b9 b10 b11 b12 := by
  intro f
  induction f with
  | zero =>
    intro i A B fa a1 a2 a3 a4 a5 a6 a7 a8 a9 a10 a11 a12 fb b1 b2 b3 b4 b5 b6 b7 b8 b9 b10 b11 b12 hi s x y
    have e : i = 4 := by omega
    subst e
    have E := hp_S_E hp s
    have el : (hp_L A p).length = (hp_L B p).length := by
      have z := (E.2 p hp).1
      rw [hp_co_n, hp_co_n] at z
      exact z
    refine pk_le 4 4 (fun _ => hx_collect x hp ?_) (fun z => absurd z (by omega))
    rintro ⟨fc, c1, c2, c3, c4, c5, c6, c7, c8, c9, c10, c11, c12⟩ xc
    refine hx_collect y hp ?_
    rintro ⟨fd, d1, d2, d3, d4, d5, d6, d7, d8, d9, d10, d11, d12⟩ xd
    have xd' := hp_E_X E xd
    obtain ⟨h1, y1⟩ := id xc
    obtain ⟨h2, y2⟩ := id xd'
    refine br_t (by rw [el]) (hm_blobs y1.2.2 (hm_blobs y2.2.2 (br_t rfl (H _ fc c1 c2 c3 c4 c5 c6 c7 c8 c9 c10 c11 c12 fd d1 d2 d3 d4 d5 d6 d7 d8 d9 d10 d11 d12 xc xd'))))
  | succ f ih =>
    intro i A B fa a1 a2 a3 a4 a5 a6 a7 a8 a9 a10 a11 a12 fb b1 b2 b3 b4 b5 b6 b7 b8 b9 b10 b11 b12 hi s x y
    have go : ∀ (z : Bool) (z0 : Int32), z0 = (if z = true then 1 else 0) → wL_collected_77 post (wL_collected_56 post (nI p) x3 x4 (f + 1)) (nI p) x3 x4 (nI i) z0 fa a1 a2 a3 a4 a5 a6 a7 a8 a9 a10 a11 a12 fb b1 b2 b3 b4 b5 b6 b7 b8 b9 b10 b11 b12 := by
      intro z z0 hz
      obtain ⟨t, ht, et⟩ := pk_andE (x3 >>> (nI i &&& 31)) (m := 3) 2 (by decide)
      have ht' : t < 4 := by omega
      have k := hp_S_pa (d := 3) z hp (by omega) ht' s
      unfold wL_collected_77
      refine nm_r et (hx_part (d := 3) z hz x hp (by omega) ht' ?_)
      rintro ⟨fc, c1, c2, c3, c4, c5, c6, c7, c8, c9, c10, c11, c12⟩ xc
      refine hx_part (d := 3) z hz y hp (by omega) ht' ?_
      rintro ⟨fd, d1, d2, d3, d4, d5, d6, d7, d8, d9, d10, d11, d12⟩ xd
      refine br_t k.2 (hx_alike k.1 xc xd (br_f hp_1n0 (nm_r (nI_1 i) ?_)))
      exact ih (i + 1) _ _ fc c1 c2 c3 c4 c5 c6 c7 c8 c9 c10 c11 c12 fd d1 d2 d3 d4 d5 d6 d7 d8 d9 d10 d11 d12 (by omega) k.1 xc xd
    exact pk_le 4 i (fun z => absurd z (by omega)) (fun _ => br_c (fun _ => go true 1 rfl) (fun _ => go false 0 rfl))
theorem hx_collected {post : Int32 → St2 → Prop} {A : hp_P} {p : Nat} {x3 x4 : Int32} {fa : Int32} {a1 a2 a3 a4 a5 a6 a7 a8 a9 a10 a11 a12 : Nat → Int32} {fb : Int32} {b1 b2 b3 b4 b5 b6 b7 b8 b9 b10 b11 b12 : Nat → Int32} (hp : p < 3) (x : hp_X A (fa, a1, a2, a3, a4, a5, a6, a7, a8, a9, a10, a11, a12)) (y : hp_X A (fb, b1, b2, b3, b4, b5, b6, b7, b8, b9, b10, b11, b12)) (H : ∀ (A' : hp_P) (fc : Int32) (c1 c2 c3 c4 c5 c6 c7 c8 c9 c10 c11 c12 : Nat → Int32) (fd : Int32) (d1 d2 d3 d4 d5 d6 d7 d8 d9 d10 d11 d12 : Nat → Int32), hp_X A' (fc, c1, c2, c3, c4, c5, c6, c7, c8, c9, c10, c11, c12) → hp_X A' (fd, d1, d2, d3, d4, d5, d6, d7, d8, d9, d10, d11, d12) → post 1 (fc, c1, c2, c3, c4, c5, c6, c7, c8, c9, c10, c11, c12, fd, d1, d2, d3, d4, d5, d6, d7, d8, d9, d10, d11, d12)) : wpL_collected post (fa, a1, a2, a3, a4, a5, a6, a7, a8, a9, a10, a11, a12, fb, b1, b2, b3, b4, b5, b6, b7, b8, b9, b10, b11, b12) (nI p) x3 x4 := by
  obtain ⟨h1, y1⟩ := id x
  have g := y1.1
  have hL := hp_L_ok g hp
  have hl := hp_ok_len hL.1
  have hn := (g.2 p hp).1
  unfold wpL_collected
  refine hx_collect y hp ?_
  rintro ⟨fc, c1, c2, c3, c4, c5, c6, c7, c8, c9, c10, c11, c12⟩ xc
  obtain ⟨h2, y2⟩ := id xc
  have hk := hp_kB_le (B := hp_co A p) g (fun id _ => by
    have z := hp_ct_co g hp id
    omega)
  have hk6 : hp_kB A ≤ 6 := hp_kb_6 _ 6
  refine br_f (nI_pos (by omega)) (hm_pairs y1.2.2 hp (br_f (nI_nlt hl (by omega)) (hm_pairs y2.2.2 hp (br_t (by rw [hp_co_n]) (hm_blobs y2.2.2 (hm_blobs y1.2.2 (br_f (nI_nlt hk (by omega)) (hx_alike (hp_S_co g hp) x xc (br_f hp_1n0 ⟨5, ?_⟩)))))))))
  exact hx_col_56 hp H 4 0 A (hp_co A p) fa a1 a2 a3 a4 a5 a6 a7 a8 a9 a10 a11 a12 fc c1 c2 c3 c4 c5 c6 c7 c8 c9 c10 c11 c12 (by omega) (hp_S_co g hp) x xc
/-! the law -/
theorem hp_S_rf (A : hp_P) : hp_S 0 A A :=
  ⟨fun i => i, fun _ => True, fun i j _ _ z => z, fun r _ _ => ⟨hp_cl_T _, (hp_rn_id _).symm⟩, fun r _ _ => rfl, fun i _ => ⟨hp_cl_T _, (hp_rn_id _).symm, hp_cl_T _, (hp_rn_id _).symm⟩, fun q _ => ⟨fun _ => ⟨rfl, fun i _ => ⟨rfl, rfl⟩⟩, rfl⟩⟩
theorem hp_kB_0 {A : hp_P} (h1 : ∀ r, r < 21 → hp_pl A r = Sum.inr (0, 0)) (h2 : ∀ p, p < 3 → hp_n A p = 0) : hp_kB A = 0 := by
  have e : hp_kB A = hp_kb (fun _ => 0) 6 := hp_kb_c (fun i _ => by
    show nI (hp_ct A i) = 0
    rw [hp_ct_0 h1 h2]
    rfl)
  rw [e]
  decide
theorem hx_law_149 {post : Int32 → Prop} {L kc ks : Nat} {xs : Nat → Int32} (H : post 1) : ∀ (f i : Nat) (A : hp_P) (fa : Int32) (a1 a2 a3 a4 a5 a6 a7 a8 a9 a10 a11 a12 : Nat → Int32), i + f = 3 → hp_X A (fa, a1, a2, a3, a4, a5, a6, a7, a8, a9, a10, a11, a12) → (∀ q, q < i → hp_n A q = 0 ∧ ∀ r, r < 21 → hp_ow r = q → hp_pl A r = Sum.inr (0, 0)) → wL_law_149 post L xs kc ks (f + 1) (nI i) fa a1 a2 a3 a4 a5 a6 a7 a8 a9 a10 a11 a12 := by
  intro f
  induction f with
  | zero =>
    intro i A fa a1 a2 a3 a4 a5 a6 a7 a8 a9 a10 a11 a12 hi x k
    have e : i = 3 := by omega
    subst e
    obtain ⟨h, y⟩ := x
    refine pk_le 3 3 (fun _ => hm_blobs y.2.2 ?_) (fun z => absurd z (by omega))
    rw [hp_kB_0 (fun r hr => (k _ (hp_ow_lt hr)).2 r hr rfl) (fun p hp => (k p hp).1)]
    exact br_t rfl H
  | succ f ih =>
    intro i A fa a1 a2 a3 a4 a5 a6 a7 a8 a9 a10 a11 a12 hi x k
    have hi3 : i < 3 := by omega
    refine pk_le 3 i (fun z => absurd z (by omega)) (fun _ => hx_restart x hi3 ?_)
    rintro ⟨fb, b1, b2, b3, b4, b5, b6, b7, b8, b9, b10, b11, b12⟩ xb
    obtain ⟨h, y⟩ := id xb
    refine br_t rfl (hm_pairs y.2.2 hi3 (br_t (by rw [hp_re_n]; rfl) (nm_r (nI_1 i) (ih (i + 1) _ fb b1 b2 b3 b4 b5 b6 b7 b8 b9 b10 b11 b12 (by omega) xb (fun q hq => ?_)))))
    by_cases e : q = i
    · subst e
      exact ⟨hp_re_n A q, fun r hr ho => if_pos ho⟩
    · have z := k q (by omega)
      refine ⟨by rw [hp_re_no A e]; exact z.1, fun r hr ho => ?_⟩
      have y : hp_pl (hp_re A i) r = hp_pl A r := if_neg (by rw [ho]; exact e)
      rw [y]
      exact z.2 r hr ho
theorem hx_law_18 {post : Int32 → Prop} {L kc ks : Nat} {xs : Nat → Int32} (hL : L ≤ 260) (H : post 1) : ∀ (f i : Nat) (A : hp_P) (fa : Int32) (a1 a2 a3 a4 a5 a6 a7 a8 a9 a10 a11 a12 : Nat → Int32) (fb : Int32) (b1 b2 b3 b4 b5 b6 b7 b8 b9 b10 b11 b12 : Nat → Int32), L < i + 5 * f + 5 → i ≤ L → hp_X A (fa, a1, a2, a3, a4, a5, a6, a7, a8, a9, a10, a11, a12) → hp_X A (fb, b1, b2, b3, b4, b5, b6, b7, b8, b9, b10, b11, b12) → wL_law_18 post L xs kc ks (f + 1) (nI i) fa a1 a2 a3 a4 a5 a6 a7 a8 a9 a10 a11 a12 fb b1 b2 b3 b4 b5 b6 b7 b8 b9 b10 b11 b12 := by
  have out : ∀ (A : hp_P) (fa : Int32) (a1 a2 a3 a4 a5 a6 a7 a8 a9 a10 a11 a12 : Nat → Int32) (fb : Int32) (b1 b2 b3 b4 b5 b6 b7 b8 b9 b10 b11 b12 : Nat → Int32), hp_X A (fa, a1, a2, a3, a4, a5, a6, a7, a8, a9, a10, a11, a12) → hp_X A (fb, b1, b2, b3, b4, b5, b6, b7, b8, b9, b10, b11, b12) → wpL_alike (fun r_90 => (((r_90 = 0 → (post 0)) ∧ (¬ r_90 = 0 → (∃ fu149 : Nat, wL_law_149 post L xs kc ks fu149 0 fa a1 a2 a3 a4 a5 a6 a7 a8 a9 a10 a11 a12))))) (fa, a1, a2, a3, a4, a5, a6, a7, a8, a9, a10, a11, a12, fb, b1, b2, b3, b4, b5, b6, b7, b8, b9, b10, b11, b12) := by
    intro A fa a1 a2 a3 a4 a5 a6 a7 a8 a9 a10 a11 a12 fb b1 b2 b3 b4 b5 b6 b7 b8 b9 b10 b11 b12 x y
    exact hx_alike (hp_S_rf A) x y (br_f hp_1n0 ⟨4, hx_law_149 H 3 0 A fa a1 a2 a3 a4 a5 a6 a7 a8 a9 a10 a11 a12 (by omega) x (fun q hq => absurd hq (by omega))⟩)
  intro f
  induction f with
  | zero =>
    intro i A fa a1 a2 a3 a4 a5 a6 a7 a8 a9 a10 a11 a12 fb b1 b2 b3 b4 b5 b6 b7 b8 b9 b10 b11 b12 hf hi x y
    exact pk_lt L (i + 5) (fun _ => out A fa a1 a2 a3 a4 a5 a6 a7 a8 a9 a10 a11 a12 fb b1 b2 b3 b4 b5 b6 b7 b8 b9 b10 b11 b12 x y) (fun z => absurd z (by omega)) rfl (nI_add i 5)
  | succ f ih =>
    intro i A fa a1 a2 a3 a4 a5 a6 a7 a8 a9 a10 a11 a12 fb b1 b2 b3 b4 b5 b6 b7 b8 b9 b10 b11 b12 hf hi x y
    refine pk_lt L (i + 5) (fun _ => out A fa a1 a2 a3 a4 a5 a6 a7 a8 a9 a10 a11 a12 fb b1 b2 b3 b4 b5 b6 b7 b8 b9 b10 b11 b12 x y) (fun z => ?_) rfl (nI_add i 5)
    obtain ⟨k, hk, ek⟩ := pk_andE (xs (nI i).toNatClampNeg) (m := 15) 4 (by decide)
    obtain ⟨p, hp, ep⟩ := hp_m3 (xs (nI i + 1).toNatClampNeg)
    obtain ⟨r, hr, er⟩ := pk_andE (xs (nI i + 2).toNatClampNeg) (m := 3) 2 (by decide)
    obtain ⟨s, hs, es⟩ := pk_andE (xs (nI i + 3).toNatClampNeg) (m := 3) 2 (by decide)
    have i2 : vp_in (nI i + 2) L := pk_in (i + 2) L (by omega) (nI_add i 2) (by omega)
    refine ⟨pk_in i L (by omega) rfl (by omega), nm_r ek ⟨pk_in (i + 1) L (by omega) (nI_1 i) (by omega), by decide, nm_r ep ⟨i2, nm_r er ⟨pk_in (i + 3) L (by omega) (nI_add i 3) (by omega), nm_r es ⟨pk_in (i + 4) L (by omega) (nI_add i 4) (by omega), nm_e ?_⟩⟩⟩⟩⟩
    refine pk_lt k 14 (fun hk14 => ?_) (fun _ => ⟨i2, ?_⟩)
    · obtain ⟨h1, y1⟩ := id x
      obtain ⟨rv, A', K⟩ := hx_call (A := A) (k := k) (p := p) (a := r) (b := s) (xs (nI i + 4).toNatClampNeg) y1.1 hk14 hp (by omega) (by omega)
      refine K _ _ x ?_
      rintro ⟨fc, c1, c2, c3, c4, c5, c6, c7, c8, c9, c10, c11, c12⟩ xc
      refine K _ _ y ?_
      rintro ⟨fd, d1, d2, d3, d4, d5, d6, d7, d8, d9, d10, d11, d12⟩ xd
      exact br_t rfl (nm_r (nI_add i 5) (ih (i + 5) A' fc c1 c2 c3 c4 c5 c6 c7 c8 c9 c10 c11 c12 fd d1 d2 d3 d4 d5 d6 d7 d8 d9 d10 d11 d12 (by omega) (by omega) xc xd))
    · refine hx_collected hp x y ?_
      intro A' fc c1 c2 c3 c4 c5 c6 c7 c8 c9 c10 c11 c12 fd d1 d2 d3 d4 d5 d6 d7 d8 d9 d10 d11 d12 xc xd
      exact br_f hp_1n0 (nm_r (nI_add i 5) (ih (i + 5) A' fc c1 c2 c3 c4 c5 c6 c7 c8 c9 c10 c11 c12 fd d1 d2 d3 d4 d5 d6 d7 d8 d9 d10 d11 d12 (by omega) (by omega) xc xd))
theorem i_vc (xs : Nat → Int32) (L : Nat) (hL : L ≤ 260) : wpL_law (fun r => r = 1) L xs := by
  unfold wpL_law
  refine ⟨12, 677, by omega, by omega, hx_init ?_⟩
  rintro ⟨fa, a1, a2, a3, a4, a5, a6, a7, a8, a9, a10, a11, a12⟩ x
  refine ⟨by omega, by omega, 12, 677, by omega, by omega, hx_init ?_⟩
  rintro ⟨fb, b1, b2, b3, b4, b5, b6, b7, b8, b9, b10, b11, b12⟩ y
  exact ⟨L + 1, hx_law_18 (post := fun r => r = 1) hL rfl L 0 hp_A0 fa a1 a2 a3 a4 a5 a6 a7 a8 a9 a10 a11 a12 fb b1 b2 b3 b4 b5 b6 b7 b8 b9 b10 b11 b12 (by omega) (by omega) x y⟩
end
