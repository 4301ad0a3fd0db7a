section
/-! rows pasted from kit/rows (PURE-ROWS) -/
theorem pk_us {f : Nat → Int32} {k : Nat} {x : Int32} : upd f k x k = x := if_pos rfl
theorem pk_un {f : Nat → Int32} {k j : Nat} {x : Int32} (h : j ≠ k) : upd f k x j = f j := if_neg h
theorem pk_sub {a b : Nat} (h : b ≤ a) : nI a - nI b = nI (a - b) := by
  obtain ⟨c, rfl⟩ : ∃ c, a = c + b := ⟨a - b, by omega⟩
  rw [← nI_add, Int32.add_sub_cancel, Nat.add_sub_cancel]
theorem pk_m1 (n : Nat) : nI (n + 1) + (-1) = nI n := by
  rw [← nI_1, Int32.add_assoc, show (1 : Int32) + (-1) = 0 from rfl, Int32.add_zero]
theorem pk_sub_toInt {a b : Nat} (ha : a < 2 ^ 30) (hb : b < 2 ^ 30) : (nI a - nI b).toInt = (a : Int) - b := by
  rw [Int32.toInt_sub, nI_toInt (by omega), nI_toInt (by omega)]
  exact Int.bmod_eq_of_le (by omega) (by omega)
theorem pk_sneg {a b : Nat} (hb : b < 2 ^ 30) (h : a < b) : nI a - nI b < 0 := by
  rw [Int32.lt_iff_toInt_lt, pk_sub_toInt (by omega) hb, show (0 : Int32).toInt = 0 from by decide]
  omega
theorem pk_ix (x : Int32) {n : Nat} (hn : n < 2 ^ 31) : x < 0 ∨ nI n ≤ x ∨ ∃ j : Nat, j < n ∧ x = nI j := by
  by_cases h : x < 0
  · exact Or.inl h
  · obtain ⟨j, hj, rfl⟩ := nI_of h
    by_cases h2 : j < n
    · exact Or.inr (Or.inr ⟨j, h2, rfl⟩)
    · exact Or.inr (Or.inl (nI_le (by omega) hj))
end
section
/-! lists of cells and of arrays; insertion sort by holes -/
def rh_u {α : Type} (T : Nat → α) (p : Nat) (x : α) : Nat → α := fun j => if j = p then x else T j
theorem rh_us {α : Type} {T : Nat → α} {p : Nat} {x : α} : rh_u T p x p = x := if_pos rfl
theorem rh_un {α : Type} {T : Nat → α} {p j : Nat} {x : α} (h : j ≠ p) : rh_u T p x j = T j := if_neg h
theorem rh_uu {α : Type} (T : Nat → α) (p : Nat) (x y : α) : rh_u (rh_u T p x) p y = rh_u T p y := by
  funext j
  by_cases h : j = p
  · subst h; rw [rh_us, rh_us]
  · rw [rh_un h, rh_un h, rh_un h]
theorem rh_ue {α : Type} (T : Nat → α) (p : Nat) (x : α) (h : T p = x) : rh_u T p x = T := by
  funext j
  by_cases e : j = p
  · subst e; rw [rh_us, h]
  · exact rh_un e
/-- the full cells below n, in order -/
def rh_F {α : Type} (g : Nat → Option α) : Nat → List α
  | 0 => []
  | n + 1 => rh_F g n ++ (g n).toList
theorem rh_F_s {α : Type} (g : Nat → Option α) (n : Nat) : rh_F g (n + 1) = rh_F g n ++ (g n).toList := rfl
theorem rh_F_congr {α : Type} {g g' : Nat → Option α} : ∀ n : Nat, (∀ i, i < n → g i = g' i) → rh_F g n = rh_F g' n := by
  intro n
  induction n with
  | zero => intro _; rfl
  | succ n ih =>
    intro h
    rw [rh_F_s, rh_F_s, ih (fun i hi => h i (by omega)), h n (by omega)]
theorem rh_F_cut {α : Type} (g : Nat → Option α) (p : Nat) : ∀ n : Nat, p < n → List.Perm (rh_F g n) ((g p).toList ++ rh_F (rh_u g p none) n) := by
  intro n
  induction n with
  | zero => intro h; omega
  | succ n ih =>
    intro h
    rw [rh_F_s, rh_F_s]
    by_cases e : p = n
    · subst e
      rw [rh_us, rh_F_congr (g := rh_u g p none) (g' := g) p (fun i hi => rh_un (by omega))]
      show List.Perm _ ((g p).toList ++ (rh_F g p ++ []))
      rw [List.append_nil]
      exact List.perm_append_comm
    · rw [rh_un (by omega : n ≠ p), ← List.append_assoc]
      exact (ih (by omega)).append_right _
theorem rh_F_mem {α : Type} {g : Nat → Option α} {x : α} : ∀ {n : Nat}, x ∈ rh_F g n ↔ ∃ i, i < n ∧ g i = some x := by
  intro n
  induction n with
  | zero => exact ⟨fun h => absurd h List.not_mem_nil, fun ⟨i, hi, _⟩ => absurd hi (Nat.not_lt_zero i)⟩
  | succ n ih =>
    rw [rh_F_s, List.mem_append, ih, Option.mem_toList]
    constructor
    · intro h
      rcases h with ⟨i, hi, e⟩ | h
      · exact ⟨i, by omega, e⟩
      · exact ⟨n, by omega, h⟩
    · intro h
      obtain ⟨i, hi, e⟩ := h
      by_cases z : i = n
      · subst z; exact Or.inr e
      · exact Or.inl ⟨i, by omega, e⟩
theorem rh_F_len {α : Type} (g : Nat → Option α) : ∀ n : Nat, (rh_F g n).length ≤ n := by
  intro n
  induction n with
  | zero => exact Nat.le_refl 0
  | succ n ih =>
    rw [rh_F_s, List.length_append]
    cases g n with
    | none => show (rh_F g n).length + 0 ≤ n + 1; omega
    | some x => show (rh_F g n).length + 1 ≤ n + 1; omega
theorem rh_F_room {α : Type} (g : Nat → Option α) : ∀ n : Nat, (rh_F g n).length < n → ∃ i, i < n ∧ g i = none := by
  intro n
  induction n with
  | zero => intro h; omega
  | succ n ih =>
    intro h
    rw [rh_F_s, List.length_append] at h
    cases e : g n with
    | none => exact ⟨n, by omega, e⟩
    | some x =>
      rw [e] at h
      have h' : (rh_F g n).length + 1 < n + 1 := h
      obtain ⟨i, hi, ei⟩ := ih (by omega)
      exact ⟨i, by omega, ei⟩
theorem rh_F_set {α : Type} {g : Nat → Option α} {p n : Nat} (x : α) (hp : p < n) (h : g p = none) : List.Perm (rh_F (rh_u g p (some x)) n) (x :: rh_F g n) := by
  have c := rh_F_cut (rh_u g p (some x)) p n hp
  rw [rh_us, rh_uu, rh_ue g p none h] at c
  exact c
theorem rh_F_del {α : Type} {g : Nat → Option α} {p n : Nat} {y : α} (hp : p < n) (h : g p = some y) : List.Perm (rh_F g n) (y :: rh_F (rh_u g p none) n) := by
  have c := rh_F_cut g p n hp
  rw [h] at c
  exact c
theorem rh_F_swap {α : Type} {g : Nat → Option α} {p n : Nat} {y : α} (x : α) (hp : p < n) (h : g p = some y) : List.Perm (y :: rh_F (rh_u g p (some x)) n) (x :: rh_F g n) := by
  have c := rh_F_cut (rh_u g p (some x)) p n hp
  rw [rh_us, rh_uu] at c
  have c' : List.Perm (rh_F (rh_u g p (some x)) n) (x :: rh_F (rh_u g p none) n) := c
  have d := rh_F_del hp h
  exact (c'.cons y).trans ((List.Perm.swap x y _).trans (d.symm.cons x))
/-- the first n values of an array -/
def rh_L {α : Type} (T : Nat → α) (n : Nat) : List α := rh_F (fun i => some (T i)) n
theorem rh_L_0 {α : Type} (T : Nat → α) : rh_L T 0 = [] := rfl
theorem rh_L_s {α : Type} (T : Nat → α) (n : Nat) : rh_L T (n + 1) = rh_L T n ++ [T n] := rfl
theorem rh_L_congr {α : Type} {T T' : Nat → α} (n : Nat) (h : ∀ i, i < n → T i = T' i) : rh_L T n = rh_L T' n :=
  rh_F_congr n (fun i hi => congrArg some (h i hi))
theorem rh_L_len {α : Type} (T : Nat → α) (n : Nat) : (rh_L T n).length = n := by
  induction n with
  | zero => rfl
  | succ n ih => rw [rh_L_s, List.length_append, ih]; rfl
theorem rh_L_mem {α : Type} {T : Nat → α} {x : α} {n : Nat} : x ∈ rh_L T n ↔ ∃ i, i < n ∧ T i = x := by
  unfold rh_L
  rw [rh_F_mem]
  constructor
  · intro h
    obtain ⟨i, hi, e⟩ := h
    exact ⟨i, hi, Option.some.inj e⟩
  · intro h
    obtain ⟨i, hi, e⟩ := h
    exact ⟨i, hi, congrArg some e⟩
theorem rh_L_u {α : Type} (T : Nat → α) (p : Nat) (x : α) : (fun i => some (rh_u T p x i)) = rh_u (fun i => some (T i)) p (some x) := by
  funext j
  by_cases h : j = p
  · subst h; rw [rh_us, rh_us]
  · rw [rh_un h, rh_un h]
theorem rh_L_swap {α : Type} {T : Nat → α} {p n : Nat} (x : α) (hp : p < n) : List.Perm (T p :: rh_L (rh_u T p x) n) (x :: rh_L T n) := by
  have a := rh_F_swap (g := fun i => some (T i)) (p := p) (n := n) (y := T p) x hp rfl
  rw [← rh_L_u T p x] at a
  exact a
theorem rh_L_sw {α : Type} {S : Nat → α} {i j n : Nat} (hi : i < n) (hj : j < n) (h : i ≠ j) : List.Perm (rh_L (rh_u (rh_u S j (S i)) i (S j)) n) (rh_L S n) := by
  have h1 := rh_L_swap (T := S) (S i) hj
  have h2 := rh_L_swap (T := rh_u S j (S i)) (S j) hi
  rw [rh_un h] at h2
  exact (h2.trans h1).cons_inv
theorem rh_L_map {α β : Type} (f : α → β) (T : Nat → α) (n : Nat) : (rh_L T n).map f = rh_L (fun i => f (T i)) n := by
  induction n with
  | zero => rfl
  | succ n ih => rw [rh_L_s, rh_L_s, List.map_append, ih]; rfl
theorem rh_L_inj {α : Type} {T : Nat → α} : ∀ {n : Nat}, (rh_L T n).Nodup → ∀ i j, i < n → j < n → T i = T j → i = j := by
  intro n
  induction n with
  | zero => intro _ i j h; omega
  | succ n ih =>
    intro hn i j hi hj e
    rw [rh_L_s] at hn
    obtain ⟨h1, _, h3⟩ := List.nodup_append.mp hn
    by_cases a : i = n
    · by_cases b : j = n
      · rw [a, b]
      · exact absurd (by rw [← e, a]) (h3 (T j) (rh_L_mem.mpr ⟨j, by omega, rfl⟩) (T n) (List.mem_singleton.mpr rfl))
    · by_cases b : j = n
      · exact absurd (by rw [e, b]) (h3 (T i) (rh_L_mem.mpr ⟨i, by omega, rfl⟩) (T n) (List.mem_singleton.mpr rfl))
      · exact ih h1 i j (by omega) (by omega) e
/-- the last value moved over cell p, and the list one shorter -/
theorem rh_L_pop {α : Type} {T : Nat → α} {p n : Nat} (hp : p < n + 1) : List.Perm (T p :: rh_L (rh_u T p (T n)) n) (rh_L T (n + 1)) := by
  rw [rh_L_s]
  by_cases h : p = n
  · subst h
    rw [rh_ue T p (T p) rfl]
    exact (List.perm_append_singleton _ _).symm
  · exact (rh_L_swap (T n) (by omega)).trans (List.perm_append_singleton _ _).symm
/-- the first m are sorted -/
def rh_Srt {α : Type} (φ : α → Int32) (T : Nat → α) (m : Nat) : Prop := ∀ a b, a < b → b < m → φ (T a) ≤ φ (T b)
/-- insertion sort: a hole at j for the value x, cells up to i sorted but for it -/
def rh_Hole {α : Type} (φ : α → Int32) (n : Nat) (L : List α) (T : Nat → α) (i j : Nat) (x : α) : Prop :=
  j ≤ i ∧ i < n ∧ List.Perm (rh_L (rh_u T j x) n) L ∧ (∀ a b, a < b → b ≤ i → a ≠ j → b ≠ j → φ (T a) ≤ φ (T b)) ∧ (∀ b, j < b → b ≤ i → φ x ≤ φ (T b))
theorem rh_H_start {α : Type} {φ : α → Int32} {n : Nat} {L : List α} {T : Nat → α} {i : Nat} (hi : i < n) (hs : rh_Srt φ T i) (hp : List.Perm (rh_L T n) L) : rh_Hole φ n L T i i (T i) := by
  refine ⟨Nat.le_refl i, hi, ?_, fun a b h1 h2 _ h4 => hs a b h1 (by omega), fun b h1 h2 => by omega⟩
  rw [rh_ue T i (T i) rfl]
  exact hp
theorem rh_H_step {α : Type} {φ : α → Int32} {n : Nat} {L : List α} {T : Nat → α} {i j : Nat} {x : α} (h : rh_Hole φ n L T i (j + 1) x) (hx : ¬ φ (T j) ≤ φ x) : rh_Hole φ n L (rh_u T (j + 1) (T j)) i j x := by
  obtain ⟨h1, h2, h3, h4, h5⟩ := h
  refine ⟨by omega, h2, ?_, ?_, ?_⟩
  · have w := rh_L_sw (S := rh_u T (j + 1) x) (i := j) (j := j + 1) (n := n) (by omega) (by omega) (by omega)
    rw [rh_us, rh_un (by omega : j ≠ j + 1), rh_uu] at w
    exact w.trans h3
  · intro a b ab bi aj bj
    by_cases ea : a = j + 1
    · subst ea
      rw [rh_us, rh_un (by omega)]
      exact h4 j b (by omega) bi (by omega) (by omega)
    · rw [rh_un ea]
      by_cases eb : b = j + 1
      · subst eb
        rw [rh_us]
        exact h4 a j (by omega) (by omega) ea (by omega)
      · rw [rh_un eb]
        exact h4 a b ab bi ea eb
  · intro b jb bi
    by_cases eb : b = j + 1
    · subst eb
      rw [rh_us]
      exact Int32.le_of_lt (Int32.not_le.mp hx)
    · rw [rh_un eb]
      exact h5 b (by omega) bi
theorem rh_H_stop {α : Type} {φ : α → Int32} {n : Nat} {L : List α} {T : Nat → α} {i j : Nat} {x : α} (h : rh_Hole φ n L T i j x) (hx : ∀ q, j = q + 1 → φ (T q) ≤ φ x) : rh_Srt φ (rh_u T j x) (i + 1) ∧ List.Perm (rh_L (rh_u T j x) n) L := by
  obtain ⟨h1, h2, h3, h4, h5⟩ := h
  refine ⟨?_, h3⟩
  intro a b ab bi
  by_cases ea : a = j
  · subst ea
    rw [rh_us, rh_un (by omega)]
    exact h5 b ab (by omega)
  · rw [rh_un ea]
    by_cases eb : b = j
    · subst eb
      rw [rh_us]
      obtain ⟨q, rfl⟩ : ∃ q, b = q + 1 := ⟨b - 1, by omega⟩
      by_cases eq : a = q
      · subst eq
        exact hx a rfl
      · exact Int32.le_trans (h4 a q (by omega) (by omega) ea (by omega)) (hx q rfl)
    · rw [rh_un eb]
      exact h4 a b ab (by omega) ea eb
theorem rh_Srt_mono {α : Type} {φ : α → Int32} {T : Nat → α} {m i : Nat} (h : rh_Srt φ T i) (hm : m ≤ i) : rh_Srt φ T m := fun a b h1 h2 => h a b h1 (by omega)
theorem rh_Srt_pw {S : Nat → Int32} : ∀ {m : Nat}, rh_Srt (fun x => x) S m → (rh_L S m).Pairwise (fun x y => x ≤ y) := by
  intro m
  induction m with
  | zero => intro _; exact List.Pairwise.nil
  | succ m ih =>
    intro h
    rw [rh_L_s]
    refine List.pairwise_append.mpr ⟨ih (rh_Srt_mono h (by omega)), List.pairwise_singleton _ _, ?_⟩
    intro x hx y hy
    obtain ⟨i, hi, rfl⟩ := rh_L_mem.mp hx
    rw [List.mem_singleton.mp hy]
    exact h i m hi (by omega)
theorem rh_sort_uniq {s t : List Int32} (hs : s.Pairwise (fun x y => x ≤ y)) (ht : t.Pairwise (fun x y => x ≤ y)) (h : List.Perm s t) : s = t :=
  List.Perm.eq_of_pairwise (fun _ _ _ _ h1 h2 => Int32.le_antisymm h1 h2) hs ht h
/-- two arrays as one of pairs -/
theorem rh_pr (a b : Nat → Int32) (p : Nat) (x y : Int32) : (fun i => (upd a p x i, upd b p y i)) = rh_u (fun i => (a i, b i)) p (x, y) := by
  funext j
  by_cases h : j = p
  · subst h; rw [rh_us, pk_us, pk_us]
  · rw [rh_un h, pk_un h, pk_un h]
end
section
/-! the pure layout -/
theorem rh_tm {a b : Int} (h1 : -b < a) (h2 : a < b) : a.tmod b = a := by
  by_cases h : 0 ≤ a
  · exact Int.tmod_eq_of_lt h h2
  · obtain ⟨e, rfl⟩ : ∃ e : Int, a = -e := ⟨-a, by omega⟩
    rw [Int.neg_tmod, Int.tmod_eq_of_lt (by omega) (by omega)]
theorem rh_small {x m : Int32} (h1 : -m.toInt < x.toInt) (h2 : x.toInt < m.toInt) : x - x / m * m = x :=
  Int32.toInt_inj.mp (by rw [rem_toInt]; exact rh_tm h1 h2)
/-- a key's home -/
def rh_h (c : Nat) (k : Int32) : Nat := (fmv k (nI c)).toNatClampNeg
theorem rh_h_ex {c : Nat} (h0 : 0 < c) (hc : c ≤ 32) (k : Int32) : fmv k (nI c) = nI (rh_h c k) ∧ rh_h c k < c := by
  have hm : (nI c).toInt = (c : Int) := nI_toInt (by omega)
  obtain ⟨q, e, hq⟩ := fmv_nat (a := k) (m := nI c) (by omega)
  have e' : fmv k (nI c) = nI q := e
  have hq' : q < c := by omega
  have e2 : rh_h c k = q := by
    unfold rh_h
    rw [e', nI_clamp (by omega)]
  rw [e2]
  exact ⟨e', hq'⟩
/-- the displacement of key k at place p -/
def rh_d (c p : Nat) (k : Int32) : Int32 := fmv (nI p - fmv k (nI c)) (nI c)
theorem rh_d_X {c p : Nat} (hc : c ≤ 32) (hp : p < c) (k : Int32) : fmOf (nI p - fmv k (nI c)) (nI c) = rh_d c p k := by
  obtain ⟨e, hb⟩ := rh_h_ex (by omega : 0 < c) hc k
  have t : (nI p - fmv k (nI c)).toInt = (p : Int) - (rh_h c k : Int) := by
    rw [e]
    exact pk_sub_toInt (by omega) (by omega)
  have hm : (nI c).toInt = (c : Int) := nI_toInt (by omega)
  unfold rh_d fmv
  unfold fmv at t
  rw [rh_small (x := nI p - fmOf (k - k / nI c * nI c) (nI c)) (m := nI c) (by omega) (by omega)]
def rh_nx (c p : Nat) : Nat := if p + 1 < c then p + 1 else 0
def rh_ds (c p z : Nat) : Nat := if p ≤ z then z - p else z + c - p
theorem rh_nx_lt {c p : Nat} (hp : p < c) : rh_nx c p < c := by
  unfold rh_nx
  split <;> omega
theorem rh_ds_lt {c p z : Nat} (hp : p < c) (hz : z < c) : rh_ds c p z < c := by
  unfold rh_ds
  split <;> omega
theorem rh_ds_nx {c p z : Nat} (hp : p < c) (hz : z < c) (h : p ≠ z) : rh_ds c (rh_nx c p) z + 1 = rh_ds c p z := by
  by_cases a : p + 1 < c
  · rw [show rh_nx c p = p + 1 from if_pos a]
    unfold rh_ds
    split <;> split <;> omega
  · rw [show rh_nx c p = 0 from if_neg a]
    unfold rh_ds
    split <;> split <;> omega
/-- one insertion: key k at place p, displaced by d; fuel first -/
def rh_ins (c : Nat) : Nat → Int32 → Nat → Int32 → (Nat → Int32) → (Nat → Int32) → (Nat → Int32) × (Nat → Int32)
  | 0, _, _, _, K, U => (K, U)
  | f + 1, k, p, d, K, U => if U p = 0 then (upd K p k, upd U p 1) else
      if rh_d c p (K p) < d ∨ (d = rh_d c p (K p) ∧ ¬ K p ≤ k) then rh_ins c f (K p) (rh_nx c p) (rh_d c p (K p) + 1) (upd K p k) U
      else rh_ins c f k (rh_nx c p) (d + 1) K U
theorem rh_ins_e {c f : Nat} {k : Int32} {p : Nat} {d : Int32} {K U : Nat → Int32} (h : U p = 0) : rh_ins c (f + 1) k p d K U = (upd K p k, upd U p 1) := by
  rw [rh_ins, if_pos h]
theorem rh_ins_s {c f : Nat} {k : Int32} {p : Nat} {d : Int32} {K U : Nat → Int32} (h : ¬ U p = 0) (w : rh_d c p (K p) < d ∨ (d = rh_d c p (K p) ∧ ¬ K p ≤ k)) : rh_ins c (f + 1) k p d K U = rh_ins c f (K p) (rh_nx c p) (rh_d c p (K p) + 1) (upd K p k) U := by
  rw [rh_ins, if_neg h, if_pos w]
theorem rh_ins_n {c f : Nat} {k : Int32} {p : Nat} {d : Int32} {K U : Nat → Int32} (h : ¬ U p = 0) (w : ¬ (rh_d c p (K p) < d ∨ (d = rh_d c p (K p) ∧ ¬ K p ≤ k))) : rh_ins c (f + 1) k p d K U = rh_ins c f k (rh_nx c p) (d + 1) K U := by
  rw [rh_ins, if_neg h, if_neg w]
theorem rh_ins_fact {c z : Nat} (hz : z < c) {U : Nat → Int32} (hU : U z = 0) : ∀ (f : Nat) (k : Int32) (p : Nat) (d : Int32) (K : Nat → Int32), p < c → rh_ds c p z < f →
    ∃ q, q < c ∧ U q = 0 ∧ (rh_ins c f k p d K U).2 = upd U q 1 ∧ ∀ i, c ≤ i → (rh_ins c f k p d K U).1 i = K i := by
  intro f
  induction f with
  | zero => intro k p d K _ h; omega
  | succ f ih =>
    intro k p d K hp hf
    by_cases h : U p = 0
    · rw [rh_ins_e h]
      exact ⟨p, hp, h, rfl, fun i hi => pk_un (by omega)⟩
    · have hpz : p ≠ z := fun e => h (by rw [e]; exact hU)
      have hd := rh_ds_nx hp hz hpz
      by_cases w : rh_d c p (K p) < d ∨ (d = rh_d c p (K p) ∧ ¬ K p ≤ k)
      · rw [rh_ins_s h w]
        obtain ⟨q, h1, h2, h3, h4⟩ := ih (K p) (rh_nx c p) (rh_d c p (K p) + 1) (upd K p k) (rh_nx_lt hp) (by omega)
        exact ⟨q, h1, h2, h3, fun i hi => (h4 i hi).trans (pk_un (by omega))⟩
      · rw [rh_ins_n h w]
        exact ih k (rh_nx c p) (d + 1) K (rh_nx_lt hp) (by omega)
def rh_st (c : Nat) (s : (Nat → Int32) × (Nat → Int32)) (k : Int32) : (Nat → Int32) × (Nat → Int32) := rh_ins c c k (rh_h c k) 0 s.1 s.2
def rh_lay (c : Nat) (s : List Int32) : (Nat → Int32) × (Nat → Int32) := s.foldl (rh_st c) (fun _ => 0, fun _ => 0)
theorem rh_lay_s (c : Nat) (S : Nat → Int32) (i : Nat) : rh_lay c (rh_L S (i + 1)) = rh_st c (rh_lay c (rh_L S i)) (S i) := by
  unfold rh_lay
  rw [rh_L_s, List.foldl_append]
  rfl
def rh_c (U : Nat → Int32) : Nat → Option Unit := fun i => if U i = 0 then none else some ()
theorem rh_c_none {U : Nat → Int32} {i : Nat} (h : rh_c U i = none) : U i = 0 := by
  by_cases e : U i = 0
  · exact e
  · have : rh_c U i = some () := if_neg e
    rw [this] at h
    cases h
theorem rh_c_u {U : Nat → Int32} {q : Nat} : rh_c (upd U q 1) = rh_u (rh_c U) q (some ()) := by
  funext j
  by_cases h : j = q
  · subst h
    rw [rh_us]
    unfold rh_c
    rw [pk_us]
    exact if_neg (by decide)
  · rw [rh_un h]
    unfold rh_c
    rw [pk_un h]
/-- a good layout with a keys -/
def rh_G (c a : Nat) (K U : Nat → Int32) : Prop := (∀ i, c ≤ i → K i = 0 ∧ U i = 0) ∧ (∀ i, U i = 0 ∨ U i = 1) ∧ (rh_F (rh_c U) c).length = a
theorem rh_G_room {c a : Nat} {K U : Nat → Int32} (h : rh_G c a K U) (ha : a < c) : ∃ z, z < c ∧ U z = 0 := by
  obtain ⟨z, hz, e⟩ := rh_F_room (rh_c U) c (by rw [h.2.2]; exact ha)
  exact ⟨z, hz, rh_c_none e⟩
theorem rh_st_G {c a : Nat} (hc : c ≤ 32) (ha : a < c) {s : (Nat → Int32) × (Nat → Int32)} (h : rh_G c a s.1 s.2) (k : Int32) : rh_G c (a + 1) (rh_st c s k).1 (rh_st c s k).2 := by
  obtain ⟨z, hz, hU⟩ := rh_G_room h ha
  have hb := (rh_h_ex (by omega : 0 < c) hc k).2
  obtain ⟨q, h1, h2, h3, h4⟩ := rh_ins_fact hz hU c k (rh_h c k) 0 s.1 hb (rh_ds_lt hb hz)
  obtain ⟨g1, g2, g3⟩ := h
  unfold rh_st
  rw [h3]
  refine ⟨fun i hi => ⟨(h4 i hi).trans (g1 i hi).1, (pk_un (by omega)).trans (g1 i hi).2⟩, ?_, ?_⟩
  · intro i
    by_cases e : i = q
    · subst e
      exact Or.inr pk_us
    · rw [pk_un e]
      exact g2 i
  · rw [rh_c_u]
    have hn : rh_c s.2 q = none := if_pos h2
    rw [(rh_F_set () h1 hn).length_eq, List.length_cons, g3]
theorem rh_fold_G {c : Nat} (hc : c ≤ 32) : ∀ (l : List Int32) (a : Nat) (s : (Nat → Int32) × (Nat → Int32)), rh_G c a s.1 s.2 → a + l.length ≤ c → rh_G c (a + l.length) (l.foldl (rh_st c) s).1 (l.foldl (rh_st c) s).2 := by
  intro l
  induction l with
  | nil => intro a s h _; exact h
  | cons k l ih =>
    intro a s h hl
    rw [List.length_cons] at hl
    have w := ih (a + 1) (rh_st c s k) (rh_st_G hc (by omega) h k) (by omega)
    rw [List.length_cons, List.foldl_cons, show a + (l.length + 1) = a + 1 + l.length by omega]
    exact w
theorem rh_F_none {α : Type} {g : Nat → Option α} : ∀ n : Nat, (∀ i, i < n → g i = none) → rh_F g n = [] := by
  intro n
  induction n with
  | zero => intro _; rfl
  | succ n ih =>
    intro h
    rw [rh_F_s, ih (fun i hi => h i (by omega)), h n (by omega)]
    rfl
theorem rh_F_zc (c : Nat) : rh_F (rh_c (fun _ => 0)) c = [] := rh_F_none c (fun _ _ => if_pos rfl)
theorem rh_lay_G {c : Nat} (hc : c ≤ 32) {l : List Int32} (hl : l.length ≤ c) {K U : Nat → Int32} (e : (K, U) = rh_lay c l) : rh_G c l.length K U := by
  have w := rh_fold_G hc l 0 (fun _ => 0, fun _ => 0) ⟨fun _ _ => ⟨rfl, rfl⟩, fun _ => Or.inl rfl, by show (rh_F (rh_c (fun _ => 0)) c).length = 0; rw [rh_F_zc]; rfl⟩ (by omega)
  rw [Nat.zero_add] at w
  have e1 : K = (rh_lay c l).1 := congrArg Prod.fst e
  have e2 : U = (rh_lay c l).2 := congrArg Prod.snd e
  rw [e1, e2]
  exact w
/-- X's cells as pairs -/
def rh_g (K V U : Nat → Int32) : Nat → Option (Int32 × Int32) := fun i => if U i = 0 then none else some (K i, V i)
theorem rh_F_zg (K V : Nat → Int32) (c : Nat) : rh_F (rh_g K V (fun _ => 0)) c = [] := rh_F_none c (fun _ _ => if_pos rfl)
theorem rh_g_none {K V U : Nat → Int32} {i : Nat} (h : rh_g K V U i = none) : U i = 0 := by
  by_cases e : U i = 0
  · exact e
  · have : rh_g K V U i = some (K i, V i) := if_neg e
    rw [this] at h
    cases h
theorem rh_g_some {K V U : Nat → Int32} {i : Nat} {x : Int32 × Int32} (h : rh_g K V U i = some x) : ¬ U i = 0 ∧ x = (K i, V i) := by
  by_cases e : U i = 0
  · have : rh_g K V U i = none := if_pos e
    rw [this] at h
    cases h
  · have w : rh_g K V U i = some (K i, V i) := if_neg e
    rw [w] at h
    exact ⟨e, (Option.some.inj h).symm⟩
theorem rh_g_put {K V U : Nat → Int32} {p : Nat} {k v : Int32} : rh_g (upd K p k) (upd V p v) (upd U p 1) = rh_u (rh_g K V U) p (some (k, v)) := by
  funext j
  by_cases h : j = p
  · subst h
    rw [rh_us]
    unfold rh_g
    rw [pk_us, pk_us, pk_us]
    exact if_neg (by decide)
  · rw [rh_un h]
    unfold rh_g
    rw [pk_un h, pk_un h, pk_un h]
theorem rh_g_swap {K V U : Nat → Int32} {p : Nat} {k v : Int32} (hU : ¬ U p = 0) : rh_g (upd K p k) (upd V p v) U = rh_u (rh_g K V U) p (some (k, v)) := by
  funext j
  by_cases h : j = p
  · subst h
    rw [rh_us]
    unfold rh_g
    rw [pk_us, pk_us]
    exact if_neg hU
  · rw [rh_un h]
    unfold rh_g
    rw [pk_un h, pk_un h]
theorem rh_g_val {K V U : Nat → Int32} {p : Nat} {v : Int32} (hU : ¬ U p = 0) : rh_g K (upd V p v) U = rh_u (rh_g K V U) p (some (K p, v)) := by
  funext j
  by_cases h : j = p
  · subst h
    rw [rh_us]
    unfold rh_g
    rw [pk_us]
    exact if_neg hU
  · rw [rh_un h]
    unfold rh_g
    rw [pk_un h]
theorem rh_g_del {K V U : Nat → Int32} {p : Nat} : rh_g (upd K p 0) (upd V p 0) (upd U p 0) = rh_u (rh_g K V U) p none := by
  funext j
  by_cases h : j = p
  · subst h
    rw [rh_us]
    unfold rh_g
    rw [pk_us, pk_us, pk_us]
    exact if_pos rfl
  · rw [rh_un h]
    unfold rh_g
    rw [pk_un h, pk_un h, pk_un h]
end
section
/-! the component's walks -/
theorem rh_xhome {c : Nat} (h0 : 0 < c) (hc : c ≤ 32) {cnt : Int32} {K V U tk tv : Nat → Int32} {post : Int32 → Prop} {k : Int32} (h : post (fmv k (nI c))) :
    wpX_home post (nI c, cnt, K, V, U, tk, tv) k := by
  have hz : ¬ nI c = 0 := nI_ne0 h0 (by omega)
  unfold wpX_home
  dsimp only
  refine br_f hz ⟨hz, nm_e ?_⟩
  by_cases hr : 0 ≤ k - k / nI c * nI c
  · have e : fmv k (nI c) = k - k / nI c * nI c := if_pos hr
    rw [e] at h
    exact br_t hr h
  · have e : fmv k (nI c) = k - k / nI c * nI c + nI c := if_neg hr
    rw [e] at h
    exact br_f hr (nm_e h)
theorem rh_xdisp {c p : Nat} (hc : c ≤ 32) (hp : p < c) {cnt : Int32} {K V U tk tv : Nat → Int32} {post : Int32 → Prop} (h : post (rh_d c p (K p))) :
    wpX_dispAt post (nI c, cnt, K, V, U, tk, tv) (nI p) := by
  have e : (nI p).toNatClampNeg = p := nI_clamp (by omega)
  unfold wpX_dispAt
  dsimp only
  rw [e]
  refine ⟨vp_in_nI (by omega) (by omega), rh_xhome (by omega) hc (nm_e ?_)⟩
  rw [← rh_d_X hc hp] at h
  by_cases hr : 0 ≤ nI p - fmv (K p) (nI c)
  · have e : fmOf (nI p - fmv (K p) (nI c)) (nI c) = nI p - fmv (K p) (nI c) := if_pos hr
    rw [e] at h
    exact br_t hr h
  · have e : fmOf (nI p - fmv (K p) (nI c)) (nI c) = nI p - fmv (K p) (nI c) + nI c := if_neg hr
    rw [e] at h
    exact br_f hr (nm_e h)
theorem rh_xfind2 {c : Nat} (hc : c ≤ 32) {cnt : Int32} {K V U tk tv : Nat → Int32} {key : Int32} {post : Int32 → Prop}
    (hf : ∀ i, i < c → ¬ U i = 0 → K i = key → (∀ j, j < i → ¬ (¬ U j = 0 ∧ K j = key)) → post (nI i))
    (hn : (∀ j, j < c → ¬ (¬ U j = 0 ∧ K j = key)) → post (-1)) :
    ∀ n i, i ≤ c → c - i < n → (∀ j, j < i → ¬ (¬ U j = 0 ∧ K j = key)) → wX_find_2 post key (nI c) cnt K V U tk tv n (nI i) := by
  intro n
  induction n with
  | zero => intro i _ h; omega
  | succ n ih =>
    intro i hi hm hj
    have e : (nI i).toNatClampNeg = i := nI_clamp (by omega)
    rw [wX_find_2]
    dsimp only
    rw [e]
    by_cases z : i = c
    · exact br_t (nI_le (by omega) (by omega)) (hn (fun j h => hj j (by omega)))
    · have hin : vp_in (nI i) 32 := vp_in_nI (by omega) (by omega)
      refine br_f (nI_ge (by omega) (by omega)) ⟨hin, ?_⟩
      by_cases u : U i = 0
      · exact br_t u (nm_r (nI_1 i) (ih (i + 1) (by omega) (by omega) (lt_s hj (fun h => h.1 u))))
      · refine br_f u ⟨hin, ?_⟩
        by_cases w : K i = key
        · exact br_t w (hf i (by omega) u w hj)
        · exact br_f w (nm_r (nI_1 i) (ih (i + 1) (by omega) (by omega) (lt_s hj (fun h => w h.2))))
theorem rh_xfind {c : Nat} (hc : c ≤ 32) {cnt : Int32} {K V U tk tv : Nat → Int32} {key : Int32} {post : Int32 → Prop}
    (hf : ∀ i, i < c → ¬ U i = 0 → K i = key → (∀ j, j < i → ¬ (¬ U j = 0 ∧ K j = key)) → post (nI i))
    (hn : (∀ j, j < c → ¬ (¬ U j = 0 ∧ K j = key)) → post (-1)) : wpX_find post (nI c, cnt, K, V, U, tk, tv) key := by
  unfold wpX_find
  dsimp only
  exact ⟨c + 1, rh_xfind2 hc hf hn (c + 1) 0 (by omega) (by omega) lt_0⟩
/-! insertRaw -/
theorem rh_x104 {c p : Nat} (hc : c ≤ 32) (hp : p < c) {post : SX → Prop} {J : Int32 → Int32 → Int32 → Int32 → (Nat → Int32) → (Nat → Int32) → (Nat → Int32) → (Nat → Int32) → (Nat → Int32) → Prop}
    {k v d cnt : Int32} {K V U tk tv : Nat → Int32} (h : J k v (nI (rh_nx c p)) (d + 1) K V U tk tv) : wX_insertRaw_104 post J k v (nI p) d (nI c) cnt K V U tk tv := by
  unfold wX_insertRaw_104
  refine nm_r (nI_1 p) ?_
  by_cases w : p + 1 < c
  · rw [show rh_nx c p = p + 1 from if_pos w] at h
    exact br_t (nI_lt w (by omega)) (nm_e h)
  · rw [show rh_nx c p = 0 from if_neg w] at h
    exact br_f (nI_nlt (by omega) (by omega)) (nm_e h)
theorem rh_x58 {c p : Nat} (hc : c ≤ 32) (hp : p < c) {post : SX → Prop} {J : Int32 → Int32 → Int32 → Int32 → (Nat → Int32) → (Nat → Int32) → (Nat → Int32) → (Nat → Int32) → (Nat → Int32) → Prop}
    {k v d cnt : Int32} {K V U tk tv : Nat → Int32} (h : J (K p) (V p) (nI (rh_nx c p)) (d + 1) (upd K p k) (upd V p v) U tk tv) : wX_insertRaw_58 post J k v (nI p) d (nI c) cnt K V U tk tv := by
  have e : (nI p).toNatClampNeg = p := nI_clamp (by omega)
  have hin : vp_in (nI p) 32 := vp_in_nI (by omega) (by omega)
  unfold wX_insertRaw_58
  rw [e]
  exact ⟨hin, nm_e ⟨hin, nm_e ⟨hin, nm_e ⟨hin, nm_e (rh_x104 hc hp h)⟩⟩⟩⟩
theorem rh_xins {c z : Nat} (hc : c ≤ 32) (hz : z < c) {cnt : Int32} {tk tv U : Nat → Int32} (hU : U z = 0) {post : SX → Prop} {L : List (Int32 × Int32)} :
    ∀ (n f : Nat) (k v : Int32) (p : Nat) (d : Int32) (K V : Nat → Int32), p < c → rh_ds c p z < n → rh_ds c p z < f → List.Perm ((k, v) :: rh_F (rh_g K V U) c) L →
    (∀ K' V' U' : Nat → Int32, (K', U') = rh_ins c f k p d K U → List.Perm (rh_F (rh_g K' V' U') c) L → post (nI c, cnt, K', V', U', tk, tv)) →
    wX_insertRaw_15 post (nI c) cnt n k v (nI p) d K V U tk tv := by
  intro n
  induction n with
  | zero => intro f k v p d K V _ h; omega
  | succ n ih =>
    intro f k v p d K V hp hn hf hL hpost
    obtain ⟨f, rfl⟩ : ∃ q, f = q + 1 := ⟨f - 1, by omega⟩
    have e : (nI p).toNatClampNeg = p := nI_clamp (by omega)
    have hin : vp_in (nI p) 32 := vp_in_nI (by omega) (by omega)
    rw [wX_insertRaw_15]
    dsimp only
    rw [e]
    refine ⟨hin, ?_⟩
    by_cases h : U p = 0
    · refine br_t h ⟨hin, nm_e ⟨hin, nm_e ⟨hin, nm_e (hpost _ _ _ (rh_ins_e h).symm ?_)⟩⟩⟩
      show List.Perm (rh_F (rh_g (upd K p k) (upd V p v) (upd U p 1)) c) L
      rw [rh_g_put]
      exact (rh_F_set (k, v) hp (if_pos h)).trans hL
    · have hpz : p ≠ z := fun e => h (by rw [e]; exact hU)
      have hd := rh_ds_nx hp hz hpz
      have hs : (rh_d c p (K p) < d ∨ (d = rh_d c p (K p) ∧ ¬ K p ≤ k)) → wX_insertRaw_58 post (wX_insertRaw_15 post (nI c) cnt n) k v (nI p) (rh_d c p (K p)) (nI c) cnt K V U tk tv := by
        intro w
        refine rh_x58 hc hp (ih f (K p) (V p) (rh_nx c p) _ (upd K p k) (upd V p v) (rh_nx_lt hp) (by omega) (by omega) ?_ ?_)
        · rw [rh_g_swap h]
          exact (rh_F_swap (y := (K p, V p)) (k, v) hp (if_neg h)).trans hL
        · intro K' V' U' e1 e2
          exact hpost K' V' U' (e1.trans (rh_ins_s h w).symm) e2
      have hg : ¬ (rh_d c p (K p) < d ∨ (d = rh_d c p (K p) ∧ ¬ K p ≤ k)) → wX_insertRaw_104 post (wX_insertRaw_15 post (nI c) cnt n) k v (nI p) d (nI c) cnt K V U tk tv := by
        intro w
        refine rh_x104 hc hp (ih f k v (rh_nx c p) _ K V (rh_nx_lt hp) (by omega) (by omega) hL ?_)
        intro K' V' U' e1 e2
        exact hpost K' V' U' (e1.trans (rh_ins_n h w).symm) e2
      refine br_f h (rh_xdisp hc hp ?_)
      refine br_c (fun a => hs (Or.inl a)) (fun a => br_c (fun b => ⟨hin, br_c (fun y => hg ?_) (fun y => hs (Or.inr ⟨b, y⟩))⟩) (fun b => hg ?_))
      · intro w
        rcases w with w | w
        · exact a w
        · exact w.2 y
      · intro w
        rcases w with w | w
        · exact a w
        · exact b w.1
theorem rh_xinsR {c z : Nat} (hc : c ≤ 32) (hz : z < c) {cnt : Int32} {K V U tk tv : Nat → Int32} (hU : U z = 0) {post : SX → Prop} {k v : Int32}
    (h : ∀ K' V' U' : Nat → Int32, (K', U') = rh_st c (K, U) k → List.Perm (rh_F (rh_g K' V' U') c) ((k, v) :: rh_F (rh_g K V U) c) → post (nI c, cnt, K', V', U', tk, tv)) :
    wpX_insertRaw post (nI c, cnt, K, V, U, tk, tv) k v := by
  obtain ⟨e, hb⟩ := rh_h_ex (by omega : 0 < c) hc k
  unfold wpX_insertRaw
  dsimp only
  refine rh_xhome (by omega) hc ⟨c, ?_⟩
  rw [e]
  exact rh_xins hc hz hU c c k v (rh_h c k) 0 K V hb (rh_ds_lt hb hz) (rh_ds_lt hb hz) (List.Perm.refl _) h
/-! rebuild: the insertions -/
theorem rh_x185 {c m : Nat} (hc : c ≤ 32) (hm : m ≤ c) {cnt : Int32} {tk tv : Nat → Int32} {post : SX → Prop}
    (hend : ∀ K' V' U' : Nat → Int32, (K', U') = rh_lay c (rh_L tk m) → List.Perm (rh_F (rh_g K' V' U') c) (rh_L (fun q => (tk q, tv q)) m) → post (nI c, cnt, K', V', U', tk, tv)) :
    ∀ (n i : Nat) (K V U : Nat → Int32), i ≤ m → m - i < n → (K, U) = rh_lay c (rh_L tk i) → List.Perm (rh_F (rh_g K V U) c) (rh_L (fun q => (tk q, tv q)) i) →
    wX_rebuild_185 post (nI m) n (nI i) (nI c) cnt K V U tk tv := by
  intro n
  induction n with
  | zero => intro i K V U _ h; omega
  | succ n ih =>
    intro i K V U hi hn hE hP
    have e : (nI i).toNatClampNeg = i := nI_clamp (by omega)
    rw [wX_rebuild_185]
    dsimp only
    rw [e]
    by_cases z : i = m
    · subst z
      exact br_t (Int32.le_refl _) (hend K V U hE hP)
    · have hin : vp_in (nI i) 32 := vp_in_nI (by omega) (by omega)
      obtain ⟨q, hq, eq⟩ := rh_F_room (rh_g K V U) c (by rw [hP.length_eq, rh_L_len]; omega)
      refine br_f (nI_ge (by omega) (by omega)) ⟨hin, hin, rh_xinsR hc hq (rh_g_none eq) ?_⟩
      intro K' V' U' e1 e2
      refine nm_r (nI_1 i) (ih (i + 1) K' V' U' (by omega) (by omega) ?_ ?_)
      · rw [rh_lay_s, ← hE]
        exact e1
      · rw [rh_L_s]
        exact e2.trans ((hP.cons _).trans (List.perm_append_singleton _ _).symm)
/-! rebuild: the sort -/
def rh_m : Nat → Int32
  | 0 => -1
  | j + 1 => nI j
theorem rh_m_1 (j : Nat) : rh_m j + 1 = nI j := by
  cases j with
  | zero => decide
  | succ j => exact nI_1 j
theorem rh_m_p (j : Nat) : nI j + (-1) = rh_m j := by
  cases j with
  | zero => decide
  | succ j => exact pk_m1 j
theorem rh_x156 {post : SX → Prop} {J : Int32 → (Nat → Int32) → (Nat → Int32) → (Nat → Int32) → (Nat → Int32) → (Nat → Int32) → Prop} {x1 k v fc cnt : Int32} {i j : Nat} {K V U tk tv : Nat → Int32} (hj : j < 32)
    (h : J (nI (i + 1)) K V U (upd tk j k) (upd tv j v)) : wX_rebuild_156 post J x1 (nI i) k v (rh_m j) fc cnt K V U tk tv := by
  have e : (nI j).toNatClampNeg = j := nI_clamp (by omega)
  have hin : vp_in (nI j) 32 := vp_in_nI (by omega) (by omega)
  unfold wX_rebuild_156
  rw [rh_m_1, e]
  exact ⟨hin, nm_e ⟨hin, nm_e (nm_r (nI_1 i) h)⟩⟩
theorem rh_x102 {post : SX → Prop} {J : Int32 → (Nat → Int32) → (Nat → Int32) → (Nat → Int32) → (Nat → Int32) → (Nat → Int32) → Prop} {x1 k v fc cnt : Int32} {i m : Nat} {K V U : Nat → Int32} {L : List (Int32 × Int32)} (hm : m ≤ 32)
    (hJ : ∀ tk' tv' : Nat → Int32, rh_Srt Prod.fst (fun q => (tk' q, tv' q)) (i + 1) → List.Perm (rh_L (fun q => (tk' q, tv' q)) m) L → J (nI (i + 1)) K V U tk' tv') :
    ∀ (n j : Nat) (tk tv : Nat → Int32), j < n → rh_Hole Prod.fst m L (fun q => (tk q, tv q)) i j (k, v) → wX_rebuild_102 post J x1 (nI i) k v fc cnt n (rh_m j) K V U tk tv := by
  intro n
  induction n with
  | zero => intro j tk tv h; omega
  | succ n ih =>
    intro j tk tv hn hH
    have hji := hH.1
    have him := hH.2.1
    have hout : (∀ q, j = q + 1 → tk q ≤ k) → wX_rebuild_156 post J x1 (nI i) k v (rh_m j) fc cnt K V U tk tv := by
      intro hx
      obtain ⟨s1, s2⟩ := rh_H_stop hH hx
      rw [← rh_pr] at s1 s2
      exact rh_x156 (by omega) (hJ _ _ s1 s2)
    rw [wX_rebuild_102]
    dsimp only
    cases j with
    | zero => exact br_t (show rh_m 0 < 0 by decide) (hout (fun q h => by omega))
    | succ j =>
      have e : (nI j).toNatClampNeg = j := nI_clamp (by omega)
      have e' : (nI (j + 1)).toNatClampNeg = j + 1 := nI_clamp (by omega)
      have hin : vp_in (nI j) 32 := vp_in_nI (by omega) (by omega)
      have hin' : vp_in (nI (j + 1)) 32 := vp_in_nI (by omega) (by omega)
      have hm1 : rh_m (j + 1) = nI j := rfl
      rw [hm1, nI_1 j, e, e', rh_m_p]
      rw [hm1] at hout
      refine br_f (nI_pos (by omega)) ⟨hin, ?_⟩
      by_cases w : tk j ≤ k
      · refine br_t w (hout ?_)
        intro q hq
        have : j = q := by omega
        rw [← this]
        exact w
      · refine br_f w ⟨hin, hin', nm_e ⟨hin, hin', nm_e (nm_e (ih j _ _ (by omega) ?_))⟩⟩
        rw [rh_pr]
        exact rh_H_step hH w
theorem rh_x77 {post : SX → Prop} {c m : Nat} {cnt : Int32} {K V U : Nat → Int32} {L : List (Int32 × Int32)} (hm : m ≤ 32)
    (hend : ∀ tk' tv' : Nat → Int32, rh_Srt Prod.fst (fun q => (tk' q, tv' q)) m → List.Perm (rh_L (fun q => (tk' q, tv' q)) m) L → ∃ n185 : Nat, wX_rebuild_185 post (nI m) n185 0 (nI c) cnt K V U tk' tv') :
    ∀ (n i : Nat) (tk tv : Nat → Int32), 1 ≤ i → i ≤ 33 → m - i < n → rh_Srt Prod.fst (fun q => (tk q, tv q)) i → List.Perm (rh_L (fun q => (tk q, tv q)) m) L →
    wX_rebuild_77 post (nI m) (nI c) cnt n (nI i) K V U tk tv := by
  intro n
  induction n with
  | zero => intro i tk tv _ _ h; omega
  | succ n ih =>
    intro i tk tv h1 h33 hn hS hP
    have e : (nI i).toNatClampNeg = i := nI_clamp (by omega)
    rw [wX_rebuild_77]
    dsimp only
    rw [e]
    by_cases z : m ≤ i
    · exact br_t (nI_le z (by omega)) (hend tk tv (rh_Srt_mono hS z) hP)
    · have hin : vp_in (nI i) 32 := vp_in_nI (by omega) (by omega)
      have hp : nI i - 1 = rh_m i := by
        obtain ⟨q, rfl⟩ : ∃ q, i = q + 1 := ⟨i - 1, by omega⟩
        exact nI_pred q
      refine br_f (nI_ge (by omega) (by omega)) ⟨hin, nm_e ⟨hin, nm_e (nm_r hp ⟨i + 1, ?_⟩)⟩⟩
      exact rh_x102 hm (fun tk' tv' s1 s2 => ih (i + 1) tk' tv' (by omega) (by omega) (by omega) s1 s2) (i + 1) i tk tv (by omega) (rh_H_start (by omega) hS hP)
/-! rebuild: the gathering -/
theorem rh_x48 {post : SX → Prop} {J : Int32 → Int32 → (Nat → Int32) → (Nat → Int32) → (Nat → Int32) → (Nat → Int32) → (Nat → Int32) → Prop} {x1 fc cnt : Int32} {i : Nat} {K V U tk tv : Nat → Int32} (hi : i < 32)
    (h : J x1 (nI (i + 1)) (upd K i 0) (upd V i 0) (upd U i 0) tk tv) : wX_rebuild_48 post J x1 (nI i) fc cnt K V U tk tv := by
  have e : (nI i).toNatClampNeg = i := nI_clamp (by omega)
  have hin : vp_in (nI i) 32 := vp_in_nI (by omega) (by omega)
  unfold wX_rebuild_48
  rw [e]
  exact ⟨hin, nm_e ⟨hin, nm_e ⟨hin, nm_e (nm_r (nI_1 i) h)⟩⟩⟩
theorem rh_x4 {post : SX → Prop} {c : Nat} (hc : c ≤ 32) {cnt : Int32} {g : Nat → Option (Int32 × Int32)}
    (hend : ∀ (m : Nat) (V tk tv : Nat → Int32), rh_L (fun q => (tk q, tv q)) m = rh_F g c → ∃ n77 : Nat, wX_rebuild_77 post (nI m) (nI c) cnt n77 1 (fun _ => 0) V (fun _ => 0) tk tv) :
    ∀ (n i m : Nat) (K V U tk tv : Nat → Int32), i ≤ c → c - i < n → rh_L (fun q => (tk q, tv q)) m = rh_F g i → (∀ j, j < i → K j = 0 ∧ U j = 0) → (∀ j, c ≤ j → K j = 0 ∧ U j = 0) → (∀ j, i ≤ j → rh_g K V U j = g j) →
    wX_rebuild_4 post (nI c) cnt n (nI m) (nI i) K V U tk tv := by
  intro n
  induction n with
  | zero => intro i m K V U tk tv _ h; omega
  | succ n ih =>
    intro i m K V U tk tv hi hn hL h0 h1 hg
    have hmi : m ≤ i := by
      have w := rh_F_len g i
      rw [← hL, rh_L_len] at w
      exact w
    have e : (nI i).toNatClampNeg = i := nI_clamp (by omega)
    have em : (nI m).toNatClampNeg = m := nI_clamp (by omega)
    rw [wX_rebuild_4]
    dsimp only
    rw [e, em]
    by_cases z : i = c
    · subst z
      have hK : K = fun _ => 0 := by
        funext j
        by_cases w : j < i
        · exact (h0 j w).1
        · exact (h1 j (by omega)).1
      have hU : U = fun _ => 0 := by
        funext j
        by_cases w : j < i
        · exact (h0 j w).2
        · exact (h1 j (by omega)).2
      rw [hK, hU]
      exact br_t (Int32.le_refl _) (hend m V tk tv hL)
    · have hin : vp_in (nI i) 32 := vp_in_nI (by omega) (by omega)
      have hinm : vp_in (nI m) 32 := vp_in_nI (by omega) (by omega)
      have a0 : ∀ j, j < i + 1 → upd K i 0 j = 0 ∧ upd U i 0 j = 0 := by
        intro j hj
        by_cases w : j = i
        · subst w; exact ⟨pk_us, pk_us⟩
        · rw [pk_un w, pk_un w]; exact h0 j (by omega)
      have a1 : ∀ j, c ≤ j → upd K i 0 j = 0 ∧ upd U i 0 j = 0 := by
        intro j hj
        rw [pk_un (by omega), pk_un (by omega)]
        exact h1 j hj
      have ag : ∀ j, i + 1 ≤ j → rh_g (upd K i 0) (upd V i 0) (upd U i 0) j = g j := by
        intro j hj
        rw [rh_g_del, rh_un (by omega)]
        exact hg j (by omega)
      have gi := hg i (Nat.le_refl i)
      refine br_f (nI_ge (by omega) (by omega)) ⟨hin, ?_⟩
      by_cases u : U i = 0
      · refine br_t u (rh_x48 (by omega) (ih (i + 1) m _ _ _ tk tv (by omega) (by omega) ?_ a0 a1 ag))
        have w : rh_g K V U i = none := if_pos u
        rw [rh_F_s, ← gi, w, hL]
        exact (List.append_nil _).symm
      · refine br_f u ⟨hin, hinm, nm_e ⟨hin, hinm, nm_e (nm_r (nI_1 m) (rh_x48 (by omega) (ih (i + 1) (m + 1) _ _ _ _ _ (by omega) (by omega) ?_ a0 a1 ag)))⟩⟩
        have w : rh_g K V U i = some (K i, V i) := if_neg u
        rw [rh_F_s, ← gi, w, rh_L_s, rh_pr, ← hL]
        rw [rh_L_congr (T := rh_u (fun q => (tk q, tv q)) m (K i, V i)) (T' := fun q => (tk q, tv q)) m (fun j hj => rh_un (by omega)), pk_us, pk_us]
        rfl
theorem rh_xrebuild {c : Nat} (hc : c ≤ 32) {cnt : Int32} {K V U tk tv : Nat → Int32} {post : SX → Prop} (h1 : ∀ j, c ≤ j → K j = 0 ∧ U j = 0)
    (h : ∀ (K' V' U' tk' tv' : Nat → Int32) (s : List Int32), List.Perm s ((rh_F (rh_g K V U) c).map Prod.fst) → s.Pairwise (fun x y => x ≤ y) → (K', U') = rh_lay c s → List.Perm (rh_F (rh_g K' V' U') c) (rh_F (rh_g K V U) c) → post (nI c, cnt, K', V', U', tk', tv')) :
    wpX_rebuild post (nI c, cnt, K, V, U, tk, tv) := by
  unfold wpX_rebuild
  dsimp only
  refine ⟨c + 1, rh_x4 hc (g := rh_g K V U) ?_ (c + 1) 0 0 K V U tk tv (by omega) (by omega) rfl lt_0 h1 (fun _ _ => rfl)⟩
  intro m V1 tk1 tv1 hL
  have hmc : m ≤ c := by
    have w := rh_F_len (rh_g K V U) c
    rw [← hL, rh_L_len] at w
    exact w
  refine ⟨m + 1, rh_x77 (by omega) (L := rh_F (rh_g K V U) c) ?_ (m + 1) 1 tk1 tv1 (by omega) (by omega) (by omega) (fun a b h1 h2 => by omega) (List.Perm.of_eq hL)⟩
  intro tk2 tv2 hS hP
  refine ⟨m + 1, rh_x185 hc hmc ?_ (m + 1) 0 (fun _ => 0) V1 (fun _ => 0) (by omega) (by omega) rfl ?_⟩
  · intro K' V' U' e1 e2
    have hk : List.Perm (rh_L tk2 m) ((rh_F (rh_g K V U) c).map Prod.fst) := by
      have w := hP.map Prod.fst
      rw [rh_L_map] at w
      exact w
    exact h K' V' U' tk2 tv2 (rh_L tk2 m) hk (rh_Srt_pw hS) e1 (e2.trans hP)
  · rw [rh_F_zg]
    exact List.Perm.refl _
end
section
/-! the reference's walks -/
theorem rh_yfm {c : Nat} (h0 : 0 < c) (hc : c ≤ 32) {post : Int32 → Prop} {k : Int32} (h : post (fmv k (nI c))) : wpY_fm post k (nI c) := by
  have hz : ¬ nI c = 0 := nI_ne0 h0 (by omega)
  unfold wpY_fm
  refine ⟨hz, nm_e ?_⟩
  by_cases hr : 0 ≤ k - k / nI c * nI c
  · have e : fmv k (nI c) = k - k / nI c * nI c := if_pos hr
    rw [e] at h
    exact br_t hr h
  · have e : fmv k (nI c) = k - k / nI c * nI c + nI c := if_neg hr
    rw [e] at h
    exact br_f hr (nm_e h)
theorem rh_yfind2 {c n : Nat} (hn32 : n ≤ 32) {K V S lk lu : Nat → Int32} {key : Int32} {post : Int32 → Prop}
    (hf : ∀ i, i < n → K i = key → post (nI i)) (hn : (∀ j, j < n → ¬ K j = key) → post (-1)) :
    ∀ f i, i ≤ n → n - i < f → (∀ j, j < i → ¬ K j = key) → wY_find_2 post key (nI c) (nI n) K V S lk lu f (nI i) := by
  intro f
  induction f with
  | zero => intro i _ h; omega
  | succ f ih =>
    intro i hi hm hj
    have e : (nI i).toNatClampNeg = i := nI_clamp (by omega)
    rw [wY_find_2]
    dsimp only
    rw [e]
    by_cases z : i = n
    · exact br_t (nI_le (by omega) (by omega)) (hn (fun j h => hj j (by omega)))
    · have hin : vp_in (nI i) 32 := vp_in_nI (by omega) (by omega)
      refine br_f (nI_ge (by omega) (by omega)) ⟨hin, ?_⟩
      by_cases w : K i = key
      · exact br_t w (hf i (by omega) w)
      · exact br_f w (nm_r (nI_1 i) (ih (i + 1) (by omega) (by omega) (lt_s hj w)))
theorem rh_yfind {c n : Nat} (hn32 : n ≤ 32) {K V S lk lu : Nat → Int32} {key : Int32} {post : Int32 → Prop}
    (hf : ∀ i, i < n → K i = key → post (nI i)) (hn : (∀ j, j < n → ¬ K j = key) → post (-1)) : wpY_find post (nI c, nI n, K, V, S, lk, lu) key := by
  unfold wpY_find
  dsimp only
  exact ⟨n + 1, rh_yfind2 hn32 hf hn (n + 1) 0 (by omega) (by omega) lt_0⟩
/-! rebuild: the insertions -/
theorem rh_y273 {c p st : Nat} (hc : c ≤ 32) (hp : p < c) {post : SY → Prop} {J : Int32 → (Nat → Int32) → (Nat → Int32) → (Nat → Int32) → (Nat → Int32) → (Nat → Int32) → Prop}
    {W : Int32 → Int32 → Int32 → Int32 → Int32 → (Nat → Int32) → (Nat → Int32) → (Nat → Int32) → (Nat → Int32) → (Nat → Int32) → Prop}
    {x1 k d x5 cnt : Int32} {K V S lk lu : Nat → Int32} (h : W k (nI (rh_nx c p)) (d + 1) x5 (nI st) K V S lk lu) : wY_rebuild_273 post J W x1 k (nI p) d x5 (nI (st + 1)) (nI c) cnt K V S lk lu := by
  unfold wY_rebuild_273
  refine nm_r (nI_1 p) ?_
  by_cases w : p + 1 < c
  · rw [show rh_nx c p = p + 1 from if_pos w] at h
    exact br_f (fun z => by rw [nI_eq (by omega) (by omega)] at z; omega) (nm_e (nm_r (pk_m1 st) h))
  · rw [show rh_nx c p = 0 from if_neg w] at h
    have e : p + 1 = c := by omega
    exact br_t (by rw [e]) (nm_e (nm_r (pk_m1 st) h))
theorem rh_y251 {c p st : Nat} (hc : c ≤ 32) (hp : p < c) {post : SY → Prop} {J : Int32 → (Nat → Int32) → (Nat → Int32) → (Nat → Int32) → (Nat → Int32) → (Nat → Int32) → Prop}
    {W : Int32 → Int32 → Int32 → Int32 → Int32 → (Nat → Int32) → (Nat → Int32) → (Nat → Int32) → (Nat → Int32) → (Nat → Int32) → Prop}
    {x1 k d x5 cnt : Int32} {K V S lk lu : Nat → Int32} (h : W (lk p) (nI (rh_nx c p)) (d + 1) x5 (nI st) K V S (upd lk p k) lu) : wY_rebuild_251 post J W x1 k (nI p) x5 (nI (st + 1)) d (nI c) cnt K V S lk lu := by
  have e : (nI p).toNatClampNeg = p := nI_clamp (by omega)
  have hin : vp_in (nI p) 32 := vp_in_nI (by omega) (by omega)
  unfold wY_rebuild_251
  rw [e]
  exact ⟨hin, nm_e ⟨hin, nm_e (rh_y273 hc hp h)⟩⟩
theorem rh_yins {c z : Nat} (hc : c ≤ 32) (hz : z < c) {cnt x1 : Int32} {K V S lu : Nat → Int32} (hU : lu z = 0) {post : SY → Prop} {J : Int32 → (Nat → Int32) → (Nat → Int32) → (Nat → Int32) → (Nat → Int32) → (Nat → Int32) → Prop} :
    ∀ (n f : Nat) (k : Int32) (p : Nat) (d : Int32) (st : Nat) (lk : Nat → Int32), p < c → rh_ds c p z + 1 < n → rh_ds c p z < f → rh_ds c p z < st → st ≤ 32 →
    J (x1 + 1) K V S (rh_ins c f k p d lk lu).1 (rh_ins c f k p d lk lu).2 →
    wY_rebuild_164 post J x1 (nI c) cnt n k (nI p) d 0 (nI st) K V S lk lu := by
  intro n
  induction n with
  | zero => intro f k p d st lk _ h; omega
  | succ n ih =>
    intro f k p d st lk hp hn hf hst h32 hJ
    obtain ⟨f, rfl⟩ : ∃ q, f = q + 1 := ⟨f - 1, by omega⟩
    obtain ⟨st, rfl⟩ : ∃ q, st = q + 1 := ⟨st - 1, by omega⟩
    have e : (nI p).toNatClampNeg = p := nI_clamp (by omega)
    have hin : vp_in (nI p) 32 := vp_in_nI (by omega) (by omega)
    rw [wY_rebuild_164]
    dsimp only
    rw [e]
    refine br_f (nI_nle (by omega) (by omega)) (br_t rfl ⟨hin, ?_⟩)
    by_cases h : lu p = 0
    · rw [rh_ins_e h] at hJ
      refine br_t h ⟨hin, nm_e ⟨hin, nm_e (nm_e ?_)⟩⟩
      obtain ⟨n, rfl⟩ : ∃ q, n = q + 1 := ⟨n - 1, by omega⟩
      rw [wY_rebuild_164]
      dsimp only
      exact br_c (fun _ => nm_e hJ) (fun _ => br_f (by decide) (nm_e hJ))
    · have hpz : p ≠ z := fun e => h (by rw [e]; exact hU)
      have hd := rh_ds_nx hp hz hpz
      have hs : (rh_d c p (lk p) < d ∨ (d = rh_d c p (lk p) ∧ ¬ lk p ≤ k)) → wY_rebuild_251 post J (wY_rebuild_164 post J x1 (nI c) cnt n) x1 k (nI p) 0 (nI (st + 1)) (rh_d c p (lk p)) (nI c) cnt K V S lk lu := by
        intro w
        rw [rh_ins_s h w] at hJ
        exact rh_y251 hc hp (ih f (lk p) (rh_nx c p) _ st (upd lk p k) (rh_nx_lt hp) (by omega) (by omega) (by omega) (by omega) hJ)
      have hg : ¬ (rh_d c p (lk p) < d ∨ (d = rh_d c p (lk p) ∧ ¬ lk p ≤ k)) → wY_rebuild_273 post J (wY_rebuild_164 post J x1 (nI c) cnt n) x1 k (nI p) d 0 (nI (st + 1)) (nI c) cnt K V S lk lu := by
        intro w
        rw [rh_ins_n h w] at hJ
        exact rh_y273 hc hp (ih f k (rh_nx c p) _ st lk (rh_nx_lt hp) (by omega) (by omega) (by omega) (by omega) hJ)
      refine br_f h ⟨hin, rh_yfm (by omega) hc (rh_yfm (by omega) hc ?_)⟩
      refine br_c (fun a => hs (Or.inl a)) (fun a => br_c (fun b => ⟨hin, br_c (fun y => hg ?_) (fun y => hs (Or.inr ⟨b, y⟩))⟩) (fun b => hg ?_))
      · intro w
        rcases w with w | w
        · exact a w
        · exact w.2 y
      · intro w
        rcases w with w | w
        · exact a w
        · exact b w.1
theorem rh_y128 {c m : Nat} (hc : c ≤ 32) (hm : m ≤ c) {K V S : Nat → Int32} {post : SY → Prop}
    (hend : ∀ lk' lu' : Nat → Int32, (lk', lu') = rh_lay c (rh_L S m) → post (nI c, nI m, K, V, S, lk', lu')) :
    ∀ (n i : Nat) (lk lu : Nat → Int32), i ≤ m → m - i < n → (lk, lu) = rh_lay c (rh_L S i) → wY_rebuild_128 post (nI c) (nI m) n (nI i) K V S lk lu := by
  intro n
  induction n with
  | zero => intro i lk lu _ h; omega
  | succ n ih =>
    intro i lk lu hi hn hE
    have e : (nI i).toNatClampNeg = i := nI_clamp (by omega)
    rw [wY_rebuild_128]
    dsimp only
    rw [e]
    by_cases z : i = m
    · subst z
      exact br_t (Int32.le_refl _) (hend lk lu hE)
    · have hin : vp_in (nI i) 32 := vp_in_nI (by omega) (by omega)
      have hG := rh_lay_G hc (l := rh_L S i) (by rw [rh_L_len]; omega) hE
      rw [rh_L_len] at hG
      obtain ⟨q, hq, hU⟩ := rh_G_room hG (by omega)
      obtain ⟨eh, hb⟩ := rh_h_ex (by omega : 0 < c) hc (S i)
      refine br_f (nI_ge (by omega) (by omega)) ⟨hin, nm_e (rh_yfm (by omega) hc ⟨c + 1, ?_⟩)⟩
      rw [eh]
      have hd := rh_ds_lt hb hq
      refine rh_yins hc hq hU (c + 1) c (S i) (rh_h c (S i)) 0 c lk hb (by omega) hd hd hc ?_
      rw [nI_1 i]
      refine ih (i + 1) _ _ (by omega) (by omega) ?_
      rw [rh_lay_s, ← hE]
      rfl
/-! rebuild: the sort -/
theorem rh_y77 {post : SY → Prop} {J : Int32 → (Nat → Int32) → (Nat → Int32) → (Nat → Int32) → (Nat → Int32) → (Nat → Int32) → Prop} {k fc cnt : Int32} {i m : Nat} {K V lk lu : Nat → Int32} {L : List Int32} (hm : m ≤ 32)
    (hJ : ∀ S' : Nat → Int32, rh_Srt (fun x => x) S' (i + 1) → List.Perm (rh_L S' m) L → J (nI (i + 1)) K V S' lk lu) :
    ∀ (n j : Nat) (S : Nat → Int32), j < n → rh_Hole (fun x => x) m L S i j k → wY_rebuild_77 post J (nI i) k fc cnt n (nI j) K V S lk lu := by
  intro n
  induction n with
  | zero => intro j S h; omega
  | succ n ih =>
    intro j S hn hH
    have hji := hH.1
    have him := hH.2.1
    have e : (nI j).toNatClampNeg = j := nI_clamp (by omega)
    have hin : vp_in (nI j) 32 := vp_in_nI (by omega) (by omega)
    have hout : (∀ q, j = q + 1 → S q ≤ k) → J (nI (i + 1)) K V (upd S j k) lk lu := by
      intro hx
      obtain ⟨s1, s2⟩ := rh_H_stop hH hx
      exact hJ (upd S j k) s1 s2
    rw [wY_rebuild_77]
    dsimp only
    rw [e]
    cases j with
    | zero => exact br_t (Int32.le_refl _) ⟨hin, nm_e (nm_r (nI_1 i) (hout (fun q h => by omega)))⟩
    | succ j =>
      have e2 : (nI j).toNatClampNeg = j := nI_clamp (by omega)
      have hin2 : vp_in (nI j) 32 := vp_in_nI (by omega) (by omega)
      rw [nI_pred j, pk_m1 j, e2]
      refine br_f (nI_nle (by omega) (by omega)) ⟨hin2, ?_⟩
      by_cases w : S j ≤ k
      · refine br_t w ⟨hin, nm_e (nm_r (nI_1 i) (hout ?_))⟩
        intro q hq
        have : j = q := by omega
        rw [← this]
        exact w
      · exact br_f w ⟨hin2, hin, nm_e (nm_e (ih j (upd S (j + 1) (S j)) (by omega) (rh_H_step hH w)))⟩
theorem rh_y60 {post : SY → Prop} {c m : Nat} {K V lk lu : Nat → Int32} {L : List Int32} (hm : m ≤ 32)
    (hend : ∀ S' : Nat → Int32, rh_Srt (fun x => x) S' m → List.Perm (rh_L S' m) L → ∃ n128 : Nat, wY_rebuild_128 post (nI c) (nI m) n128 0 K V S' lk lu) :
    ∀ (n i : Nat) (S : Nat → Int32), i ≤ 33 → m - i < n → rh_Srt (fun x => x) S i → List.Perm (rh_L S m) L → wY_rebuild_60 post (nI c) (nI m) n (nI i) K V S lk lu := by
  intro n
  induction n with
  | zero => intro i S _ h; omega
  | succ n ih =>
    intro i S h33 hn hS hP
    have e : (nI i).toNatClampNeg = i := nI_clamp (by omega)
    rw [wY_rebuild_60]
    dsimp only
    rw [e]
    by_cases z : m ≤ i
    · exact br_t (nI_le z (by omega)) (hend S (rh_Srt_mono hS z) hP)
    · have hin : vp_in (nI i) 32 := vp_in_nI (by omega) (by omega)
      refine br_f (nI_ge (by omega) (by omega)) ⟨hin, nm_e ⟨i + 1, ?_⟩⟩
      exact rh_y77 hm (fun S' s1 s2 => ih (i + 1) S' (by omega) (by omega) s1 s2) (i + 1) i S (by omega) (rh_H_start (by omega) hS hP)
theorem rh_y32 {post : SY → Prop} {c m : Nat} {K V lk lu : Nat → Int32} (hm : m ≤ 32)
    (hend : ∀ S' : Nat → Int32, rh_L S' m = rh_L K m → ∃ n60 : Nat, wY_rebuild_60 post (nI c) (nI m) n60 1 K V S' lk lu) :
    ∀ (n i : Nat) (S : Nat → Int32), i ≤ m → m - i < n → (∀ j, j < i → S j = K j) → wY_rebuild_32 post (nI c) (nI m) n (nI i) K V S lk lu := by
  intro n
  induction n with
  | zero => intro i S _ h; omega
  | succ n ih =>
    intro i S hi hn hS
    have e : (nI i).toNatClampNeg = i := nI_clamp (by omega)
    rw [wY_rebuild_32]
    dsimp only
    rw [e]
    by_cases z : i = m
    · subst z
      exact br_t (Int32.le_refl _) (hend S (rh_L_congr i hS))
    · have hin : vp_in (nI i) 32 := vp_in_nI (by omega) (by omega)
      refine br_f (nI_ge (by omega) (by omega)) ⟨hin, hin, nm_e (nm_r (nI_1 i) (ih (i + 1) _ (by omega) (by omega) ?_))⟩
      intro j hj
      by_cases w : j = i
      · subst w; exact pk_us
      · rw [pk_un w]; exact hS j (by omega)
theorem rh_y2 {post : SY → Prop} {c m : Nat} {K V S : Nat → Int32} (hc : c ≤ 32)
    (hend : ∃ n32 : Nat, wY_rebuild_32 post (nI c) (nI m) n32 0 K V S (fun _ => 0) (fun _ => 0)) :
    ∀ (n i : Nat) (lk lu : Nat → Int32), i ≤ c → c - i < n → (∀ j, j < i → lk j = 0 ∧ lu j = 0) → (∀ j, c ≤ j → lk j = 0 ∧ lu j = 0) → wY_rebuild_2 post (nI c) (nI m) n (nI i) K V S lk lu := by
  intro n
  induction n with
  | zero => intro i lk lu _ h; omega
  | succ n ih =>
    intro i lk lu hi hn h0 h1
    have e : (nI i).toNatClampNeg = i := nI_clamp (by omega)
    rw [wY_rebuild_2]
    dsimp only
    rw [e]
    by_cases z : i = c
    · subst z
      have hK : lk = fun _ => 0 := by
        funext j
        by_cases w : j < i
        · exact (h0 j w).1
        · exact (h1 j (by omega)).1
      have hU : lu = fun _ => 0 := by
        funext j
        by_cases w : j < i
        · exact (h0 j w).2
        · exact (h1 j (by omega)).2
      rw [hK, hU]
      exact br_t (Int32.le_refl _) hend
    · have hin : vp_in (nI i) 32 := vp_in_nI (by omega) (by omega)
      refine br_f (nI_ge (by omega) (by omega)) ⟨hin, nm_e ⟨hin, nm_e (nm_r (nI_1 i) (ih (i + 1) _ _ (by omega) (by omega) ?_ ?_))⟩⟩
      · intro j hj
        by_cases w : j = i
        · subst w; exact ⟨pk_us, pk_us⟩
        · rw [pk_un w, pk_un w]; exact h0 j (by omega)
      · intro j hj
        rw [pk_un (by omega), pk_un (by omega)]
        exact h1 j hj
theorem rh_yrebuild {c m : Nat} (hc : c ≤ 32) (hm : m ≤ c) {K V S lk lu : Nat → Int32} {post : SY → Prop} (h1 : ∀ j, c ≤ j → lk j = 0 ∧ lu j = 0)
    (h : ∀ (S' lk' lu' : Nat → Int32) (s : List Int32), List.Perm s (rh_L K m) → s.Pairwise (fun x y => x ≤ y) → (lk', lu') = rh_lay c s → post (nI c, nI m, K, V, S', lk', lu')) :
    wpY_rebuild post (nI c, nI m, K, V, S, lk, lu) := by
  unfold wpY_rebuild
  dsimp only
  refine ⟨c + 1, rh_y2 hc ⟨m + 1, ?_⟩ (c + 1) 0 lk lu (by omega) (by omega) lt_0 h1⟩
  refine rh_y32 (by omega) ?_ (m + 1) 0 S (by omega) (by omega) lt_0
  intro S1 hL
  refine ⟨m + 1, rh_y60 (by omega) (L := rh_L K m) ?_ (m + 1) 1 S1 (by omega) (by omega) (fun a b h1 h2 => by omega) (List.Perm.of_eq hL)⟩
  intro S2 hS hP
  refine ⟨m + 1, rh_y128 hc hm ?_ (m + 1) 0 (fun _ => 0) (fun _ => 0) (by omega) (by omega) rfl⟩
  intro lk' lu' e1
  exact h S2 lk' lu' (rh_L S2 m) hP (rh_Srt_pw hS) e1
end
section
/-! the relation's body, and what both sides' searches say under it -/
def rh_R (c n : Nat) (K V U bk bv lk lu : Nat → Int32) (s : List Int32) : Prop :=
  c ≤ 32 ∧ List.Perm (rh_F (rh_g K V U) c) (rh_L (fun i => (bk i, bv i)) n) ∧ (rh_L bk n).Nodup ∧ List.Perm s (rh_L bk n) ∧ s.Pairwise (fun x y => x ≤ y) ∧ (K, U) = rh_lay c s ∧ (∀ j, c ≤ j → lk j = 0 ∧ lu j = 0)
theorem rh_R_n {c n : Nat} {K V U bk bv lk lu : Nat → Int32} {s : List Int32} (R : rh_R c n K V U bk bv lk lu s) : n ≤ c := by
  have w := rh_F_len (rh_g K V U) c
  rw [R.2.1.length_eq, rh_L_len] at w
  exact w
theorem rh_R_G {c n : Nat} {K V U bk bv lk lu : Nat → Int32} {s : List Int32} (R : rh_R c n K V U bk bv lk lu s) : rh_G c n K U := by
  have hn := rh_R_n R
  have hl : s.length = n := by rw [R.2.2.2.1.length_eq, rh_L_len]
  have w := rh_lay_G R.1 (l := s) (by omega) R.2.2.2.2.2.1
  rw [hl] at w
  exact w
theorem rh_R_xy {c n : Nat} {K V U bk bv lk lu : Nat → Int32} {s : List Int32} (R : rh_R c n K V U bk bv lk lu s) {i : Nat} (hi : i < c) (hu : ¬ U i = 0) : ∃ j, j < n ∧ bk j = K i ∧ bv j = V i := by
  have m : (K i, V i) ∈ rh_F (rh_g K V U) c := rh_F_mem.mpr ⟨i, hi, if_neg hu⟩
  obtain ⟨j, hj, e⟩ := rh_L_mem.mp (R.2.1.mem_iff.mp m)
  exact ⟨j, hj, (Prod.mk.inj e).1, (Prod.mk.inj e).2⟩
theorem rh_R_yx {c n : Nat} {K V U bk bv lk lu : Nat → Int32} {s : List Int32} (R : rh_R c n K V U bk bv lk lu s) {j : Nat} (hj : j < n) : ∃ i, i < c ∧ ¬ U i = 0 ∧ K i = bk j := by
  have m : (bk j, bv j) ∈ rh_L (fun i => (bk i, bv i)) n := rh_L_mem.mpr ⟨j, hj, rfl⟩
  obtain ⟨i, hi, e⟩ := rh_F_mem.mp (R.2.1.mem_iff.mpr m)
  obtain ⟨h1, h2⟩ := rh_g_some e
  exact ⟨i, hi, h1, (Prod.mk.inj h2).1.symm⟩
theorem rh_least (P : Nat → Prop) : ∀ n : Nat, P n → ∃ k, k ≤ n ∧ P k ∧ ∀ j, j < k → ¬ P j := by
  intro n
  induction n using Nat.strongRecOn with
  | ind n ih =>
    intro h
    by_cases w : ∃ j, j < n ∧ P j
    · obtain ⟨j, hj, pj⟩ := w
      obtain ⟨k, h1, h2, h3⟩ := ih j hj pj
      exact ⟨k, by omega, h2, h3⟩
    · exact ⟨n, Nat.le_refl n, h, fun j hj pj => w ⟨j, hj, pj⟩⟩
theorem rh_find {c n : Nat} {K V U bk bv lk lu : Nat → Int32} {s : List Int32} (R : rh_R c n K V U bk bv lk lu s) (tk tv S : Nat → Int32) (key : Int32) :
    (∃ i j, i < c ∧ j < n ∧ ¬ U i = 0 ∧ K i = key ∧ bk j = key ∧ bv j = V i ∧ (∀ q, q < i → ¬ (¬ U q = 0 ∧ K q = key)) ∧
      (∀ post : Int32 → Prop, post (nI i) → wpX_find post (nI c, nI n, K, V, U, tk, tv) key) ∧ (∀ post : Int32 → Prop, post (nI j) → wpY_find post (nI c, nI n, bk, bv, S, lk, lu) key)) ∨
    ((∀ q, q < c → ¬ (¬ U q = 0 ∧ K q = key)) ∧ (∀ q, q < n → ¬ bk q = key) ∧
      (∀ post : Int32 → Prop, post (-1) → wpX_find post (nI c, nI n, K, V, U, tk, tv) key) ∧ (∀ post : Int32 → Prop, post (-1) → wpY_find post (nI c, nI n, bk, bv, S, lk, lu) key)) := by
  have hc := R.1
  have hn := rh_R_n R
  by_cases w : ∃ i, i < c ∧ ¬ U i = 0 ∧ K i = key
  · obtain ⟨i0, hi0, hit⟩ := w
    obtain ⟨i, hi, hp, hmin⟩ := rh_least (fun i => ¬ U i = 0 ∧ K i = key) i0 hit
    obtain ⟨j, hj, e1, e2⟩ := rh_R_xy R (by omega : i < c) hp.1
    have ej : bk j = key := e1.trans hp.2
    refine Or.inl ⟨i, j, by omega, hj, hp.1, hp.2, ej, e2, hmin, ?_, ?_⟩
    · intro post h
      refine rh_xfind hc ?_ ?_
      · intro i' hi' u' k' m'
        have : i' = i := by
          rcases Nat.lt_trichotomy i' i with a | a | a
          · exact absurd ⟨u', k'⟩ (hmin i' a)
          · exact a
          · exact absurd hp (m' i a)
        rw [this]
        exact h
      · intro m'
        exact absurd hp (m' i (by omega))
    · intro post h
      refine rh_yfind (by omega) ?_ ?_
      · intro j' hj' k'
        have : j' = j := rh_L_inj R.2.2.1 j' j hj' hj (k'.trans ej.symm)
        rw [this]
        exact h
      · intro m'
        exact absurd ej (m' j hj)
  · have hx : ∀ q, q < c → ¬ (¬ U q = 0 ∧ K q = key) := fun q hq hh => w ⟨q, hq, hh⟩
    have hy : ∀ q, q < n → ¬ bk q = key := by
      intro q hq e
      obtain ⟨i, hi, h1, h2⟩ := rh_R_yx R hq
      exact w ⟨i, hi, h1, h2.trans e⟩
    refine Or.inr ⟨hx, hy, ?_, ?_⟩
    · intro post h
      exact rh_xfind hc (fun i hi u k _ => absurd ⟨u, k⟩ (hx i hi)) (fun _ => h)
    · intro post h
      exact rh_yfind (by omega) (fun j hj k => absurd k (hy j hj)) (fun _ => h)
/-- Y's rebuild under the relation gives X's layout -/
theorem rh_yreb {c n : Nat} {K V U bk bv lk lu : Nat → Int32} {s : List Int32} (R : rh_R c n K V U bk bv lk lu s) {S : Nat → Int32} {post : SY → Prop}
    (h : ∀ S' : Nat → Int32, post (nI c, nI n, bk, bv, S', K, U)) : wpY_rebuild post (nI c, nI n, bk, bv, S, lk, lu) := by
  obtain ⟨hc, _, _, hs1, hs2, hlay, hz⟩ := id R
  refine rh_yrebuild hc (rh_R_n R) hz ?_
  intro S' lk' lu' s' p1 p2 p3
  have es : s' = s := rh_sort_uniq p2 hs2 (p1.trans hs1.symm)
  rw [es, ← hlay] at p3
  rw [(Prod.mk.inj p3).1, (Prod.mk.inj p3).2]
  exact h S'
theorem rh_R_reb {c n : Nat} {K V U bk bv lk lu : Nat → Int32} {s : List Int32} (R : rh_R c n K V U bk bv lk lu s) : rh_R c n K V U bk bv K U s := by
  have hG := rh_R_G R
  obtain ⟨h1, h2, h3, h4, h5, h6, _⟩ := R
  exact ⟨h1, h2, h3, h4, h5, h6, hG.1⟩
theorem rh_L_push {α : Type} (T : Nat → α) (n : Nat) (x : α) : rh_L (rh_u T n x) (n + 1) = rh_L T n ++ [x] := by
  rw [rh_L_s, rh_us, rh_L_congr (T' := T) n (fun j hj => rh_un (by omega))]
/-- a value changed on both sides -/
theorem rh_R_val {c n : Nat} {K V U bk bv lk lu : Nat → Int32} {s : List Int32} (R : rh_R c n K V U bk bv lk lu s) {i j : Nat} (hi : i < c) (hj : j < n) (hu : ¬ U i = 0) (e1 : bk j = K i) (e2 : bv j = V i) (x : Int32) :
    rh_R c n K (upd V i x) U bk (upd bv j x) lk lu s := by
  obtain ⟨h1, h2, h3, h4, h5, h6, h7⟩ := R
  refine ⟨h1, ?_, h3, h4, h5, h6, h7⟩
  have hb : (fun q => (bk q, upd bv j x q)) = rh_u (fun q => (bk q, bv q)) j (K i, x) := by
    rw [← rh_pr]
    funext q
    by_cases w : q = j
    · subst w
      rw [pk_us (f := bk), e1]
    · rw [pk_un (f := bk) w]
  have a1 := rh_F_swap (g := rh_g K V U) (y := (K i, V i)) (K i, x) hi (if_neg hu)
  have a2 := rh_L_swap (T := fun q => (bk q, bv q)) (K i, x) hj
  rw [← hb] at a2
  rw [← rh_g_val hu] at a1
  have e : (bk j, bv j) = (K i, V i) := by rw [e1, e2]
  have a2' : List.Perm ((bk j, bv j) :: rh_L (fun q => (bk q, upd bv j x q)) n) ((K i, x) :: rh_L (fun q => (bk q, bv q)) n) := a2
  rw [e] at a2'
  exact ((a1.trans (h2.cons _)).trans a2'.symm).cons_inv
/-- a new key on both sides -/
theorem rh_R_new {c n : Nat} {K V U bk bv lk lu : Nat → Int32} {s : List Int32} (R : rh_R c n K V U bk bv lk lu s) {key x : Int32} (hy : ∀ q, q < n → ¬ bk q = key) {i : Nat} (hi : i < c) (hu : U i = 0)
    {K' V' U' : Nat → Int32} {t : List Int32} (p1 : List.Perm t ((rh_F (rh_g (upd K i key) (upd V i x) (upd U i 1)) c).map Prod.fst)) (p2 : t.Pairwise (fun x y => x ≤ y)) (p3 : (K', U') = rh_lay c t)
    (p4 : List.Perm (rh_F (rh_g K' V' U') c) (rh_F (rh_g (upd K i key) (upd V i x) (upd U i 1)) c)) :
    rh_R c (n + 1) K' V' U' (upd bk n key) (upd bv n x) lk lu t := by
  obtain ⟨h1, h2, h3, h4, h5, h6, h7⟩ := R
  have a : List.Perm (rh_F (rh_g (upd K i key) (upd V i x) (upd U i 1)) c) (rh_L (fun q => (upd bk n key q, upd bv n x q)) (n + 1)) := by
    rw [rh_g_put, rh_pr, rh_L_push]
    exact (rh_F_set (key, x) hi (if_pos hu)).trans ((h2.cons _).trans (List.perm_append_singleton _ _).symm)
  refine ⟨h1, p4.trans a, ?_, ?_, p2, p3, h7⟩
  · show (rh_L (rh_u bk n key) (n + 1)).Nodup
    rw [rh_L_push]
    refine List.nodup_append.mpr ⟨h3, List.pairwise_singleton _ _, ?_⟩
    intro y m z hz
    obtain ⟨q, hq, e⟩ := rh_L_mem.mp m
    rw [List.mem_singleton.mp hz, ← e]
    exact hy q hq
  · have w := a.map Prod.fst
    rw [rh_L_map] at w
    exact p1.trans w
/-- a key removed on both sides -/
theorem rh_R_del {c n : Nat} {K V U bk bv lk lu : Nat → Int32} {s : List Int32} (R : rh_R c (n + 1) K V U bk bv lk lu s) {i j : Nat} (hi : i < c) (hj : j < n + 1) (hu : ¬ U i = 0) (e1 : bk j = K i) (e2 : bv j = V i)
    {K' V' U' : Nat → Int32} {t : List Int32} (p1 : List.Perm t ((rh_F (rh_g (upd K i 0) (upd V i 0) (upd U i 0)) c).map Prod.fst)) (p2 : t.Pairwise (fun x y => x ≤ y)) (p3 : (K', U') = rh_lay c t)
    (p4 : List.Perm (rh_F (rh_g K' V' U') c) (rh_F (rh_g (upd K i 0) (upd V i 0) (upd U i 0)) c)) :
    rh_R c n K' V' U' (upd bk j (bk n)) (upd bv j (bv n)) lk lu t := by
  obtain ⟨h1, h2, h3, h4, h5, h6, h7⟩ := R
  have a : List.Perm (rh_F (rh_g (upd K i 0) (upd V i 0) (upd U i 0)) c) (rh_L (fun q => (upd bk j (bk n) q, upd bv j (bv n) q)) n) := by
    rw [rh_g_del, rh_pr]
    have b1 := rh_F_del (g := rh_g K V U) (y := (K i, V i)) hi (if_neg hu)
    have b2 : List.Perm ((bk j, bv j) :: rh_L (rh_u (fun q => (bk q, bv q)) j (bk n, bv n)) n) (rh_L (fun q => (bk q, bv q)) (n + 1)) := rh_L_pop (T := fun q => (bk q, bv q)) hj
    have e : (bk j, bv j) = (K i, V i) := by rw [e1, e2]
    rw [e] at b2
    exact ((b1.symm.trans h2).trans b2.symm).cons_inv
  refine ⟨h1, p4.trans a, ?_, ?_, p2, p3, h7⟩
  · have b : List.Perm (bk j :: rh_L (upd bk j (bk n)) n) (rh_L bk (n + 1)) := rh_L_pop (T := bk) hj
    exact (List.nodup_cons.mp (b.symm.nodup h3)).2
  · have w := a.map Prod.fst
    rw [rh_L_map] at w
    exact p1.trans w
/-! loops of put, probeLen, maxProbe -/
theorem rh_xput35 {c z : Nat} (hc : c ≤ 32) (hz : z < c) {cnt k v : Int32} {K V U tk tv : Nat → Int32} (hU : U z = 0) {post : Int32 → SX → Prop}
    (h : ∀ i, i < c → U i = 0 → wX_put_87 post (nI c) cnt (upd K i k) (upd V i v) (upd U i 1) tk tv) :
    ∀ f i, i ≤ z → z - i < f → wX_put_35 post k v (nI c) cnt K V U tk tv f (nI i) := by
  intro f
  induction f with
  | zero => intro i _ h; omega
  | succ f ih =>
    intro i hi hf
    have e : (nI i).toNatClampNeg = i := nI_clamp (by omega)
    have hin : vp_in (nI i) 32 := vp_in_nI (by omega) (by omega)
    rw [wX_put_35]
    dsimp only
    rw [e]
    refine br_f (nI_ge (by omega) (by omega)) ⟨hin, ?_⟩
    by_cases w : U i = 0
    · exact br_t w ⟨hin, nm_e ⟨hin, nm_e ⟨hin, nm_e (h i (by omega) w)⟩⟩⟩
    · have : i ≠ z := fun e => w (by rw [e]; exact hU)
      exact br_f w (nm_r (nI_1 i) (ih (i + 1) (by omega) (by omega)))
theorem rh_yprobe {c n : Nat} (hc : c ≤ 32) {K U bk bv S : Nat → Int32} {key : Int32} {post : Int32 → SY → Prop}
    (hf : ∀ i, i < c → ¬ U i = 0 → K i = key → (∀ j, j < i → ¬ (¬ U j = 0 ∧ K j = key)) → post (rh_d c i key + 1) (nI c, nI n, bk, bv, S, K, U))
    (hn : (∀ j, j < c → ¬ (¬ U j = 0 ∧ K j = key)) → post 0 (nI c, nI n, bk, bv, S, K, U)) :
    ∀ f i, i ≤ c → c - i < f → (∀ j, j < i → ¬ (¬ U j = 0 ∧ K j = key)) → wY_probeLen_6 post key (nI c) (nI n) bk bv S K U f (nI i) := by
  intro f
  induction f with
  | zero => intro i _ h; omega
  | succ f ih =>
    intro i hi hm hj
    have e : (nI i).toNatClampNeg = i := nI_clamp (by omega)
    rw [wY_probeLen_6]
    dsimp only
    rw [e]
    by_cases z : i = c
    · exact br_t (nI_le (by omega) (by omega)) (hn (fun j h => hj j (by omega)))
    · have hin : vp_in (nI i) 32 := vp_in_nI (by omega) (by omega)
      refine br_f (nI_ge (by omega) (by omega)) ⟨hin, ?_⟩
      by_cases u : U i = 0
      · exact br_t u (nm_r (nI_1 i) (ih (i + 1) (by omega) (by omega) (lt_s hj (fun h => h.1 u))))
      · refine br_f u ⟨hin, ?_⟩
        by_cases w : K i = key
        · exact br_t w (rh_yfm (by omega) hc (rh_yfm (by omega) hc (hf i (by omega) u w hj)))
        · exact br_f w (nm_r (nI_1 i) (ih (i + 1) (by omega) (by omega) (lt_s hj (fun h => w h.2))))
theorem rh_mp {c : Nat} (hc : c ≤ 32) (cnt : Int32) (K V U tk tv bk bv : Nat → Int32) : ∀ (f i : Nat) (m : Int32), i ≤ c → c - i < f →
    ∃ r : Int32, (∀ post : Int32 → Prop, post r → wX_maxProbe_4 post (nI c) cnt K V U tk tv f m (nI i)) ∧
      (∀ (S : Nat → Int32) (post : Int32 → SY → Prop), post r (nI c, cnt, bk, bv, S, K, U) → wY_maxProbe_8 post (nI c) cnt bk bv S K U f m (nI i)) := by
  intro f
  induction f with
  | zero => intro i m _ h; omega
  | succ f ih =>
    intro i m hi hf
    have e : (nI i).toNatClampNeg = i := nI_clamp (by omega)
    by_cases z : i = c
    · refine ⟨m, ?_, ?_⟩
      · intro post h
        rw [wX_maxProbe_4]
        exact br_t (nI_le (by omega) (by omega)) h
      · intro S post h
        rw [wY_maxProbe_8]
        exact br_t (nI_le (by omega) (by omega)) h
    · have hin : vp_in (nI i) 32 := vp_in_nI (by omega) (by omega)
      have hge : ¬ nI c ≤ nI i := nI_ge (by omega) (by omega)
      by_cases u : U i = 0
      · obtain ⟨r, hX, hY⟩ := ih (i + 1) m (by omega) (by omega)
        refine ⟨r, ?_, ?_⟩
        · intro post h
          rw [wX_maxProbe_4]
          dsimp only
          rw [e]
          exact br_f hge ⟨hin, br_t u (nm_r (nI_1 i) (hX post h))⟩
        · intro S post h
          rw [wY_maxProbe_8]
          dsimp only
          rw [e]
          exact br_f hge ⟨hin, br_t u (nm_r (nI_1 i) (hY S post h))⟩
      · by_cases w : rh_d c i (K i) + 1 ≤ m
        · obtain ⟨r, hX, hY⟩ := ih (i + 1) m (by omega) (by omega)
          refine ⟨r, ?_, ?_⟩
          · intro post h
            rw [wX_maxProbe_4]
            dsimp only
            rw [e]
            exact br_f hge ⟨hin, br_f u (rh_xdisp hc (by omega) (nm_e (br_t w (nm_r (nI_1 i) (hX post h)))))⟩
          · intro S post h
            rw [wY_maxProbe_8]
            dsimp only
            rw [e]
            exact br_f hge ⟨hin, br_f u ⟨hin, rh_yfm (by omega) hc (rh_yfm (by omega) hc (nm_e (br_t w (nm_r (nI_1 i) (hY S post h)))))⟩⟩
        · obtain ⟨r, hX, hY⟩ := ih (i + 1) (rh_d c i (K i) + 1) (by omega) (by omega)
          refine ⟨r, ?_, ?_⟩
          · intro post h
            rw [wX_maxProbe_4]
            dsimp only
            rw [e]
            exact br_f hge ⟨hin, br_f u (rh_xdisp hc (by omega) (nm_e (br_f w (nm_r (nI_1 i) (hX post h)))))⟩
          · intro S post h
            rw [wY_maxProbe_8]
            dsimp only
            rw [e]
            exact br_f hge ⟨hin, br_f u ⟨hin, rh_yfm (by omega) hc (rh_yfm (by omega) hc (nm_e (br_f w (nm_r (nI_1 i) (hY S post h)))))⟩⟩
end
section
/-! what is owed -/
def i_Rel (k : Nat) (u : SX) (v : SY) : Prop := ∃ (c n : Nat) (K V U tk tv bk bv S lk lu : Nat → Int32) (s : List Int32), u = (nI c, nI n, K, V, U, tk, tv) ∧ v = (nI c, nI n, bk, bv, S, lk, lu) ∧ rh_R c n K V U bk bv lk lu s
theorem i_up {k : Nat} {u : SX} {v : SY} (h : i_Rel k u v) : i_Rel (k + 3) u v := h
theorem rh_in {k c n : Nat} {K V U tk tv bk bv S lk lu : Nat → Int32} {s : List Int32} (R : rh_R c n K V U bk bv lk lu s) : i_Rel k (nI c, nI n, K, V, U, tk, tv) (nI c, nI n, bk, bv, S, lk, lu) :=
  ⟨c, n, K, V, U, tk, tv, bk, bv, S, lk, lu, s, rfl, rfl, R⟩
theorem rh_R_0 {c : Nat} (hc : c ≤ 32) : rh_R c 0 (fun _ => 0) (fun _ => 0) (fun _ => 0) (fun _ => 0) (fun _ => 0) (fun _ => 0) (fun _ => 0) [] := by
  refine ⟨hc, ?_, List.Pairwise.nil, List.Perm.refl _, List.Pairwise.nil, rfl, fun _ _ => ⟨rfl, rfl⟩⟩
  rw [rh_F_zg]
  exact List.Perm.refl _
theorem i_vc0 (k0 : Int32) : wpX_init (fun u => wpY_init (fun v => i_Rel 1 u v) k0) k0 := by
  have h32 : (32 : Int32) = nI 32 := by decide
  have h00 : (0 : Int32) = nI 0 := by decide
  unfold wpX_init wpY_init wX_init_52 wY_init_12 wY_init_21
  by_cases h0 : 0 ≤ k0
  · refine br_t h0 ?_
    by_cases h : k0 ≤ 32
    · refine br_t h (br_t h0 (br_t h ?_))
      obtain ⟨j, hj, rfl⟩ := nI_of2 (M := 32) (n := 32) (by decide) (Int32.not_lt.mpr h0) h
      exact rh_in (n := 0) (rh_R_0 hj)
    · refine br_f h (br_t h0 (br_f h ?_))
      exact rh_in (c := 32) (n := 0) (rh_R_0 (by omega))
  · refine br_f h0 (br_t (by decide) (br_f h0 (br_t (by decide) ?_)))
    exact rh_in (c := 0) (n := 0) (rh_R_0 (by omega))
theorem i_vc_capacity {k : Nat} {u : SX} {v : SY} (I : i_Rel k u v) (hk : k + 3 ≤ 1537) : wpX_capacity (fun r => wpY_capacity (fun r' => r' = r ∧ i_Rel (k + 3) u v) v) u := by
  obtain ⟨c, n, K, V, U, tk, tv, bk, bv, S, lk, lu, s, rfl, rfl, R⟩ := I
  exact ⟨rfl, rh_in R⟩
theorem i_vc_size {k : Nat} {u : SX} {v : SY} (I : i_Rel k u v) (hk : k + 3 ≤ 1537) : wpX_size (fun r => wpY_size (fun r' => r' = r ∧ i_Rel (k + 3) u v) v) u := by
  obtain ⟨c, n, K, V, U, tk, tv, bk, bv, S, lk, lu, s, rfl, rfl, R⟩ := I
  exact ⟨rfl, rh_in R⟩
theorem i_vc_home {k : Nat} {u : SX} {v : SY} (I : i_Rel k u v) (hk : k + 3 ≤ 1537) (v1 : Int32) : wpX_home (fun r => wpY_home (fun r' => r' = r ∧ i_Rel (k + 3) u v) v v1) u v1 := by
  obtain ⟨c, n, K, V, U, tk, tv, bk, bv, S, lk, lu, s, rfl, rfl, R⟩ := I
  have hc := R.1
  by_cases h0 : c = 0
  · subst h0
    unfold wpX_home wpY_home
    dsimp only
    exact br_t rfl (br_t rfl ⟨rfl, rh_in R⟩)
  · refine rh_xhome (by omega) hc ?_
    unfold wpY_home
    dsimp only
    exact br_f (nI_ne0 (by omega) (by omega)) (rh_yfm (by omega) hc ⟨rfl, rh_in R⟩)
theorem i_vc_get {k : Nat} {u : SX} {v : SY} (I : i_Rel k u v) (hk : k + 3 ≤ 1537) (v1 : Int32) : wpX_get (fun r => wpY_get (fun r' => r' = r ∧ i_Rel (k + 3) u v) v v1) u v1 := by
  obtain ⟨c, n, K, V, U, tk, tv, bk, bv, S, lk, lu, s, rfl, rfl, R⟩ := I
  have hc := R.1
  have hn := rh_R_n R
  unfold wpX_get wpY_get
  dsimp only
  rcases rh_find R tk tv S v1 with ⟨i, j, hi, hj, hu, hki, hbk, hbv, hmin, hX, hY⟩ | ⟨hx, hy, hX, hY⟩
  · refine hX _ (br_t (nI_pos' (by omega)) ⟨vp_in_nI (by omega) (by omega), hY _ (br_t (nI_pos' (by omega)) ⟨vp_in_nI (by omega) (by omega), ?_, rh_in R⟩)⟩)
    rw [nI_clamp (by omega), nI_clamp (by omega)]
    exact hbv
  · exact hX _ (br_f (by decide) (hY _ (br_f (by decide) ⟨rfl, rh_in R⟩)))
theorem i_vc_has {k : Nat} {u : SX} {v : SY} (I : i_Rel k u v) (hk : k + 3 ≤ 1537) (v1 : Int32) : wpX_has (fun r => wpY_has (fun r' => r' = r ∧ i_Rel (k + 3) u v) v v1) u v1 := by
  obtain ⟨c, n, K, V, U, tk, tv, bk, bv, S, lk, lu, s, rfl, rfl, R⟩ := I
  have hc := R.1
  have hn := rh_R_n R
  unfold wpX_has wpY_has
  dsimp only
  rcases rh_find R tk tv S v1 with ⟨i, j, hi, hj, hu, hki, hbk, hbv, hmin, hX, hY⟩ | ⟨hx, hy, hX, hY⟩
  · exact hX _ (br_f (nI_pos (by omega)) (hY _ (br_f (nI_pos (by omega)) ⟨rfl, rh_in R⟩)))
  · exact hX _ (br_t (by decide) (hY _ (br_t (by decide) ⟨rfl, rh_in R⟩)))
theorem i_vc_put {k : Nat} {u : SX} {v : SY} (I : i_Rel k u v) (hk : k + 3 ≤ 1537) (v1 : Int32) (v2 : Int32) : wpX_put (fun r u' => wpY_put (fun r' v' => r' = r ∧ i_Rel (k + 3) u' v') v v1 v2) u v1 v2 := by
  obtain ⟨c, n, K, V, U, tk, tv, bk, bv, S, lk, lu, s, rfl, rfl, R⟩ := I
  have hc := R.1
  have hn := rh_R_n R
  unfold wpX_put wpY_put
  dsimp only
  rcases rh_find R tk tv S v1 with ⟨i, j, hi, hj, hu, hki, hbk, hbv, hmin, hX, hY⟩ | ⟨hx, hy, hX, hY⟩
  · have ei : (nI i).toNatClampNeg = i := nI_clamp (by omega)
    have ej : (nI j).toNatClampNeg = j := nI_clamp (by omega)
    refine hX _ (br_f (nI_pos (by omega)) ⟨vp_in_nI (by omega) (by omega), nm_e (hY _ (br_f (nI_pos (by omega)) ⟨vp_in_nI (by omega) (by omega), nm_e ⟨rfl, ?_⟩⟩))⟩)
    rw [ei, ej]
    exact rh_in (rh_R_val R hi hj hu (hbk.trans hki.symm) hbv v2)
  · refine hX _ (br_t (by decide) ?_)
    by_cases hf : n < c
    · have hG := rh_R_G R
      have en : (nI n).toNatClampNeg = n := nI_clamp (by omega)
      obtain ⟨z, hz, hU⟩ := rh_G_room hG hf
      refine br_t (nI_lt hf (by omega)) ⟨z + 1, rh_xput35 hc hz hU ?_ (z + 1) 0 (by omega) (by omega)⟩
      intro i hi hu
      unfold wX_put_87
      refine nm_r (nI_1 n) (rh_xrebuild hc ?_ ?_)
      · intro j hj
        rw [pk_un (by omega), pk_un (by omega)]
        exact hG.1 j hj
      · intro K' V' U' tk' tv' t p1 p2 p3 p4
        refine hY _ (br_t (by decide) (br_t (nI_lt hf (by omega)) ⟨vp_in_nI (by omega) (by omega), nm_e ⟨vp_in_nI (by omega) (by omega), nm_e (nm_r (nI_1 n) ⟨rfl, ?_⟩)⟩⟩))
        rw [en]
        exact rh_in (rh_R_new R hy hi hu p1 p2 p3 p4)
    · exact br_f (nI_nlt (by omega) (by omega)) (hY _ (br_t (by decide) (br_f (nI_nlt (by omega) (by omega)) ⟨rfl, rh_in R⟩)))
theorem i_vc_remove {k : Nat} {u : SX} {v : SY} (I : i_Rel k u v) (hk : k + 3 ≤ 1537) (v1 : Int32) : wpX_remove (fun r u' => wpY_remove (fun r' v' => r' = r ∧ i_Rel (k + 3) u' v') v v1) u v1 := by
  obtain ⟨c, n, K, V, U, tk, tv, bk, bv, S, lk, lu, s, rfl, rfl, R⟩ := I
  have hc := R.1
  have hn := rh_R_n R
  unfold wpX_remove wpY_remove
  dsimp only
  rcases rh_find R tk tv S v1 with ⟨i, j, hi, hj, hu, hki, hbk, hbv, hmin, hX, hY⟩ | ⟨hx, hy, hX, hY⟩
  · have ei : (nI i).toNatClampNeg = i := nI_clamp (by omega)
    have ej : (nI j).toNatClampNeg = j := nI_clamp (by omega)
    have hi32 : vp_in (nI i) 32 := vp_in_nI (by omega) (by omega)
    have hj32 : vp_in (nI j) 32 := vp_in_nI (by omega) (by omega)
    have hG := rh_R_G R
    obtain ⟨n, rfl⟩ : ∃ q, n = q + 1 := ⟨n - 1, by omega⟩
    have en : (nI n).toNatClampNeg = n := nI_clamp (by omega)
    have hn32 : vp_in (nI n) 32 := vp_in_nI (by omega) (by omega)
    refine hX _ (br_t (nI_pos' (by omega)) ?_)
    rw [ei]
    refine ⟨hi32, nm_r (e' := upd U i 0) rfl ⟨hi32, nm_e ⟨hi32, nm_e (nm_r (nI_pred n) (rh_xrebuild hc ?_ ?_))⟩⟩⟩
    · intro q hq
      rw [pk_un (by omega), pk_un (by omega)]
      exact hG.1 q hq
    · intro K' V' U' tk' tv' t p1 p2 p3 p4
      refine hY _ (br_t (nI_pos' (by omega)) (nm_r (nI_pred n) ⟨hn32, hj32, nm_e ⟨hn32, hj32, nm_e ⟨rfl, ?_⟩⟩⟩))
      rw [ej, en]
      exact rh_in (rh_R_del R hi hj hu (hbk.trans hki.symm) hbv p1 p2 p3 p4)
  · exact hX _ (br_f (by decide) (hY _ (br_f (by decide) ⟨rfl, rh_in R⟩)))
theorem rh_nlt {c : Nat} {x : Int32} (hc : c ≤ 32) (h : nI c ≤ x) : ¬ x < 0 ∧ ¬ x < nI c :=
  ⟨Int32.not_lt.mpr (Int32.le_trans (nI_pos' (by omega)) h), Int32.not_lt.mpr h⟩
theorem i_vc_slotKey {k : Nat} {u : SX} {v : SY} (I : i_Rel k u v) (hk : k + 3 ≤ 1537) (v1 : Int32) : wpX_slotKey (fun r => wpY_slotKey (fun r' v' => r' = r ∧ i_Rel (k + 3) u v') v v1) u v1 := by
  obtain ⟨c, n, K, V, U, tk, tv, bk, bv, S, lk, lu, s, rfl, rfl, R⟩ := I
  have hc := R.1
  unfold wpX_slotKey wpY_slotKey
  dsimp only
  rcases pk_ix v1 (n := c) (by omega) with h | h | ⟨j, hj, rfl⟩
  · exact br_t h (br_t h ⟨rfl, rh_in R⟩)
  · obtain ⟨a, b⟩ := rh_nlt hc h
    exact br_f a (br_f b (br_f a (br_f b ⟨rfl, rh_in R⟩)))
  · have ej : (nI j).toNatClampNeg = j := nI_clamp (by omega)
    have hin : vp_in (nI j) 32 := vp_in_nI (by omega) (by omega)
    have h0 : ¬ nI j < 0 := nI_pos (by omega)
    have h1 : nI j < nI c := nI_lt hj (by omega)
    rw [ej]
    refine br_f h0 (br_t h1 ⟨hin, ?_⟩)
    by_cases w : U j = 0
    · exact br_t w (br_f h0 (br_t h1 (rh_yreb R (fun S' => ⟨hin, br_t w ⟨rfl, rh_in (rh_R_reb R)⟩⟩))))
    · exact br_f w ⟨hin, br_f h0 (br_t h1 (rh_yreb R (fun S' => ⟨hin, br_f w ⟨hin, rfl, rh_in (rh_R_reb R)⟩⟩)))⟩
theorem i_vc_slotUsed {k : Nat} {u : SX} {v : SY} (I : i_Rel k u v) (hk : k + 3 ≤ 1537) (v1 : Int32) : wpX_slotUsed (fun r => wpY_slotUsed (fun r' v' => r' = r ∧ i_Rel (k + 3) u v') v v1) u v1 := by
  obtain ⟨c, n, K, V, U, tk, tv, bk, bv, S, lk, lu, s, rfl, rfl, R⟩ := I
  have hc := R.1
  unfold wpX_slotUsed wpY_slotUsed
  dsimp only
  rcases pk_ix v1 (n := c) (by omega) with h | h | ⟨j, hj, rfl⟩
  · exact br_t h (br_t h ⟨rfl, rh_in R⟩)
  · obtain ⟨a, b⟩ := rh_nlt hc h
    exact br_f a (br_f b (br_f a (br_f b ⟨rfl, rh_in R⟩)))
  · have ej : (nI j).toNatClampNeg = j := nI_clamp (by omega)
    have hin : vp_in (nI j) 32 := vp_in_nI (by omega) (by omega)
    have h0 : ¬ nI j < 0 := nI_pos (by omega)
    have h1 : nI j < nI c := nI_lt hj (by omega)
    have hnar : narrow .boolean (.int (U j)) = .int (U j) := by
      rcases (rh_R_G R).2.1 j with w | w
      · rw [w]; rfl
      · rw [w]; rfl
    rw [ej]
    refine br_f h0 (br_t h1 ⟨hin, hnar, br_f h0 (br_t h1 (rh_yreb R (fun S' => ⟨hin, br_c (fun w => ?_) (fun w => ?_)⟩)))⟩)
    · exact ⟨w.symm, rh_in (rh_R_reb R)⟩
    · rcases (rh_R_G R).2.1 j with y | y
      · exact absurd y w
      · exact ⟨y.symm, rh_in (rh_R_reb R)⟩
theorem i_vc_probeLen {k : Nat} {u : SX} {v : SY} (I : i_Rel k u v) (hk : k + 3 ≤ 1537) (v1 : Int32) : wpX_probeLen (fun r => wpY_probeLen (fun r' v' => r' = r ∧ i_Rel (k + 3) u v') v v1) u v1 := by
  obtain ⟨c, n, K, V, U, tk, tv, bk, bv, S, lk, lu, s, rfl, rfl, R⟩ := I
  have hc := R.1
  unfold wpX_probeLen wpY_probeLen
  dsimp only
  rcases rh_find R tk tv S v1 with ⟨i, j, hi, hj, hu, hki, hbk, hbv, hmin, hX, hY⟩ | ⟨hx, hy, hX, hY⟩
  · refine hX _ (br_t (nI_pos' (by omega)) (rh_xdisp hc hi (rh_yreb R (fun S' => ⟨c + 1, rh_yprobe hc ?_ ?_ (c + 1) 0 (by omega) (by omega) lt_0⟩))))
    · intro i' hi' u' k' m'
      have : i' = i := by
        rcases Nat.lt_trichotomy i' i with a | a | a
        · exact absurd ⟨u', k'⟩ (hmin i' a)
        · exact a
        · exact absurd ⟨hu, hki⟩ (m' i a)
      rw [this, hki]
      exact ⟨rfl, rh_in (rh_R_reb R)⟩
    · intro m'
      exact absurd ⟨hu, hki⟩ (m' i hi)
  · refine hX _ (br_f (by decide) (rh_yreb R (fun S' => ⟨c + 1, rh_yprobe hc ?_ ?_ (c + 1) 0 (by omega) (by omega) lt_0⟩)))
    · intro i' hi' u' k' m'
      exact absurd ⟨u', k'⟩ (hx i' hi')
    · intro _
      exact ⟨rfl, rh_in (rh_R_reb R)⟩
theorem i_vc_maxProbe {k : Nat} {u : SX} {v : SY} (I : i_Rel k u v) (hk : k + 3 ≤ 1537) : wpX_maxProbe (fun r => wpY_maxProbe (fun r' v' => r' = r ∧ i_Rel (k + 3) u v') v) u := by
  obtain ⟨c, n, K, V, U, tk, tv, bk, bv, S, lk, lu, s, rfl, rfl, R⟩ := I
  have hc := R.1
  unfold wpX_maxProbe wpY_maxProbe
  dsimp only
  obtain ⟨r, hX, hY⟩ := rh_mp hc (nI n) K V U tk tv bk bv (c + 1) 0 0 (by omega) (by omega)
  exact ⟨c + 1, hX _ (rh_yreb R (fun S' => ⟨c + 1, hY S' _ ⟨rfl, rh_in (rh_R_reb R)⟩⟩))⟩
end
