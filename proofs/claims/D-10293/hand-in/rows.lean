section
/-! The pure picture: eight Kahn processes. A process: its stream, how many items it has read of both inputs, its sum. -/
abbrev pn_L : Type := List Int32 × Nat × Nat × Int32
/-- one step of a process of kind k and number a that sees ox, oy at its reading places; none: it can't go on -/
def pn_st (k a : Int32) (ox oy : Option Int32) (l : pn_L) : Option pn_L :=
  if 40 ≤ l.1.length then none
  else if k = 0 then some (l.1 ++ [a + nI l.1.length], l.2.1, l.2.2.1, l.2.2.2)
  else if k = 1 then (if 5 ≤ l.1.length then none else some (l.1 ++ [a * (2 * nI l.1.length + 1)], l.2.1, l.2.2.1, l.2.2.2))
  else if k = 2 then (match ox, oy with
    | some x, some y => some (l.1 ++ [x + y], l.2.1 + 1, l.2.2.1 + 1, l.2.2.2)
    | _, _ => none)
  else if k = 3 then (if l.1.length % 2 = 0 then (match ox with
      | some x => some (l.1 ++ [x], l.2.1 + 1, l.2.2.1, l.2.2.2)
      | none => none)
    else (match oy with
      | some y => some (l.1 ++ [y], l.2.1, l.2.2.1 + 1, l.2.2.2)
      | none => none))
  else if k = 4 then (match ox with
    | some x => some (if x &&& 1 = 1 then l.1 ++ [x] else l.1, l.2.1 + 1, l.2.2.1, l.2.2.2)
    | none => none)
  else if k = 5 then (if l.1.length = 0 then some (l.1 ++ [a], l.2.1, l.2.2.1, l.2.2.2) else (match ox with
      | some x => some (l.1 ++ [x], l.2.1 + 1, l.2.2.1, l.2.2.2)
      | none => none))
  else if k = 6 then (match ox, oy with
    | some x, some y => (if y < x then some (l.1 ++ [y], l.2.1, l.2.2.1 + 1, l.2.2.2) else some (l.1 ++ [x], l.2.1 + 1, l.2.2.1, l.2.2.2))
    | _, _ => none)
  else (match ox with
    | some x => some (l.1 ++ [l.2.2.2 + x], l.2.1 + 1, l.2.2.1, l.2.2.2 + x)
    | none => none)
/-- more to see changes nothing of a step that was possible -/
theorem pn_mono {k a : Int32} {ox oy ox' oy' : Option Int32} {l l' : pn_L} (hx : ∀ v, ox = some v → ox' = some v) (hy : ∀ v, oy = some v → oy' = some v) (h : pn_st k a ox oy l = some l') : pn_st k a ox' oy' l = some l' := by
  rcases ox with _ | x <;> rcases oy with _ | y
  · unfold pn_st at h ⊢
    repeat' split at h
    all_goals first | contradiction | simp_all
  · rw [hy y rfl]
    unfold pn_st at h ⊢
    repeat' split at h
    all_goals first | contradiction | simp_all
  · rw [hx x rfl]
    unfold pn_st at h ⊢
    repeat' split at h
    all_goals first | contradiction | simp_all
  · rw [hx x rfl, hy y rfl]
    exact h
/-- what a step does, in general -/
theorem pn_shape {k a : Int32} {ox oy : Option Int32} {l l' : pn_L} (h : pn_st k a ox oy l = some l') : l.1.length < 40 ∧ ∃ (e : List Int32) (i j : Nat) (t : Int32), l' = (l.1 ++ e, l.2.1 + i, l.2.2.1 + j, t) ∧ e.length ≤ 1 ∧ 1 ≤ e.length + i ∧ (i = 0 ∨ (i = 1 ∧ ∃ v, ox = some v)) ∧ (j = 0 ∨ (j = 1 ∧ ∃ v, oy = some v)) := by
  unfold pn_st at h
  by_cases h40 : 40 ≤ l.1.length
  · rw [if_pos h40] at h
    exact absurd h (by simp)
  · refine ⟨by omega, ?_⟩
    rw [if_neg h40] at h
    rcases ox with _ | u <;> rcases oy with _ | v <;> (try dsimp only at h) <;> (repeat' split at h) <;> first
      | contradiction
      | (obtain rfl := Option.some.inj h
         first
           | exact ⟨_, 0, 0, _, rfl, by simp, by simp, Or.inl rfl, Or.inl rfl⟩
           | exact ⟨_, 1, 0, _, rfl, by simp, by simp, Or.inr ⟨rfl, _, rfl⟩, Or.inl rfl⟩
           | exact ⟨_, 0, 1, _, rfl, by simp, by simp, Or.inl rfl, Or.inr ⟨rfl, _, rfl⟩⟩
           | exact ⟨_, 1, 1, _, rfl, by simp, by simp, Or.inr ⟨rfl, _, rfl⟩, Or.inr ⟨rfl, _, rfl⟩⟩
           | exact ⟨[], 1, 0, l.2.2.2, (by rw [List.append_nil]; rfl), by simp, by simp, Or.inr ⟨rfl, _, rfl⟩, Or.inl rfl⟩)
/-- the whole: a step of process p -/
def pn_go (k x y a : Nat → Int32) (σ : Nat → pn_L) (p : Nat) : Option pn_L :=
  pn_st (k p) (a p) ((σ (x p).toNatClampNeg).1[(σ p).2.1]?) ((σ (y p).toNatClampNeg).1[(σ p).2.2.1]?) (σ p)
def pn_up (σ : Nat → pn_L) (p : Nat) (l : pn_L) : Nat → pn_L := fun j => if j = p then l else σ j
theorem pn_us {σ : Nat → pn_L} {p : Nat} {l : pn_L} : pn_up σ p l p = l := by
  unfold pn_up
  rw [if_pos rfl]
theorem pn_un {σ : Nat → pn_L} {p j : Nat} {l : pn_L} (h : j ≠ p) : pn_up σ p l j = σ j := by
  unfold pn_up
  rw [if_neg h]
theorem pn_comm {σ : Nat → pn_L} {p q : Nat} {l m : pn_L} (h : p ≠ q) : pn_up (pn_up σ p l) q m = pn_up (pn_up σ q m) p l := by
  funext j
  unfold pn_up
  by_cases e : j = p
  · have : j ≠ q := fun z => h (e.symm.trans z)
    rw [if_neg this, if_pos e, if_pos e]
  · rw [if_neg e]
    by_cases e' : j = q
    · rw [if_pos e', if_neg e]
    · rw [if_neg e', if_neg e]
theorem pn_get {s e : List Int32} {i : Nat} {v : Int32} (h : s[i]? = some v) : (s ++ e)[i]? = some v := by
  obtain ⟨hl, _⟩ := List.getElem?_eq_some_iff.mp h
  rw [List.getElem?_append_left hl]
  exact h
/-- streams only grow -/
theorem pn_ext {k x y a : Nat → Int32} {σ : Nat → pn_L} {p : Nat} {l : pn_L} (h : pn_go k x y a σ p = some l) (j : Nat) : ∃ e, (pn_up σ p l j).1 = (σ j).1 ++ e := by
  by_cases e : j = p
  · rw [e, pn_us]
    obtain ⟨_, e, i, j, t, hl, _⟩ := pn_shape h
    exact ⟨e, by rw [hl]⟩
  · rw [pn_un e]
    exact ⟨[], by simp⟩
theorem pn_dia {k x y a : Nat → Int32} {σ : Nat → pn_L} {p q : Nat} {l m : pn_L} (hp : pn_go k x y a σ p = some l) (hq : pn_go k x y a σ q = some m) (h : q ≠ p) : pn_go k x y a (pn_up σ p l) q = some m := by
  unfold pn_go at hq ⊢
  rw [pn_un h]
  refine pn_mono (fun v hv => ?_) (fun v hv => ?_) hq
  · obtain ⟨e, he⟩ := pn_ext hp (x q).toNatClampNeg
    rw [he]
    exact pn_get hv
  · obtain ⟨e, he⟩ := pn_ext hp (y q).toNatClampNeg
    rw [he]
    exact pn_get hv
/-- n steps lead from σ to τ -/
def pn_rn (k x y a : Nat → Int32) : Nat → (Nat → pn_L) → (Nat → pn_L) → Prop
  | 0 => fun σ τ => σ = τ
  | n + 1 => fun σ τ => ∃ p l, p < 8 ∧ pn_go k x y a σ p = some l ∧ pn_rn k x y a n (pn_up σ p l) τ
theorem pn_rn_add {k x y a : Nat → Int32} {p : Nat} {l : pn_L} (hp : p < 8) : ∀ (n : Nat) (σ τ : Nat → pn_L), pn_rn k x y a n σ τ → pn_go k x y a τ p = some l → pn_rn k x y a (n + 1) σ (pn_up τ p l) := by
  intro n
  induction n with
  | zero =>
    intro σ τ h g
    have h' : σ = τ := h
    subst h'
    exact ⟨p, l, hp, g, rfl⟩
  | succ n ih =>
    intro σ τ h g
    obtain ⟨q, m, hq, gq, r⟩ := h
    exact ⟨q, m, hq, gq, ih _ _ r g⟩
/-- nobody can go on -/
def pn_nf (k x y a : Nat → Int32) (σ : Nat → pn_L) : Prop := ∀ p, p < 8 → pn_go k x y a σ p = none
theorem pn_strip {k x y a : Nat → Int32} {τ : Nat → pn_L} (hτ : pn_nf k x y a τ) {p : Nat} (hp : p < 8) : ∀ (n : Nat) (σ : Nat → pn_L) (l : pn_L), pn_rn k x y a n σ τ → pn_go k x y a σ p = some l → ∃ m, n = m + 1 ∧ pn_rn k x y a m (pn_up σ p l) τ := by
  intro n
  induction n with
  | zero =>
    intro σ l h g
    have h' : σ = τ := h
    rw [h', hτ p hp] at g
    exact absurd g (by simp)
  | succ n ih =>
    intro σ l h g
    obtain ⟨q, m, hq, gq, r⟩ := h
    by_cases e : p = q
    · subst e
      rw [gq] at g
      cases g
      exact ⟨n, rfl, r⟩
    · obtain ⟨n', hn, r'⟩ := ih _ l r (pn_dia gq g e)
      refine ⟨n' + 1, by rw [hn], q, m, hq, pn_dia g gq (fun z => e z.symm), ?_⟩
      rw [pn_comm e]
      exact r'
theorem pn_conf {k x y a : Nat → Int32} {τ ρ : Nat → pn_L} (hτ : pn_nf k x y a τ) : ∀ (m n : Nat) (σ : Nat → pn_L), pn_rn k x y a n σ τ → pn_rn k x y a m σ ρ → ∃ j, pn_rn k x y a j ρ τ := by
  intro m
  induction m with
  | zero =>
    intro n σ h g
    have g' : σ = ρ := g
    rw [g'] at h
    exact ⟨n, h⟩
  | succ m ih =>
    intro n σ h g
    obtain ⟨p, l, hp, gp, r⟩ := g
    obtain ⟨n', _, r'⟩ := pn_strip hτ hp n σ l h gp
    exact ih n' _ r' r
/-- all streams empty -/
def pn_0 : Nat → pn_L := fun _ => ([], 0, 0, 0)
def pn_R (k x y a : Nat → Int32) (σ : Nat → pn_L) : Prop := ∃ n, pn_rn k x y a n pn_0 σ
/-- a final state: reached, and nobody can go on -/
def pn_F (k x y a : Nat → Int32) (σ : Nat → pn_L) : Prop := pn_R k x y a σ ∧ pn_nf k x y a σ
theorem pn_uniq {k x y a : Nat → Int32} {σ τ : Nat → pn_L} (h : pn_F k x y a σ) (g : pn_F k x y a τ) : σ = τ := by
  obtain ⟨⟨n, hn⟩, hs⟩ := h
  obtain ⟨⟨m, hm⟩, ht⟩ := g
  obtain ⟨j, hj⟩ := pn_conf ht n m pn_0 hm hn
  rcases j with _ | j
  · exact hj
  · obtain ⟨p, l, hp, gp, _⟩ := hj
    rw [hs p hp] at gp
    exact absurd gp (by simp)
theorem pn_R_0 {k x y a : Nat → Int32} : pn_R k x y a pn_0 := ⟨0, rfl⟩
theorem pn_R_s {k x y a : Nat → Int32} {σ : Nat → pn_L} {p : Nat} {l : pn_L} (h : pn_R k x y a σ) (hp : p < 8) (g : pn_go k x y a σ p = some l) : pn_R k x y a (pn_up σ p l) := by
  obtain ⟨n, hn⟩ := h
  exact ⟨n + 1, pn_rn_add hp n _ _ hn g⟩
/-- what holds at the start and is kept by every step holds of whatever is reached -/
theorem pn_R_ind {k x y a : Nat → Int32} (P : (Nat → pn_L) → Prop) (h0 : P pn_0) (hs : ∀ σ p l, P σ → p < 8 → pn_go k x y a σ p = some l → P (pn_up σ p l)) {σ : Nat → pn_L} (h : pn_R k x y a σ) : P σ := by
  have main : ∀ (n : Nat) (σ τ : Nat → pn_L), P σ → pn_rn k x y a n σ τ → P τ := by
    intro n
    induction n with
    | zero =>
      intro σ τ h g
      have g' : σ = τ := g
      rw [← g']
      exact h
    | succ n ih =>
      intro σ τ h g
      obtain ⟨p, l, hp, gp, r⟩ := g
      exact ih _ _ (hs σ p l h hp gp) r
  obtain ⟨n, hn⟩ := h
  exact main n _ _ h0 hn
end
section
/-! Steps by kind, and what they keep. -/
theorem pn_st_40 {k a : Int32} {ox oy : Option Int32} {l : pn_L} (h : 40 ≤ l.1.length) : pn_st k a ox oy l = none := by
  unfold pn_st
  rw [if_pos h]
theorem pn_st_0 {a : Int32} {ox oy : Option Int32} {l : pn_L} (h : l.1.length < 40) : pn_st 0 a ox oy l = some (l.1 ++ [a + nI l.1.length], l.2.1, l.2.2.1, l.2.2.2) := by
  unfold pn_st
  rw [if_neg (by omega), if_pos rfl]
theorem pn_st_1 {a : Int32} {ox oy : Option Int32} {l : pn_L} (h : l.1.length < 5) : pn_st 1 a ox oy l = some (l.1 ++ [a * (2 * nI l.1.length + 1)], l.2.1, l.2.2.1, l.2.2.2) := by
  unfold pn_st
  rw [if_neg (by omega), if_neg (by decide), if_pos rfl, if_neg (by omega)]
theorem pn_st_1n {a : Int32} {ox oy : Option Int32} {l : pn_L} (h : 5 ≤ l.1.length) : pn_st 1 a ox oy l = none := by
  unfold pn_st
  by_cases h40 : 40 ≤ l.1.length
  · rw [if_pos h40]
  · rw [if_neg h40, if_neg (by decide), if_pos rfl, if_pos h]
theorem pn_st_2 {a u v : Int32} {l : pn_L} (h : l.1.length < 40) : pn_st 2 a (some u) (some v) l = some (l.1 ++ [u + v], l.2.1 + 1, l.2.2.1 + 1, l.2.2.2) := by
  unfold pn_st
  rw [if_neg (by omega), if_neg (by decide), if_neg (by decide), if_pos rfl]
theorem pn_st_2x {a : Int32} {oy : Option Int32} {l : pn_L} : pn_st 2 a none oy l = none := by
  unfold pn_st
  by_cases h40 : 40 ≤ l.1.length
  · rw [if_pos h40]
  · rw [if_neg h40, if_neg (by decide), if_neg (by decide), if_pos rfl]
theorem pn_st_2y {a : Int32} {ox : Option Int32} {l : pn_L} : pn_st 2 a ox none l = none := by
  unfold pn_st
  by_cases h40 : 40 ≤ l.1.length
  · rw [if_pos h40]
  · rw [if_neg h40, if_neg (by decide), if_neg (by decide), if_pos rfl]
    cases ox <;> rfl
theorem pn_st_3 {a u : Int32} {oy : Option Int32} {l : pn_L} (h : l.1.length < 40) (e : l.1.length % 2 = 0) : pn_st 3 a (some u) oy l = some (l.1 ++ [u], l.2.1 + 1, l.2.2.1, l.2.2.2) := by
  unfold pn_st
  rw [if_neg (by omega), if_neg (by decide), if_neg (by decide), if_neg (by decide), if_pos rfl, if_pos e]
theorem pn_st_3o {a v : Int32} {ox : Option Int32} {l : pn_L} (h : l.1.length < 40) (e : ¬ l.1.length % 2 = 0) : pn_st 3 a ox (some v) l = some (l.1 ++ [v], l.2.1, l.2.2.1 + 1, l.2.2.2) := by
  unfold pn_st
  rw [if_neg (by omega), if_neg (by decide), if_neg (by decide), if_neg (by decide), if_pos rfl, if_neg e]
theorem pn_st_3x {a : Int32} {oy : Option Int32} {l : pn_L} (h : l.1.length < 40) (e : l.1.length % 2 = 0) : pn_st 3 a none oy l = none := by
  unfold pn_st
  rw [if_neg (by omega), if_neg (by decide), if_neg (by decide), if_neg (by decide), if_pos rfl, if_pos e]
theorem pn_st_3y {a : Int32} {ox : Option Int32} {l : pn_L} (h : l.1.length < 40) (e : ¬ l.1.length % 2 = 0) : pn_st 3 a ox none l = none := by
  unfold pn_st
  rw [if_neg (by omega), if_neg (by decide), if_neg (by decide), if_neg (by decide), if_pos rfl, if_neg e]
theorem pn_st_4 {a u : Int32} {oy : Option Int32} {l : pn_L} (h : l.1.length < 40) (e : u &&& 1 = 1) : pn_st 4 a (some u) oy l = some (l.1 ++ [u], l.2.1 + 1, l.2.2.1, l.2.2.2) := by
  unfold pn_st
  rw [if_neg (by omega), if_neg (by decide), if_neg (by decide), if_neg (by decide), if_neg (by decide), if_pos rfl]
  dsimp only
  rw [if_pos e]
theorem pn_st_4e {a u : Int32} {oy : Option Int32} {l : pn_L} (h : l.1.length < 40) (e : ¬ u &&& 1 = 1) : pn_st 4 a (some u) oy l = some (l.1, l.2.1 + 1, l.2.2.1, l.2.2.2) := by
  unfold pn_st
  rw [if_neg (by omega), if_neg (by decide), if_neg (by decide), if_neg (by decide), if_neg (by decide), if_pos rfl]
  dsimp only
  rw [if_neg e]
theorem pn_st_4x {a : Int32} {oy : Option Int32} {l : pn_L} (h : l.1.length < 40) : pn_st 4 a none oy l = none := by
  unfold pn_st
  rw [if_neg (by omega), if_neg (by decide), if_neg (by decide), if_neg (by decide), if_neg (by decide), if_pos rfl]
theorem pn_st_5 {a : Int32} {ox oy : Option Int32} {l : pn_L} (e : l.1.length = 0) : pn_st 5 a ox oy l = some (l.1 ++ [a], l.2.1, l.2.2.1, l.2.2.2) := by
  unfold pn_st
  rw [if_neg (by omega), if_neg (by decide), if_neg (by decide), if_neg (by decide), if_neg (by decide), if_neg (by decide), if_pos rfl, if_pos e]
theorem pn_st_5s {a u : Int32} {oy : Option Int32} {l : pn_L} (h : l.1.length < 40) (e : ¬ l.1.length = 0) : pn_st 5 a (some u) oy l = some (l.1 ++ [u], l.2.1 + 1, l.2.2.1, l.2.2.2) := by
  unfold pn_st
  rw [if_neg (by omega), if_neg (by decide), if_neg (by decide), if_neg (by decide), if_neg (by decide), if_neg (by decide), if_pos rfl, if_neg e]
theorem pn_st_5x {a : Int32} {oy : Option Int32} {l : pn_L} (h : l.1.length < 40) (e : ¬ l.1.length = 0) : pn_st 5 a none oy l = none := by
  unfold pn_st
  rw [if_neg (by omega), if_neg (by decide), if_neg (by decide), if_neg (by decide), if_neg (by decide), if_neg (by decide), if_pos rfl, if_neg e]
theorem pn_st_6 {a u v : Int32} {l : pn_L} (h : l.1.length < 40) (e : ¬ v < u) : pn_st 6 a (some u) (some v) l = some (l.1 ++ [u], l.2.1 + 1, l.2.2.1, l.2.2.2) := by
  unfold pn_st
  rw [if_neg (by omega), if_neg (by decide), if_neg (by decide), if_neg (by decide), if_neg (by decide), if_neg (by decide), if_neg (by decide), if_pos rfl]
  dsimp only
  rw [if_neg e]
theorem pn_st_6r {a u v : Int32} {l : pn_L} (h : l.1.length < 40) (e : v < u) : pn_st 6 a (some u) (some v) l = some (l.1 ++ [v], l.2.1, l.2.2.1 + 1, l.2.2.2) := by
  unfold pn_st
  rw [if_neg (by omega), if_neg (by decide), if_neg (by decide), if_neg (by decide), if_neg (by decide), if_neg (by decide), if_neg (by decide), if_pos rfl]
  dsimp only
  rw [if_pos e]
theorem pn_st_6x {a : Int32} {oy : Option Int32} {l : pn_L} (h : l.1.length < 40) : pn_st 6 a none oy l = none := by
  unfold pn_st
  rw [if_neg (by omega), if_neg (by decide), if_neg (by decide), if_neg (by decide), if_neg (by decide), if_neg (by decide), if_neg (by decide), if_pos rfl]
theorem pn_st_6y {a : Int32} {ox : Option Int32} {l : pn_L} (h : l.1.length < 40) : pn_st 6 a ox none l = none := by
  unfold pn_st
  rw [if_neg (by omega), if_neg (by decide), if_neg (by decide), if_neg (by decide), if_neg (by decide), if_neg (by decide), if_neg (by decide), if_pos rfl]
  cases ox <;> rfl
def pn_el (k : Int32) : Prop := ¬ k = 0 ∧ ¬ k = 1 ∧ ¬ k = 2 ∧ ¬ k = 3 ∧ ¬ k = 4 ∧ ¬ k = 5 ∧ ¬ k = 6
theorem pn_el_n {k : Int32} (h : k < 0) : pn_el k := by
  refine ⟨?_, ?_, ?_, ?_, ?_, ?_, ?_⟩ <;> (intro z; rw [z] at h; exact absurd h (by decide))
theorem pn_el_p {k : Int32} (h : 6 < k) : pn_el k := by
  refine ⟨?_, ?_, ?_, ?_, ?_, ?_, ?_⟩ <;> (intro z; rw [z] at h; exact absurd h (by decide))
theorem pn_st_7 {k a u : Int32} {oy : Option Int32} {l : pn_L} (hk : pn_el k) (h : l.1.length < 40) : pn_st k a (some u) oy l = some (l.1 ++ [l.2.2.2 + u], l.2.1 + 1, l.2.2.1, l.2.2.2 + u) := by
  obtain ⟨h0, h1, h2, h3, h4, h5, h6⟩ := hk
  unfold pn_st
  rw [if_neg (by omega), if_neg h0, if_neg h1, if_neg h2, if_neg h3, if_neg h4, if_neg h5, if_neg h6]
theorem pn_st_7x {k a : Int32} {oy : Option Int32} {l : pn_L} (hk : pn_el k) : pn_st k a none oy l = none := by
  obtain ⟨h0, h1, h2, h3, h4, h5, h6⟩ := hk
  unfold pn_st
  by_cases h40 : 40 ≤ l.1.length
  · rw [if_pos h40]
  · rw [if_neg h40, if_neg h0, if_neg h1, if_neg h2, if_neg h3, if_neg h4, if_neg h5, if_neg h6]
theorem pn_lt_some {s : List Int32} {i : Nat} {v : Int32} (h : s[i]? = some v) : i < s.length := (List.getElem?_eq_some_iff.mp h).1
theorem pn_some_lt {s : List Int32} {i : Nat} (h : i < s.length) : ∃ v, s[i]? = some v := ⟨_, List.getElem?_eq_getElem h⟩
theorem pn_none_le {s : List Int32} {i : Nat} (h : s[i]? = none) : s.length ≤ i := List.getElem?_eq_none_iff.mp h
theorem pn_le_none {s : List Int32} {i : Nat} (h : s.length ≤ i) : s[i]? = none := List.getElem?_eq_none_iff.mpr h
theorem pn_new (s : List Int32) (v : Int32) : (s ++ [v])[s.length]? = some v := by simp
theorem pn_len1 (s : List Int32) (v : Int32) : (s ++ [v]).length = s.length + 1 := by simp
/-- reading places lie within the streams, streams within 40 -/
def pn_b (x y : Nat → Int32) (σ : Nat → pn_L) : Prop := ∀ p, p < 8 → (σ p).1.length ≤ 40 ∧ (σ p).2.1 ≤ (σ (x p).toNatClampNeg).1.length ∧ (σ p).2.2.1 ≤ (σ (y p).toNatClampNeg).1.length
theorem pn_bR {k x y a : Nat → Int32} {σ : Nat → pn_L} (h : pn_R k x y a σ) : pn_b x y σ := by
  refine pn_R_ind (fun σ => pn_b x y σ) ?_ ?_ h
  · intro p hp
    exact ⟨Nat.zero_le 40, Nat.zero_le _, Nat.zero_le _⟩
  · intro σ p l hb hp g q hq
    have lx : ∀ z, (σ z).1.length ≤ (pn_up σ p l z).1.length := by
      intro z
      obtain ⟨e, he⟩ := pn_ext g z
      rw [he, List.length_append]
      omega
    obtain ⟨b1, b2, b3⟩ := hb q hq
    obtain ⟨h40, e, i, j, t, hl, he, _, hi, hj⟩ := pn_shape g
    by_cases eq : q = p
    · subst eq
      have e1 : (pn_up σ q l q).1.length ≤ 40 := by
        rw [pn_us, hl]
        show ((σ q).1 ++ e).length ≤ 40
        rw [List.length_append]
        omega
      have e2 : (pn_up σ q l q).2.1 ≤ (σ (x q).toNatClampNeg).1.length := by
        rw [pn_us, hl]
        show (σ q).2.1 + i ≤ _
        rcases hi with hi | ⟨hi, v, hv⟩
        · omega
        · have := pn_lt_some hv
          omega
      have e3 : (pn_up σ q l q).2.2.1 ≤ (σ (y q).toNatClampNeg).1.length := by
        rw [pn_us, hl]
        show (σ q).2.2.1 + j ≤ _
        rcases hj with hj | ⟨hj, v, hv⟩
        · omega
        · have := pn_lt_some hv
          omega
      exact ⟨e1, Nat.le_trans e2 (lx _), Nat.le_trans e3 (lx _)⟩
    · have e0 : pn_up σ p l q = σ q := pn_un eq
      rw [e0]
      exact ⟨b1, Nat.le_trans b2 (lx _), Nat.le_trans b3 (lx _)⟩
theorem pn_xg {k x y a : Nat → Int32} {σ : Nat → pn_L} {q : Nat} {l : pn_L} (g : pn_go k x y a σ q = some l) {z i : Nat} {v : Int32} (h : (σ z).1[i]? = some v) : (pn_up σ q l z).1[i]? = some v := by
  obtain ⟨e, he⟩ := pn_ext g z
  rw [he]
  exact pn_get h
theorem pn_g40 {k x y a : Nat → Int32} {σ : Nat → pn_L} {q : Nat} {l : pn_L} (g : pn_go k x y a σ q = some l) : (σ q).1.length < 40 := (pn_shape g).1
/-- a running sum keeps pace with its input, and begins with its first item -/
theorem pn_7 {k x y a : Nat → Int32} {σ : Nat → pn_L} {p : Nat} (hk : k p = 7) (h : pn_R k x y a σ) : (σ p).1.length = (σ p).2.1 ∧ ((σ p).2.1 = 0 → (σ p).2.2.2 = 0) ∧ (0 < (σ p).1.length → ∃ v, (σ p).1[0]? = some v ∧ (σ (x p).toNatClampNeg).1[0]? = some v) := by
  refine pn_R_ind (fun σ => (σ p).1.length = (σ p).2.1 ∧ ((σ p).2.1 = 0 → (σ p).2.2.2 = 0) ∧ (0 < (σ p).1.length → ∃ v, (σ p).1[0]? = some v ∧ (σ (x p).toNatClampNeg).1[0]? = some v)) ?_ ?_ h
  · exact ⟨rfl, fun _ => rfl, fun z => absurd z (Nat.lt_irrefl 0)⟩
  · intro σ q l hb hq g
    obtain ⟨b1, b2, b3⟩ := hb
    by_cases eq : p = q
    · subst eq
      have h40 := pn_g40 g
      have g0 := g
      unfold pn_go at g
      rw [hk] at g
      rcases hv : (σ (x p).toNatClampNeg).1[(σ p).2.1]? with _ | v
      · rw [hv, pn_st_7x (pn_el_p (by decide))] at g
        exact absurd g (by simp)
      · rw [hv, pn_st_7 (pn_el_p (by decide)) h40] at g
        have hl := Option.some.inj g
        have hv' := pn_xg g0 hv
        refine ⟨?_, ?_, fun _ => ?_⟩
        · rw [pn_us, ← hl]
          show ((σ p).1 ++ [_]).length = _ + 1
          rw [pn_len1, b1]
        · rw [pn_us, ← hl]
          intro z
          exact absurd z (Nat.succ_ne_zero _)
        · rcases Nat.eq_zero_or_pos (σ p).1.length with z | z
          · have r0 : (σ p).2.1 = 0 := by omega
            refine ⟨v, ?_, by rw [r0] at hv'; exact hv'⟩
            rw [pn_us, ← hl]
            show ((σ p).1 ++ [(σ p).2.2.2 + v])[0]? = some v
            have n0 := pn_new (σ p).1 ((σ p).2.2.2 + v)
            rw [z, b2 r0, Int32.zero_add] at n0
            rw [b2 r0, Int32.zero_add]
            exact n0
          · obtain ⟨w, w1, w2⟩ := b3 z
            exact ⟨w, pn_xg g0 w1, pn_xg g0 w2⟩
    · have e0 : pn_up σ q l p = σ p := pn_un eq
      rw [e0]
      refine ⟨b1, b2, fun z => ?_⟩
      obtain ⟨w, w1, w2⟩ := b3 z
      exact ⟨w, w1, pn_xg g w2⟩
/-- a delay is one item ahead of what it reads, and begins with its number -/
theorem pn_5 {k x y a : Nat → Int32} {σ : Nat → pn_L} {p : Nat} (hk : k p = 5) (h : pn_R k x y a σ) : ((σ p).1.length = 0 → (σ p).2.1 = 0) ∧ (0 < (σ p).1.length → (σ p).1.length = (σ p).2.1 + 1 ∧ (σ p).1[0]? = some (a p)) := by
  refine pn_R_ind (fun σ => ((σ p).1.length = 0 → (σ p).2.1 = 0) ∧ (0 < (σ p).1.length → (σ p).1.length = (σ p).2.1 + 1 ∧ (σ p).1[0]? = some (a p))) ?_ ?_ h
  · exact ⟨fun _ => rfl, fun z => absurd z (Nat.lt_irrefl 0)⟩
  · intro σ q l hb hq g
    obtain ⟨b1, b2⟩ := hb
    by_cases eq : p = q
    · subst eq
      have h40 := pn_g40 g
      have g0 := g
      unfold pn_go at g
      rw [hk] at g
      rcases Nat.eq_zero_or_pos (σ p).1.length with z | z
      · rw [pn_st_5 z] at g
        have hl := Option.some.inj g
        rw [pn_us, ← hl]
        show (((σ p).1 ++ [a p]).length = 0 → (σ p).2.1 = 0) ∧ (0 < ((σ p).1 ++ [a p]).length → ((σ p).1 ++ [a p]).length = (σ p).2.1 + 1 ∧ ((σ p).1 ++ [a p])[0]? = some (a p))
        refine ⟨fun _ => b1 z, fun _ => ⟨by rw [pn_len1, z, b1 z], ?_⟩⟩
        have n0 := pn_new (σ p).1 (a p)
        rw [z] at n0
        exact n0
      · rcases hv : (σ (x p).toNatClampNeg).1[(σ p).2.1]? with _ | v
        · rw [hv, pn_st_5x h40 (by omega)] at g
          exact absurd g (by simp)
        · rw [hv, pn_st_5s h40 (by omega)] at g
          have hl := Option.some.inj g
          obtain ⟨c1, c2⟩ := b2 z
          refine ⟨fun w => ?_, fun _ => ⟨?_, pn_xg g0 c2⟩⟩
          · rw [pn_us, ← hl] at w
            have w' : ((σ p).1 ++ [v]).length = 0 := w
            rw [pn_len1] at w'
            exact absurd w' (Nat.succ_ne_zero _)
          · rw [pn_us, ← hl]
            show ((σ p).1 ++ [v]).length = (σ p).2.1 + 1 + 1
            rw [pn_len1, c1]
    · have e0 : pn_up σ q l p = σ p := pn_un eq
      rw [e0]
      exact ⟨b1, b2⟩
/-- an adder -/
theorem pn_2 {k x y a : Nat → Int32} {σ : Nat → pn_L} {p : Nat} (hk : k p = 2) (h : pn_R k x y a σ) : (σ p).1.length = (σ p).2.1 ∧ (σ p).1.length = (σ p).2.2.1 ∧ (∀ i, i < (σ p).1.length → ∃ u v, (σ (x p).toNatClampNeg).1[i]? = some u ∧ (σ (y p).toNatClampNeg).1[i]? = some v ∧ (σ p).1[i]? = some (u + v)) := by
  refine pn_R_ind (fun σ => (σ p).1.length = (σ p).2.1 ∧ (σ p).1.length = (σ p).2.2.1 ∧ (∀ i, i < (σ p).1.length → ∃ u v, (σ (x p).toNatClampNeg).1[i]? = some u ∧ (σ (y p).toNatClampNeg).1[i]? = some v ∧ (σ p).1[i]? = some (u + v))) ?_ ?_ h
  · exact ⟨rfl, rfl, fun i z => absurd z (Nat.not_lt_zero i)⟩
  · intro σ q l hb hq g
    obtain ⟨b1, b2, b3⟩ := hb
    by_cases eq : p = q
    · subst eq
      have h40 := pn_g40 g
      have g0 := g
      unfold pn_go at g
      rw [hk] at g
      rcases hu : (σ (x p).toNatClampNeg).1[(σ p).2.1]? with _ | u
      · rw [hu, pn_st_2x] at g
        exact absurd g (by simp)
      · rcases hv : (σ (y p).toNatClampNeg).1[(σ p).2.2.1]? with _ | v
        · rw [hv, pn_st_2y] at g
          exact absurd g (by simp)
        · rw [hu, hv, pn_st_2 h40] at g
          have hl := Option.some.inj g
          refine ⟨?_, ?_, fun i hi => ?_⟩
          · rw [pn_us, ← hl]
            show ((σ p).1 ++ [u + v]).length = (σ p).2.1 + 1
            rw [pn_len1, b1]
          · rw [pn_us, ← hl]
            show ((σ p).1 ++ [u + v]).length = (σ p).2.2.1 + 1
            rw [pn_len1, b2]
          · have hi' : i < (σ p).1.length + 1 := by
              rw [pn_us, ← hl] at hi
              have hi2 : i < ((σ p).1 ++ [u + v]).length := hi
              rw [pn_len1] at hi2
              exact hi2
            by_cases ei : i < (σ p).1.length
            · obtain ⟨c, d, c1, c2, c3⟩ := b3 i ei
              exact ⟨c, d, pn_xg g0 c1, pn_xg g0 c2, pn_xg g0 c3⟩
            · have ei' : i = (σ p).1.length := by omega
              refine ⟨u, v, ?_, ?_, ?_⟩
              · rw [ei', b1]
                exact pn_xg g0 hu
              · rw [ei', b2]
                exact pn_xg g0 hv
              · rw [pn_us, ← hl, ei']
                exact pn_new _ _
    · have e0 : pn_up σ q l p = σ p := pn_un eq
      rw [e0]
      refine ⟨b1, b2, fun i hi => ?_⟩
      obtain ⟨c, d, c1, c2, c3⟩ := b3 i hi
      exact ⟨c, d, pn_xg g c1, pn_xg g c2, c3⟩
theorem pn_F7 {k x y a : Nat → Int32} {σ : Nat → pn_L} {p X : Nat} (hp : p < 8) (hk : k p = 7) (hX : (x p).toNatClampNeg = X) (F : pn_F k x y a σ) (h : (σ X).1.length = 40) : (σ p).1.length = 40 ∧ ∃ v, (σ p).1[0]? = some v ∧ (σ X).1[0]? = some v := by
  obtain ⟨b1, _, b3⟩ := pn_7 hk F.1
  obtain ⟨c1, _, _⟩ := pn_bR F.1 p hp
  have n := F.2 p hp
  rw [hX] at b3
  have L : (σ p).1.length = 40 := by
    rcases Nat.lt_or_ge (σ p).1.length 40 with z | z
    · obtain ⟨v, hv⟩ := pn_some_lt (s := (σ X).1) (i := (σ p).2.1) (by omega)
      unfold pn_go at n
      rw [hX, hv, hk, pn_st_7 (pn_el_p (by decide)) z] at n
      exact absurd n (by simp)
    · omega
  exact ⟨L, b3 (by omega)⟩
theorem pn_F5 {k x y a : Nat → Int32} {σ : Nat → pn_L} {p X : Nat} (hp : p < 8) (hk : k p = 5) (hX : (x p).toNatClampNeg = X) (F : pn_F k x y a σ) : (σ p).1.length = min ((σ X).1.length + 1) 40 ∧ (σ p).1[0]? = some (a p) := by
  obtain ⟨b1, b2⟩ := pn_5 hk F.1
  obtain ⟨c1, c2, _⟩ := pn_bR F.1 p hp
  rw [hX] at c2
  have n := F.2 p hp
  unfold pn_go at n
  rw [hX, hk] at n
  rcases Nat.eq_zero_or_pos (σ p).1.length with z | z
  · rw [pn_st_5 z] at n
    exact absurd n (by simp)
  · obtain ⟨d1, d2⟩ := b2 z
    refine ⟨?_, d2⟩
    rcases Nat.lt_or_ge (σ p).1.length 40 with w | w
    · rcases hv : (σ X).1[(σ p).2.1]? with _ | v
      · have := pn_none_le hv
        omega
      · rw [hv, pn_st_5s w (by omega)] at n
        exact absurd n (by simp)
    · omega
theorem pn_F2 {k x y a : Nat → Int32} {σ : Nat → pn_L} {p X Y : Nat} (hp : p < 8) (hk : k p = 2) (hX : (x p).toNatClampNeg = X) (hY : (y p).toNatClampNeg = Y) (hX8 : X < 8) (hY8 : Y < 8) (F : pn_F k x y a σ) : (σ p).1.length = min (σ X).1.length (σ Y).1.length ∧ (∀ i, i < (σ p).1.length → ∃ u v, (σ X).1[i]? = some u ∧ (σ Y).1[i]? = some v ∧ (σ p).1[i]? = some (u + v)) := by
  obtain ⟨b1, b2, b3⟩ := pn_2 hk F.1
  obtain ⟨c1, c2, c3⟩ := pn_bR F.1 p hp
  obtain ⟨x1, _, _⟩ := pn_bR F.1 X hX8
  obtain ⟨y1, _, _⟩ := pn_bR F.1 Y hY8
  rw [hX] at c2
  rw [hY] at c3
  rw [hX, hY] at b3
  refine ⟨?_, b3⟩
  have n := F.2 p hp
  unfold pn_go at n
  rw [hX, hY, hk] at n
  rcases Nat.lt_or_ge (σ p).1.length 40 with w | w
  · rcases hu : (σ X).1[(σ p).2.1]? with _ | u
    · have := pn_none_le hu
      omega
    · rcases hv : (σ Y).1[(σ p).2.2.1]? with _ | v
      · have := pn_none_le hv
        omega
      · rw [hu, hv, pn_st_2 w] at n
        exact absurd n (by simp)
  · omega
/-- how much has been made by the first n -/
def pn_tt (σ : Nat → pn_L) : Nat → Nat
  | 0 => 0
  | n + 1 => pn_tt σ n + (σ n).1.length
theorem pn_tt_b {σ : Nat → pn_L} : ∀ n, (∀ p, p < n → (σ p).1.length ≤ 40) → pn_tt σ n ≤ 40 * n := by
  intro n
  induction n with
  | zero => intro _; exact Nat.zero_le _
  | succ n ih =>
    intro h
    have h1 := ih (fun p hp => h p (by omega))
    have h2 := h n (by omega)
    show pn_tt σ n + (σ n).1.length ≤ 40 * (n + 1)
    omega
theorem pn_tt_d {σ σ' : Nat → pn_L} {p : Nat} (h : ∀ j, j ≠ p → σ' j = σ j) : ∀ n, (n ≤ p → pn_tt σ' n = pn_tt σ n) ∧ (p < n → pn_tt σ' n + (σ p).1.length = pn_tt σ n + (σ' p).1.length) := by
  intro n
  induction n with
  | zero => exact ⟨fun _ => rfl, fun z => absurd z (Nat.not_lt_zero p)⟩
  | succ n ih =>
    obtain ⟨h1, h2⟩ := ih
    refine ⟨fun z => ?_, fun z => ?_⟩
    · show pn_tt σ' n + (σ' n).1.length = pn_tt σ n + (σ n).1.length
      rw [h1 (by omega), h n (by omega)]
    · show pn_tt σ' n + (σ' n).1.length + (σ p).1.length = pn_tt σ n + (σ n).1.length + (σ' p).1.length
      by_cases e : n = p
      · rw [h1 (by omega), e]
        omega
      · have := h2 (by omega)
        rw [h n e]
        omega
theorem pn_keep {k x y a : Nat → Int32} {σ σ' : Nat → pn_L} {q : Nat} (h : σ' q = σ q) (hx : (σ' (x q).toNatClampNeg).1 = (σ (x q).toNatClampNeg).1) (hy : (σ' (y q).toNatClampNeg).1 = (σ (y q).toNatClampNeg).1) : pn_go k x y a σ' q = pn_go k x y a σ q := by
  unfold pn_go
  rw [h, hx, hy]
end
section
/-! The ring of those that may go on, as a list. -/
theorem pn_ph : ∀ (n : Nat) (Q : List Nat), Q.Nodup → (∀ j, j ∈ Q → j < n) → Q.length ≤ n := by
  intro n
  induction n with
  | zero =>
    intro Q _ h
    rcases Q with _ | ⟨a, t⟩
    · exact Nat.le_refl 0
    · exact absurd (h a (by simp)) (Nat.not_lt_zero a)
  | succ n ih =>
    intro Q hd h
    by_cases e : n ∈ Q
    · have h1 := ih (Q.erase n) (hd.erase n) (fun j hj => by
        obtain ⟨c1, c2⟩ := hd.mem_erase_iff.mp hj
        have := h j c2
        omega)
      rw [List.length_erase_of_mem e] at h1
      omega
    · have h1 := ih Q hd (fun j hj => by
        have h2 := h j hj
        have h3 : j ≠ n := fun z => e (by rw [← z]; exact hj)
        omega)
      omega
/-- waiting w, head h, ring, listed: the queue Q -/
def pn_q (w h : Int32) (a10 a11 : Nat → Int32) (Q : List Nat) : Prop :=
  ∃ H, H < 8 ∧ h = nI H ∧ w = nI Q.length ∧ Q.Nodup ∧ (∀ j, j ∈ Q → j < 8) ∧ (∀ i j, Q[i]? = some j → a10 ((H + i) % 8) = nI j) ∧ (∀ j, j < 8 → (j ∈ Q → ¬ a11 j = 0) ∧ (j ∉ Q → a11 j = 0))
theorem pn_q_len {w h : Int32} {a10 a11 : Nat → Int32} {Q : List Nat} (q : pn_q w h a10 a11 Q) : Q.length ≤ 8 ∧ w = nI Q.length := by
  obtain ⟨H, h8, eh, ew, nd, lt, rg, ls⟩ := q
  exact ⟨pn_ph 8 Q nd lt, ew⟩
theorem pn_q_nil {w h : Int32} {a10 a11 : Nat → Int32} {Q : List Nat} (q : pn_q w h a10 a11 Q) (hw : w ≤ 0) : Q = [] := by
  obtain ⟨l8, ew⟩ := pn_q_len q
  rcases Q with _ | ⟨p, Q⟩
  · rfl
  · rw [ew] at hw
    exact absurd hw (nI_nle (by simp) (by omega))
theorem pn_pop {w h : Int32} {a10 a11 : Nat → Int32} {Q : List Nat} (q : pn_q w h a10 a11 Q) (hw : ¬ w ≤ 0) :
    ∃ (p : Nat) (Q' : List Nat) (H : Nat), Q = p :: Q' ∧ p < 8 ∧ p ∉ Q' ∧ H < 8 ∧ h = nI H ∧ a10 H = nI p ∧ pn_q (w - 1) ((h + 1) &&& 7) a10 (upd a11 p 0) Q' := by
  obtain ⟨l8, _⟩ := pn_q_len q
  obtain ⟨H, h8, eh, ew, nd, lt, rg, ls⟩ := q
  rcases Q with _ | ⟨p, Q⟩
  · exact absurd (show w ≤ 0 by rw [ew]; decide) hw
  · have hp : p < 8 := lt p (by simp)
    obtain ⟨n1, n2⟩ := List.nodup_cons.mp nd
    have r0 := rg 0 p rfl
    rw [show (H + 0) % 8 = H by omega] at r0
    refine ⟨p, Q, H, rfl, hp, n1, h8, eh, r0, (H + 1) % 8, by omega, ?_, ?_, n2, fun j hj => lt j (by simp [hj]), ?_, ?_⟩
    · rw [eh, nI_1]
      exact pk_andN (by omega) 3 (by decide)
    · rw [ew]
      exact nI_pred Q.length
    · intro i j hij
      have t := rg (i + 1) j hij
      rw [show ((H + 1) % 8 + i) % 8 = (H + (i + 1)) % 8 by omega]
      exact t
    · intro j hj
      by_cases e : j = p
      · rw [e]
        exact ⟨fun z => absurd z n1, fun _ => pk_us⟩
      · rw [pk_un e]
        obtain ⟨l1, l2⟩ := ls j hj
        exact ⟨fun z => l1 (by simp [z]), fun z => l2 (by simp [z, e])⟩
theorem pn_wake {post : St1 → Prop} {w h : Int32} {k x y a a5 a6 a7 a8 a9 a10 a11 : Nat → Int32} {Q : List Nat} {p : Nat} (hp : p < 8) (q : pn_q w h a10 a11 Q)
    (H : ∀ (w' : Int32) (a10' a11' : Nat → Int32) (Q' : List Nat), pn_q w' h a10' a11' Q' → p ∈ Q' → (∀ j, j ∈ Q → j ∈ Q') → post (w', h, k, x, y, a, a5, a6, a7, a8, a9, a10', a11')) :
    wpX_wake post (w, h, k, x, y, a, a5, a6, a7, a8, a9, a10, a11) (nI p) := by
  have q0 := q
  obtain ⟨Hd, h8, eh, ew, nd, lt, rg, ls⟩ := q
  have cl : (nI p).toNatClampNeg = p := nI_clamp (by omega)
  unfold wpX_wake
  dsimp only
  rw [cl]
  refine ⟨pk_in p 8 hp, br_c (fun z => ?_) (fun z => ?_)⟩
  · have hn : p ∉ Q := fun m => (ls p hp).1 m z
    have nd' : (Q ++ [p]).Nodup := by
      rw [List.nodup_append]
      refine ⟨nd, by simp, ?_⟩
      intro c hc d hd e
      have hd' : d = p := by simpa using hd
      exact hn (by rw [← hd', ← e]; exact hc)
    have lt' : ∀ j, j ∈ Q ++ [p] → j < 8 := by
      intro j hj
      rcases List.mem_append.mp hj with c | c
      · exact lt j c
      · have c' : j = p := by simpa using c
        omega
    have l8 := pn_ph 8 _ nd' lt'
    rw [List.length_append, List.length_singleton] at l8
    have ix : (h + w) &&& 7 = nI ((Hd + Q.length) % 8) := by
      rw [eh, ew, nI_add]
      exact pk_andN (by omega) 3 (by decide)
    have ci : (nI ((Hd + Q.length) % 8)).toNatClampNeg = (Hd + Q.length) % 8 := nI_clamp (by omega)
    rw [ix, ci]
    refine ⟨pk_in p 8 hp, nm_e ⟨pk_in ((Hd + Q.length) % 8) 8 (by omega), nm_e (nm_r (e' := nI (Q.length + 1)) ?_ ?_)⟩⟩
    · rw [ew]
      exact nI_1 _
    · refine H _ _ _ (Q ++ [p]) ⟨Hd, h8, eh, ?_, nd', lt', ?_, ?_⟩ (by simp) (fun j hj => by simp [hj])
      · rw [List.length_append, List.length_singleton]
      · intro i j hij
        have il := (List.getElem?_eq_some_iff.mp hij).1
        rw [List.length_append, List.length_singleton] at il
        by_cases ei : i = Q.length
        · rw [ei, List.getElem?_concat_length] at hij
          rw [ei, pk_us, Option.some.inj hij]
        · rw [List.getElem?_append_left (by omega)] at hij
          rw [pk_un (by omega)]
          exact rg i j hij
      · intro j hj
        by_cases e : j = p
        · rw [e, pk_us]
          exact ⟨fun _ => by decide, fun z => absurd (by simp) z⟩
        · rw [pk_un e]
          obtain ⟨l1, l2⟩ := ls j hj
          refine ⟨fun z => l1 ?_, fun z => l2 ?_⟩
          · rcases List.mem_append.mp z with c | c
            · exact c
            · exact absurd (by simpa using c) e
          · exact fun c => z (List.mem_append.mpr (Or.inl c))
  · have hq : p ∈ Q := by
      by_cases c : p ∈ Q
      · exact c
      · exact absurd ((ls p hp).2 c) z
    exact H w a10 a11 Q q0 hq (fun j hj => hj)
end
section
/-! The arrays match the picture; one step of a process. -/
section
variable {w h : Int32} {k x y a a5 a6 a7 a8 a9 a10 a11 : Nat → Int32} {σ : Nat → pn_L} {p : Nat}
/-- inputs are processes -/
def pn_cf (x y : Nat → Int32) : Prop := ∀ j, j < 8 → (∃ n, n < 8 ∧ x j = nI n) ∧ (∃ n, n < 8 ∧ y j = nI n)
/-- made, readX, readY, total, items -/
def pn_m (σ : Nat → pn_L) (a5 a6 a7 a8 a9 : Nat → Int32) : Prop :=
  ∀ p, p < 8 → a5 p = nI (σ p).1.length ∧ a6 p = nI (σ p).2.1 ∧ a7 p = nI (σ p).2.2.1 ∧ a8 p = (σ p).2.2.2 ∧ ∀ i v, (σ p).1[i]? = some v → a9 (p * 40 + i) = v
def pn_ag (f f' : Nat → Int32) (p : Nat) (v : Int32) : Prop := f' p = v ∧ ∀ j, j ≠ p → f' j = f j
theorem pn_ag_u {f : Nat → Int32} {p : Nat} {v : Int32} : pn_ag f (upd f p v) p v := ⟨pk_us, fun _ h => pk_un h⟩
theorem pn_ag_s {f : Nat → Int32} {p : Nat} {v : Int32} (h : f p = v) : pn_ag f f p v := ⟨h, fun _ _ => rfl⟩
theorem pn_m_mk {r6 r7 : Nat} {t c : Int32} {a6' a7' a8' : Nat → Int32} (b : pn_b x y σ) (hl : (σ p).1.length < 40) (M : pn_m σ a5 a6 a7 a8 a9) (h6 : pn_ag a6 a6' p (nI r6)) (h7 : pn_ag a7 a7' p (nI r7)) (h8 : pn_ag a8 a8' p t) :
    pn_m (pn_up σ p ((σ p).1 ++ [c], r6, r7, t)) (upd a5 p (nI ((σ p).1.length + 1))) a6' a7' a8' (upd a9 (p * 40 + (σ p).1.length) c) := by
  intro j hj
  by_cases e : j = p
  · subst e
    rw [pn_us]
    refine ⟨?_, h6.1, h7.1, h8.1, fun i v hv => ?_⟩
    · rw [pk_us]
      show _ = nI ((σ j).1 ++ [c]).length
      rw [pn_len1]
    · have hv' : ((σ j).1 ++ [c])[i]? = some v := hv
      have il := pn_lt_some hv'
      rw [pn_len1] at il
      by_cases ei : i = (σ j).1.length
      · rw [ei, pn_new] at hv'
        rw [ei, pk_us]
        exact Option.some.inj hv'
      · rw [List.getElem?_append_left (by omega)] at hv'
        rw [pk_un (by omega)]
        exact (M j hj).2.2.2.2 i v hv'
  · rw [pn_un e, pk_un e, h6.2 j e, h7.2 j e, h8.2 j e]
    obtain ⟨m1, m2, m3, m4, m5⟩ := M j hj
    refine ⟨m1, m2, m3, m4, fun i v hv => ?_⟩
    have il := pn_lt_some hv
    have ib := (b j hj).1
    rw [pk_un (by omega)]
    exact m5 i v hv
theorem pn_m_no {r6 r7 : Nat} {t : Int32} {a6' a7' a8' : Nat → Int32} (M : pn_m σ a5 a6 a7 a8 a9) (h6 : pn_ag a6 a6' p (nI r6)) (h7 : pn_ag a7 a7' p (nI r7)) (h8 : pn_ag a8 a8' p t) :
    pn_m (pn_up σ p ((σ p).1, r6, r7, t)) a5 a6' a7' a8' a9 := by
  intro j hj
  obtain ⟨m1, m2, m3, m4, m5⟩ := M j hj
  by_cases e : j = p
  · subst e
    rw [pn_us]
    exact ⟨m1, h6.1, h7.1, h8.1, m5⟩
  · rw [pn_un e, h6.2 j e, h7.2 j e, h8.2 j e]
    exact ⟨m1, m2, m3, m4, m5⟩
theorem pn_hasX {post : Int32 → Prop} (hp : p < 8) (cf : pn_cf x y) (b : pn_b x y σ) (M : pn_m σ a5 a6 a7 a8 a9)
    (h0 : (σ (x p).toNatClampNeg).1[(σ p).2.1]? = none → post 0) (h1 : ∀ v, (σ (x p).toNatClampNeg).1[(σ p).2.1]? = some v → post 1) :
    wpX_hasX post (w, h, k, x, y, a, a5, a6, a7, a8, a9, a10, a11) (nI p) := by
  have cl : (nI p).toNatClampNeg = p := nI_clamp (by omega)
  obtain ⟨⟨n, hn, ex⟩, _⟩ := cf p hp
  have cn : (x p).toNatClampNeg = n := by rw [ex]; exact nI_clamp (by omega)
  obtain ⟨_, b2, _⟩ := b p hp
  obtain ⟨c1, _, _⟩ := b n hn
  rw [cn] at h0 h1 b2
  unfold wpX_hasX
  dsimp only
  rw [cl, cn, (M n hn).1, (M p hp).2.1]
  refine ⟨pk_in p 8 hp, pk_in p 8 hp, pk_in n 8 hn ex, pk_le (σ n).1.length (σ p).2.1 (fun z => h0 (pn_le_none z)) (fun z => ?_)⟩
  obtain ⟨v, hv⟩ := pn_some_lt z
  exact h1 v hv
theorem pn_hasY {post : Int32 → Prop} (hp : p < 8) (cf : pn_cf x y) (b : pn_b x y σ) (M : pn_m σ a5 a6 a7 a8 a9)
    (h0 : (σ (y p).toNatClampNeg).1[(σ p).2.2.1]? = none → post 0) (h1 : ∀ v, (σ (y p).toNatClampNeg).1[(σ p).2.2.1]? = some v → post 1) :
    wpX_hasY post (w, h, k, x, y, a, a5, a6, a7, a8, a9, a10, a11) (nI p) := by
  have cl : (nI p).toNatClampNeg = p := nI_clamp (by omega)
  obtain ⟨_, ⟨n, hn, ex⟩⟩ := cf p hp
  have cn : (y p).toNatClampNeg = n := by rw [ex]; exact nI_clamp (by omega)
  obtain ⟨_, _, b2⟩ := b p hp
  obtain ⟨c1, _, _⟩ := b n hn
  rw [cn] at h0 h1 b2
  unfold wpX_hasY
  dsimp only
  rw [cl, cn, (M n hn).1, (M p hp).2.2.1]
  refine ⟨pk_in p 8 hp, pk_in p 8 hp, pk_in n 8 hn ex, pk_le (σ n).1.length (σ p).2.2.1 (fun z => h0 (pn_le_none z)) (fun z => ?_)⟩
  obtain ⟨v, hv⟩ := pn_some_lt z
  exact h1 v hv
theorem pn_ix (n r : Nat) : nI n * 40 + nI r = nI (n * 40 + r) := by
  rw [show (40 : Int32) = nI 40 from rfl, pk_mul, nI_add]
theorem pn_takeX {post : Int32 → St1 → Prop} {n r : Nat} {v : Int32} (hp : p < 8) (hn : n < 8) (ex : x p = nI n) (h6 : a6 p = nI r) (hr : r < 40) (hv : a9 (n * 40 + r) = v)
    (H : post v (w, h, k, x, y, a, a5, upd a6 p (nI (r + 1)), a7, a8, a9, a10, a11)) : wpX_takeX post (w, h, k, x, y, a, a5, a6, a7, a8, a9, a10, a11) (nI p) := by
  have cl : (nI p).toNatClampNeg = p := nI_clamp (by omega)
  have ci : (nI (n * 40 + r)).toNatClampNeg = n * 40 + r := nI_clamp (by omega)
  unfold wpX_takeX
  dsimp only
  rw [cl, ex, h6, pn_ix, ci, hv, nI_1]
  exact ⟨pk_in p 8 hp, pk_in p 8 hp, pk_in (n * 40 + r) 320 (by omega), nm_e ⟨pk_in p 8 hp, pk_in p 8 hp, nm_e H⟩⟩
theorem pn_takeX2 {post : Int32 → St1 → Prop} {n r : Nat} {v : Int32} (hp : p < 8) (hn : n < 8) (ex : x p = nI n) (h6 : a6 p = nI r) (hr : r < 40) (hv : a9 (n * 40 + r) = v)
    (H : post v (w, h, k, x, y, a, a5, upd a6 p (nI (r + 1)), a7, a8, a9, a10, a11)) : wpX_takeX_2 post (w, h, k, x, y, a, a5, a6, a7, a8, a9, a10, a11) (nI p) := by
  have cl : (nI p).toNatClampNeg = p := nI_clamp (by omega)
  have ci : (nI (n * 40 + r)).toNatClampNeg = n * 40 + r := nI_clamp (by omega)
  unfold wpX_takeX_2
  dsimp only
  rw [cl, ex, h6, pn_ix, ci, hv, nI_1]
  exact ⟨pk_in p 8 hp, pk_in p 8 hp, pk_in (n * 40 + r) 320 (by omega), nm_e ⟨pk_in p 8 hp, pk_in p 8 hp, nm_e H⟩⟩
theorem pn_takeY {post : Int32 → St1 → Prop} {n r : Nat} {v : Int32} (hp : p < 8) (hn : n < 8) (ex : y p = nI n) (h7 : a7 p = nI r) (hr : r < 40) (hv : a9 (n * 40 + r) = v)
    (H : post v (w, h, k, x, y, a, a5, a6, upd a7 p (nI (r + 1)), a8, a9, a10, a11)) : wpX_takeY post (w, h, k, x, y, a, a5, a6, a7, a8, a9, a10, a11) (nI p) := by
  have cl : (nI p).toNatClampNeg = p := nI_clamp (by omega)
  have ci : (nI (n * 40 + r)).toNatClampNeg = n * 40 + r := nI_clamp (by omega)
  unfold wpX_takeY
  dsimp only
  rw [cl, ex, h7, pn_ix, ci, hv, nI_1]
  exact ⟨pk_in p 8 hp, pk_in p 8 hp, pk_in (n * 40 + r) 320 (by omega), nm_e ⟨pk_in p 8 hp, pk_in p 8 hp, nm_e H⟩⟩
theorem pn_make {post : Int32 → St1 → Prop} {m : Nat} {c : Int32} (hp : p < 8) (h5 : a5 p = nI m) (hm : m < 40)
    (H : post 1 (w, h, k, x, y, a, upd a5 p (nI (m + 1)), a6, a7, a8, upd a9 (p * 40 + m) c, a10, a11)) : wpX_make post (w, h, k, x, y, a, a5, a6, a7, a8, a9, a10, a11) (nI p) c := by
  have cl : (nI p).toNatClampNeg = p := nI_clamp (by omega)
  have ci : (nI (p * 40 + m)).toNatClampNeg = p * 40 + m := nI_clamp (by omega)
  unfold wpX_make
  dsimp only
  rw [cl, h5, pn_ix, ci, nI_1]
  exact ⟨pk_in p 8 hp, pk_in (p * 40 + m) 320 (by omega), nm_e ⟨pk_in p 8 hp, pk_in p 8 hp, nm_e H⟩⟩
/-- what X and Y of a process give: the place, and the item there -/
theorem pn_px (hp : p < 8) (cf : pn_cf x y) (b : pn_b x y σ) (M : pn_m σ a5 a6 a7 a8 a9) {v : Int32} (g : (σ (x p).toNatClampNeg).1[(σ p).2.1]? = some v) :
    ∃ n, n < 8 ∧ x p = nI n ∧ (σ p).2.1 < 40 ∧ a9 (n * 40 + (σ p).2.1) = v := by
  obtain ⟨⟨n, hn, ex⟩, _⟩ := cf p hp
  have cn : (x p).toNatClampNeg = n := by rw [ex]; exact nI_clamp (by omega)
  rw [cn] at g
  have hl := pn_lt_some g
  have hb := (b n hn).1
  exact ⟨n, hn, ex, by omega, (M n hn).2.2.2.2 _ v g⟩
theorem pn_py (hp : p < 8) (cf : pn_cf x y) (b : pn_b x y σ) (M : pn_m σ a5 a6 a7 a8 a9) {v : Int32} (g : (σ (y p).toNatClampNeg).1[(σ p).2.2.1]? = some v) :
    ∃ n, n < 8 ∧ y p = nI n ∧ (σ p).2.2.1 < 40 ∧ a9 (n * 40 + (σ p).2.2.1) = v := by
  obtain ⟨_, ⟨n, hn, ex⟩⟩ := cf p hp
  have cn : (y p).toNatClampNeg = n := by rw [ex]; exact nI_clamp (by omega)
  rw [cn] at g
  have hl := pn_lt_some g
  have hb := (b n hn).1
  exact ⟨n, hn, ex, by omega, (M n hn).2.2.2.2 _ v g⟩
theorem pn_stepSum {post : Int32 → St1 → Prop} (hp : p < 8) (cf : pn_cf x y) (b : pn_b x y σ) (M : pn_m σ a5 a6 a7 a8 a9) (hl : (σ p).1.length < 40) (hk : pn_el (k p))
    (H0 : pn_go k x y a σ p = none → post 0 (w, h, k, x, y, a, a5, a6, a7, a8, a9, a10, a11))
    (H1 : ∀ l b5 b6 b7 b8 b9, pn_go k x y a σ p = some l → pn_m (pn_up σ p l) b5 b6 b7 b8 b9 → post 1 (w, h, k, x, y, a, b5, b6, b7, b8, b9, a10, a11)) :
    wpX_stepSum post (w, h, k, x, y, a, a5, a6, a7, a8, a9, a10, a11) (nI p) := by
  have cl : (nI p).toNatClampNeg = p := nI_clamp (by omega)
  obtain ⟨m5, m6, m7, m8, m9⟩ := M p hp
  unfold wpX_stepSum
  dsimp only
  refine pn_hasX hp cf b M (fun g => br_t rfl (H0 ?_)) (fun v g => br_f (by decide) ⟨pk_in p 8 hp, ?_⟩)
  · unfold pn_go
    rw [g]
    exact pn_st_7x hk
  · obtain ⟨n, hn, ex, hr, hv⟩ := pn_px hp cf b M g
    refine pn_takeX hp hn ex m6 hr hv ?_
    dsimp only
    rw [cl, m8]
    refine ⟨pk_in p 8 hp, nm_e ⟨pk_in p 8 hp, ?_⟩⟩
    rw [pk_us]
    refine pn_make hp m5 hl ?_
    refine ⟨rfl, H1 _ _ _ _ _ _ ?_ (pn_m_mk b hl M pn_ag_u (pn_ag_s m7) pn_ag_u)⟩
    unfold pn_go
    rw [g]
    exact pn_st_7 hk hl
theorem pn_stepOdd {post : Int32 → St1 → Prop} (hp : p < 8) (cf : pn_cf x y) (b : pn_b x y σ) (M : pn_m σ a5 a6 a7 a8 a9) (hl : (σ p).1.length < 40) (hk : k p = 4)
    (H0 : pn_go k x y a σ p = none → post 0 (w, h, k, x, y, a, a5, a6, a7, a8, a9, a10, a11))
    (H1 : ∀ l b5 b6 b7 b8 b9, pn_go k x y a σ p = some l → pn_m (pn_up σ p l) b5 b6 b7 b8 b9 → post 1 (w, h, k, x, y, a, b5, b6, b7, b8, b9, a10, a11)) :
    wpX_stepOdd post (w, h, k, x, y, a, a5, a6, a7, a8, a9, a10, a11) (nI p) := by
  obtain ⟨m5, m6, m7, m8, m9⟩ := M p hp
  unfold wpX_stepOdd
  dsimp only
  refine pn_hasX hp cf b M (fun g => br_t rfl (H0 ?_)) (fun v g => br_f (by decide) ?_)
  · unfold pn_go
    rw [g, hk]
    exact pn_st_4x hl
  · obtain ⟨n, hn, ex, hr, hv⟩ := pn_px hp cf b M g
    refine pn_takeX2 hp hn ex m6 hr hv ?_
    dsimp only
    refine br_c (fun o => ?_) (fun o => ?_)
    · refine pn_make hp m5 hl ?_
      refine H1 _ _ _ _ _ _ ?_ (pn_m_mk b hl M pn_ag_u (pn_ag_s m7) (pn_ag_s m8))
      unfold pn_go
      rw [g, hk]
      exact pn_st_4 hl o
    · refine H1 _ _ _ _ _ _ ?_ (pn_m_no M pn_ag_u (pn_ag_s m7) (pn_ag_s m8))
      unfold pn_go
      rw [g, hk]
      exact pn_st_4e hl o
theorem pn_stepDelay {post : Int32 → St1 → Prop} (hp : p < 8) (cf : pn_cf x y) (b : pn_b x y σ) (M : pn_m σ a5 a6 a7 a8 a9) (hl : (σ p).1.length < 40) (hk : k p = 5)
    (H0 : pn_go k x y a σ p = none → post 0 (w, h, k, x, y, a, a5, a6, a7, a8, a9, a10, a11))
    (H1 : ∀ l b5 b6 b7 b8 b9, pn_go k x y a σ p = some l → pn_m (pn_up σ p l) b5 b6 b7 b8 b9 → post 1 (w, h, k, x, y, a, b5, b6, b7, b8, b9, a10, a11)) :
    wpX_stepDelay post (w, h, k, x, y, a, a5, a6, a7, a8, a9, a10, a11) (nI p) := by
  have cl : (nI p).toNatClampNeg = p := nI_clamp (by omega)
  obtain ⟨m5, m6, m7, m8, m9⟩ := M p hp
  unfold wpX_stepDelay
  dsimp only
  rw [cl, m5]
  refine ⟨pk_in p 8 hp, pk_eq (σ p).1.length 0 (fun z => ⟨pk_in p 8 hp, ?_⟩) (fun z => ?_)⟩
  · refine pn_make hp m5 hl ?_
    refine ⟨rfl, H1 _ _ _ _ _ _ ?_ (pn_m_mk b hl M (pn_ag_s m6) (pn_ag_s m7) (pn_ag_s m8))⟩
    unfold pn_go
    rw [hk]
    exact pn_st_5 z
  · refine pn_hasX hp cf b M (fun g => br_t rfl (H0 ?_)) (fun v g => br_f (by decide) ?_)
    · unfold pn_go
      rw [g, hk]
      exact pn_st_5x hl z
    · obtain ⟨n, hn, ex, hr, hv⟩ := pn_px hp cf b M g
      refine pn_takeX2 hp hn ex m6 hr hv ?_
      dsimp only
      refine pn_make hp m5 hl ?_
      refine ⟨rfl, H1 _ _ _ _ _ _ ?_ (pn_m_mk b hl M pn_ag_u (pn_ag_s m7) (pn_ag_s m8))⟩
      unfold pn_go
      rw [g, hk]
      exact pn_st_5s hl z
theorem pn_turn58 {post : Int32 → St1 → Prop} {m : Nat} {c : Int32} (hp : p < 8) (h5 : a5 p = nI m) (hm : m < 40)
    (H : post 1 (w, h, k, x, y, a, upd a5 p (nI (m + 1)), a6, a7, a8, upd a9 (p * 40 + m) c, a10, a11)) : wX_stepTurn_58 post (nI p) c w h k x y a a5 a6 a7 a8 a9 a10 a11 := by
  unfold wX_stepTurn_58
  exact pn_make hp h5 hm ⟨rfl, H⟩
theorem pn_stepTurn {post : Int32 → St1 → Prop} (hp : p < 8) (cf : pn_cf x y) (b : pn_b x y σ) (M : pn_m σ a5 a6 a7 a8 a9) (hl : (σ p).1.length < 40) (hk : k p = 3)
    (H0 : pn_go k x y a σ p = none → post 0 (w, h, k, x, y, a, a5, a6, a7, a8, a9, a10, a11))
    (H1 : ∀ l b5 b6 b7 b8 b9, pn_go k x y a σ p = some l → pn_m (pn_up σ p l) b5 b6 b7 b8 b9 → post 1 (w, h, k, x, y, a, b5, b6, b7, b8, b9, a10, a11)) :
    wpX_stepTurn post (w, h, k, x, y, a, a5, a6, a7, a8, a9, a10, a11) (nI p) := by
  have cl : (nI p).toNatClampNeg = p := nI_clamp (by omega)
  obtain ⟨m5, m6, m7, m8, m9⟩ := M p hp
  have e2 : nI (σ p).1.length &&& 1 = nI ((σ p).1.length % 2) := pk_andN (by omega) 1 (by decide)
  unfold wpX_stepTurn
  dsimp only
  rw [cl, m5, e2]
  refine ⟨pk_in p 8 hp, pk_eq ((σ p).1.length % 2) 0 (fun z => ?_) (fun z => ?_)⟩
  · unfold wX_stepTurn_16
    refine br_f (by decide) (pn_hasX hp cf b M (fun g => ?_) (fun v g => ?_))
    · unfold wX_stepTurn_34
      refine br_t rfl (H0 ?_)
      unfold pn_go
      rw [g, hk]
      exact pn_st_3x hl z
    · unfold wX_stepTurn_34
      obtain ⟨n, hn, ex, hr, hv⟩ := pn_px hp cf b M g
      refine br_f (by decide) (br_f (by decide) (pn_takeX2 hp hn ex m6 hr hv ?_))
      dsimp only
      refine pn_turn58 hp m5 hl (H1 _ _ _ _ _ _ ?_ (pn_m_mk b hl M pn_ag_u (pn_ag_s m7) (pn_ag_s m8)))
      unfold pn_go
      rw [g, hk]
      exact pn_st_3 hl z
  · unfold wX_stepTurn_16
    refine br_t rfl (pn_hasY hp cf b M (fun g => ?_) (fun v g => ?_))
    · unfold wX_stepTurn_34
      refine br_t rfl (H0 ?_)
      unfold pn_go
      rw [g, hk]
      exact pn_st_3y hl z
    · unfold wX_stepTurn_34
      obtain ⟨n, hn, ex, hr, hv⟩ := pn_py hp cf b M g
      refine br_f (by decide) (br_t rfl (pn_takeY hp hn ex m7 hr hv ?_))
      dsimp only
      refine pn_turn58 hp m5 hl (H1 _ _ _ _ _ _ ?_ (pn_m_mk b hl M (pn_ag_s m6) pn_ag_u (pn_ag_s m8)))
      unfold pn_go
      rw [g, hk]
      exact pn_st_3o hl z
theorem pn_pair129 {post : Int32 → St1 → Prop} {m : Nat} {c : Int32} (hp : p < 8) (h5 : a5 p = nI m) (hm : m < 40)
    (H : post 1 (w, h, k, x, y, a, upd a5 p (nI (m + 1)), a6, a7, a8, upd a9 (p * 40 + m) c, a10, a11)) : wX_stepPair_129 post (nI p) c w h k x y a a5 a6 a7 a8 a9 a10 a11 := by
  unfold wX_stepPair_129
  exact pn_make hp h5 hm ⟨rfl, H⟩
theorem pn_stepPair {post : Int32 → St1 → Prop} (hp : p < 8) (cf : pn_cf x y) (b : pn_b x y σ) (M : pn_m σ a5 a6 a7 a8 a9) (hl : (σ p).1.length < 40) (hk : k p = 2 ∨ k p = 6)
    (H0 : pn_go k x y a σ p = none → post 0 (w, h, k, x, y, a, a5, a6, a7, a8, a9, a10, a11))
    (H1 : ∀ l b5 b6 b7 b8 b9, pn_go k x y a σ p = some l → pn_m (pn_up σ p l) b5 b6 b7 b8 b9 → post 1 (w, h, k, x, y, a, b5, b6, b7, b8, b9, a10, a11)) :
    wpX_stepPair post (w, h, k, x, y, a, a5, a6, a7, a8, a9, a10, a11) (nI p) := by
  have cl : (nI p).toNatClampNeg = p := nI_clamp (by omega)
  obtain ⟨m5, m6, m7, m8, m9⟩ := M p hp
  have Z : pn_go k x y a σ p = none → wX_stepPair_20 post (nI p) w h k x y a a5 a6 a7 a8 a9 a10 a11 := by
    intro g
    unfold wX_stepPair_20 wX_stepPair_21
    exact br_t rfl (H0 g)
  unfold wpX_stepPair
  dsimp only
  refine pn_hasX hp cf b M (fun g => br_t rfl (Z ?_)) (fun u g => br_f (by decide) (pn_hasY hp cf b M (fun g' => br_t rfl (Z ?_)) (fun v g' => br_f (by decide) ?_)))
  · unfold pn_go
    rw [g]
    rcases hk with e | e
    · rw [e]
      exact pn_st_2x
    · rw [e]
      exact pn_st_6x hl
  · unfold pn_go
    rw [g']
    rcases hk with e | e
    · rw [e]
      exact pn_st_2y
    · rw [e]
      exact pn_st_6y hl
  · obtain ⟨n, hn, ex, hr, hv⟩ := pn_px hp cf b M g
    obtain ⟨n', hn', ex', hr', hv'⟩ := pn_py hp cf b M g'
    unfold wX_stepPair_21
    refine br_f (by decide) ⟨pk_in p 8 hp, ?_⟩
    rw [cl]
    rcases hk with e | e
    · refine br_t e (pn_takeX2 hp hn ex m6 hr hv ?_)
      dsimp only
      refine pn_takeY hp hn' ex' m7 hr' hv' ?_
      dsimp only
      refine pn_make hp m5 hl ?_
      refine ⟨rfl, H1 _ _ _ _ _ _ ?_ (pn_m_mk b hl M pn_ag_u pn_ag_u (pn_ag_s m8))⟩
      unfold pn_go
      rw [g, g', e]
      exact pn_st_2 hl
    · refine br_f (by rw [e]; decide) ?_
      rw [m6, m7, ex, ex', pn_ix, pn_ix, nI_clamp (show n * 40 + (σ p).2.1 < 2 ^ 31 by omega), nI_clamp (show n' * 40 + (σ p).2.2.1 < 2 ^ 31 by omega), hv, hv']
      refine ⟨pk_in p 8 hp, pk_in p 8 hp, pk_in (n * 40 + (σ p).2.1) 320 (by omega), pk_in p 8 hp, pk_in p 8 hp, pk_in (n' * 40 + (σ p).2.2.1) 320 (by omega), br_c (fun o => ?_) (fun o => ?_)⟩
      · unfold wX_stepPair_111
        refine br_t rfl (pn_takeY hp hn' ex' m7 hr' hv' ?_)
        dsimp only
        refine pn_pair129 hp m5 hl (H1 _ _ _ _ _ _ ?_ (pn_m_mk b hl M (pn_ag_s m6) pn_ag_u (pn_ag_s m8)))
        unfold pn_go
        rw [g, g', e]
        exact pn_st_6r hl o
      · unfold wX_stepPair_111
        refine br_f (by decide) (pn_takeX2 hp hn ex m6 hr hv ?_)
        dsimp only
        refine pn_pair129 hp m5 hl (H1 _ _ _ _ _ _ ?_ (pn_m_mk b hl M pn_ag_u (pn_ag_s m7) (pn_ag_s m8)))
        unfold pn_go
        rw [g, g', e]
        exact pn_st_6 hl o
theorem pn_step {post : Int32 → St1 → Prop} (hp : p < 8) (cf : pn_cf x y) (b : pn_b x y σ) (M : pn_m σ a5 a6 a7 a8 a9)
    (H0 : pn_go k x y a σ p = none → post 0 (w, h, k, x, y, a, a5, a6, a7, a8, a9, a10, a11))
    (H1 : ∀ l b5 b6 b7 b8 b9, pn_go k x y a σ p = some l → pn_m (pn_up σ p l) b5 b6 b7 b8 b9 → post 1 (w, h, k, x, y, a, b5, b6, b7, b8, b9, a10, a11)) :
    wpX_step post (w, h, k, x, y, a, a5, a6, a7, a8, a9, a10, a11) (nI p) := by
  have cl : (nI p).toNatClampNeg = p := nI_clamp (by omega)
  have b40 := (b p hp).1
  obtain ⟨m5, m6, m7, m8, m9⟩ := M p hp
  unfold wpX_step
  dsimp only
  rw [cl]
  refine ⟨pk_in p 8 hp, nm_r m5 (pk_lt (σ p).1.length 40 (fun z => ⟨pk_in p 8 hp, nm_e ?_⟩) (fun z => H0 (pn_st_40 z)))⟩
  refine br_c (fun e => ?_) (fun _ => br_c (fun e => ?_) (fun _ => br_c (fun e => ?_) (fun _ => br_c (fun e => ?_) (fun _ => br_c (fun e => ?_) (fun _ => br_c (fun e => ?_) (fun _ => br_c (fun e => ?_) (fun _ => br_c (fun e => ?_) (fun _ => br_c (fun e => ?_) (fun _ => trivial)))))))))
  · exact pn_stepSum hp cf b M z (pn_el_n e) (fun q => ⟨rfl, H0 q⟩) (fun l b5 b6 b7 b8 b9 q m => ⟨rfl, H1 l b5 b6 b7 b8 b9 q m⟩)
  · exact pn_stepSum hp cf b M z (pn_el_p e) (fun q => ⟨rfl, H0 q⟩) (fun l b5 b6 b7 b8 b9 q m => ⟨rfl, H1 l b5 b6 b7 b8 b9 q m⟩)
  · refine ⟨pk_in p 8 hp, pn_make hp m5 z ⟨rfl, H1 _ _ _ _ _ _ ?_ (pn_m_mk b z M (pn_ag_s m6) (pn_ag_s m7) (pn_ag_s m8))⟩⟩
    unfold pn_go
    rw [e]
    exact pn_st_0 z
  · refine pk_le 5 (σ p).1.length (fun o => H0 ?_) (fun o => ⟨pk_in p 8 hp, pn_make hp m5 z (br_f (by decide) (H1 _ _ _ _ _ _ ?_ (pn_m_mk b z M (pn_ag_s m6) (pn_ag_s m7) (pn_ag_s m8))))⟩)
    · unfold pn_go
      rw [e]
      exact pn_st_1n o
    · unfold pn_go
      rw [e]
      exact pn_st_1 o
  · unfold wX_step_109
    exact pn_stepPair hp cf b M z (Or.inl e) (fun q => ⟨rfl, H0 q⟩) (fun l b5 b6 b7 b8 b9 q m => ⟨rfl, H1 l b5 b6 b7 b8 b9 q m⟩)
  · exact pn_stepTurn hp cf b M z e (fun q => ⟨rfl, H0 q⟩) (fun l b5 b6 b7 b8 b9 q m => ⟨rfl, H1 l b5 b6 b7 b8 b9 q m⟩)
  · exact pn_stepOdd hp cf b M z e (fun q => ⟨rfl, H0 q⟩) (fun l b5 b6 b7 b8 b9 q m => ⟨rfl, H1 l b5 b6 b7 b8 b9 q m⟩)
  · exact pn_stepDelay hp cf b M z e (fun q => ⟨rfl, H0 q⟩) (fun l b5 b6 b7 b8 b9 q m => ⟨rfl, H1 l b5 b6 b7 b8 b9 q m⟩)
  · unfold wX_step_109
    exact pn_stepPair hp cf b M z (Or.inr e) (fun q => ⟨rfl, H0 q⟩) (fun l b5 b6 b7 b8 b9 q m => ⟨rfl, H1 l b5 b6 b7 b8 b9 q m⟩)
end
end
section
/-! A run of a process: its steps, then those that read it are woken. -/
section
variable {post : St1 → Prop} {w h : Int32} {k x y a a5 a6 a7 a8 a9 a10 a11 : Nat → Int32} {σ τ : Nat → pn_L} {p m : Nat} {Q : List Nat}
theorem pn_68 (hp : p < 8)
    (H : ∀ (w' : Int32) (b10 b11 : Nat → Int32) (Q' : List Nat), pn_q w' h b10 b11 Q' → (∀ j, j ∈ Q → j ∈ Q') → (∀ j, j < 8 → (x j = nI p ∨ y j = nI p) → j ∈ Q') → post (w', h, k, x, y, a, a5, a6, a7, a8, a9, b10, b11)) :
    ∀ (n i : Nat) (w : Int32) (a10 a11 : Nat → Int32) (Q' : List Nat), i ≤ 8 → 8 - i < n → pn_q w h a10 a11 Q' → (∀ j, j ∈ Q → j ∈ Q') → (∀ j, j < i → (x j = nI p ∨ y j = nI p) → j ∈ Q') → wX_run_68 post (nI p) n (nI i) w h k x y a a5 a6 a7 a8 a9 a10 a11 := by
  intro n
  induction n with
  | zero =>
    intro i w a10 a11 Q' hi hn
    exact absurd hn (Nat.not_lt_zero _)
  | succ n ih =>
    intro i w a10 a11 Q' hi hn q s r
    refine pk_le 8 i (fun z => H w a10 a11 Q' q s (fun j hj => r j (by omega))) (fun z => ?_)
    have cl : (nI i).toNatClampNeg = i := nI_clamp (by omega)
    have W : wX_run_97 post (wX_run_68 post (nI p) n) (nI p) (nI i) w h k x y a a5 a6 a7 a8 a9 a10 a11 := by
      unfold wX_run_97
      refine pn_wake (p := i) z q (fun w' b10 b11 Q2 q2 i2 s2 => ?_)
      dsimp only
      refine nm_r (nI_1 i) (ih (i + 1) w' b10 b11 Q2 (by omega) (by omega) q2 (fun j hj => s2 j (s j hj)) (fun j hj hx => ?_))
      by_cases e : j = i
      · rw [e]
        exact i2
      · exact s2 j (r j (by omega) hx)
    rw [cl]
    refine ⟨pk_in i 8 z, br_c (fun _ => W) (fun c1 => ⟨pk_in i 8 z, br_c (fun _ => W) (fun c2 => nm_r (nI_1 i) (ih (i + 1) w a10 a11 Q' (by omega) (by omega) q s (fun j hj hx => ?_)))⟩)⟩
    by_cases e : j = i
    · rw [e] at hx
      exact absurd hx (fun o => o.elim c1 c2)
    · exact r j (by omega) hx
/-- σ before the run, τ after its steps -/
theorem pn_54 {w1 : Int32} {Q1 : List Nat} (hp : p < 8) (cf : pn_cf x y) (d : ∀ j, j ≠ p → τ j = σ j) (ext : ∃ e, (τ p).1 = (σ p).1 ++ e) (b : pn_b x y σ) (b' : pn_b x y τ)
    (M : pn_m τ a5 a6 a7 a8 a9) (q : pn_q w1 h a10 a11 Q1) (s : ∀ j, j ∈ Q → j ∈ Q1) (hs : p ∈ Q1 ∨ pn_go k x y a τ p = none)
    (st : ∀ j, j < 8 → j ≠ p → j ∉ Q → pn_go k x y a σ j = none) (hm : m = 120 → w1 = w)
    (H : ∀ (w' : Int32) (b10 b11 : Nat → Int32) (Q' : List Nat), pn_q w' h b10 b11 Q' → (∀ j, j < 8 → j ∉ Q' → pn_go k x y a τ j = none) → (m = 120 → (pn_tt σ 8 < pn_tt τ 8 ∨ (pn_tt τ 8 = pn_tt σ 8 ∧ w' = w))) → post (w', h, k, x, y, a, a5, a6, a7, a8, a9, b10, b11)) :
    wX_run_54 post (nI p) (nI (σ p).1.length) w1 h k x y a a5 a6 a7 a8 a9 a10 a11 := by
  have cl : (nI p).toNatClampNeg = p := nI_clamp (by omega)
  obtain ⟨e, he⟩ := ext
  have lb := (b p hp).1
  have lb' := (b' p hp).1
  have ll : (τ p).1.length = (σ p).1.length + e.length := by rw [he, List.length_append]
  have T := (pn_tt_d d 8).2 hp
  unfold wX_run_54
  rw [cl, (M p hp).1]
  refine ⟨pk_in p 8 hp, pk_eq (τ p).1.length (σ p).1.length (fun z => ?_) (fun z => ?_)⟩
  · refine H w1 a10 a11 Q1 q (fun j hj nj => ?_) (fun h120 => Or.inr ⟨by omega, hm h120⟩)
    have e0 : e = [] := List.length_eq_zero_iff.mp (by omega)
    have sm : ∀ j, (τ j).1 = (σ j).1 := by
      intro j
      by_cases ej : j = p
      · rw [ej, he, e0, List.append_nil]
      · rw [d j ej]
    by_cases ej : j = p
    · rw [ej]
      rw [ej] at nj
      exact hs.elim (fun o => absurd o nj) (fun o => o)
    · rw [pn_keep (d j ej) (sm _) (sm _)]
      exact st j hj ej (fun o => nj (s j o))
  · refine ⟨9, pn_68 (Q := Q1) hp (fun w' b10 b11 Q' q' s' r' => ?_) 9 0 w1 a10 a11 Q1 (by omega) (by omega) q (fun j hj => hj) (fun j hj => absurd hj (Nat.not_lt_zero j))⟩
    refine H w' b10 b11 Q' q' (fun j hj nj => ?_) (fun h120 => Or.inl (by omega))
    by_cases ej : j = p
    · rw [ej]
      rw [ej] at nj
      exact hs.elim (fun o => absurd (s' p o) nj) (fun o => o)
    · obtain ⟨⟨nx, hnx, ex⟩, ⟨ny, hny, ey⟩⟩ := cf j hj
      have fx : (x j).toNatClampNeg ≠ p := by
        rw [ex, nI_clamp (by omega)]
        intro o
        exact nj (r' j hj (Or.inl (by rw [ex, o])))
      have fy : (y j).toNatClampNeg ≠ p := by
        rw [ey, nI_clamp (by omega)]
        intro o
        exact nj (r' j hj (Or.inr (by rw [ey, o])))
      rw [pn_keep (d j ej) (by rw [d _ fx]) (by rw [d _ fy])]
      exact st j hj ej (fun o => nj (s' j (s j o)))
theorem pn_44 {x4 : Int32} (hp : p < 8) (cf : pn_cf x y) (d : ∀ j, j ≠ p → τ j = σ j) (ext : ∃ e, (τ p).1 = (σ p).1 ++ e) (b : pn_b x y σ) (b' : pn_b x y τ)
    (M : pn_m τ a5 a6 a7 a8 a9) (q : pn_q w h a10 a11 Q) (hx : (x4 = 1 ∧ m ≠ 120) ∨ (x4 = 0 ∧ pn_go k x y a τ p = none))
    (st : ∀ j, j < 8 → j ≠ p → j ∉ Q → pn_go k x y a σ j = none)
    (H : ∀ (w' : Int32) (b10 b11 : Nat → Int32) (Q' : List Nat), pn_q w' h b10 b11 Q' → (∀ j, j < 8 → j ∉ Q' → pn_go k x y a τ j = none) → (m = 120 → (pn_tt σ 8 < pn_tt τ 8 ∨ (pn_tt τ 8 = pn_tt σ 8 ∧ w' = w))) → post (w', h, k, x, y, a, a5, a6, a7, a8, a9, b10, b11)) :
    wX_run_44 post (nI p) (nI (σ p).1.length) x4 w h k x y a a5 a6 a7 a8 a9 a10 a11 := by
  unfold wX_run_44
  rcases hx with ⟨e, nm⟩ | ⟨e, g⟩
  · refine br_f (by rw [e]; decide) (pn_wake hp q (fun w1 b10 b11 Q1 q1 i1 s1 => ?_))
    dsimp only
    exact pn_54 hp cf d ext b b' M q1 s1 (Or.inl i1) st (fun z => absurd z nm) H
  · exact br_t e (pn_54 hp cf d ext b b' M q (fun j hj => hj) (Or.inr g) st (fun _ => rfl) H)
theorem pn_13 (hp : p < 8) (hm : m ≤ 120) (cf : pn_cf x y) (b : pn_b x y σ) (q : pn_q w h a10 a11 Q)
    (st : ∀ j, j < 8 → j ≠ p → j ∉ Q → pn_go k x y a σ j = none)
    (H : ∀ (w' : Int32) (b5 b6 b7 b8 b9 b10 b11 : Nat → Int32) (τ : Nat → pn_L) (Q' : List Nat), pn_R k x y a τ → pn_m τ b5 b6 b7 b8 b9 → pn_q w' h b10 b11 Q' → (∀ j, j < 8 → j ∉ Q' → pn_go k x y a τ j = none) → (m = 120 → (pn_tt σ 8 < pn_tt τ 8 ∨ (pn_tt τ 8 = pn_tt σ 8 ∧ w' = w))) → post (w', h, k, x, y, a, b5, b6, b7, b8, b9, b10, b11)) :
    ∀ (n i : Nat) (x4 : Int32) (a5 a6 a7 a8 a9 : Nat → Int32) (τ : Nat → pn_L), i ≤ 120 → 120 - i < n → pn_R k x y a τ → pn_m τ a5 a6 a7 a8 a9 → (∀ j, j ≠ p → τ j = σ j) → (∃ e, (τ p).1 = (σ p).1 ++ e) →
      ((x4 = 1 ∧ i ≤ (τ p).1.length + (τ p).2.1) ∨ (x4 = 0 ∧ pn_go k x y a τ p = none)) → wX_run_13 post (nI p) (nI m) (nI (σ p).1.length) n x4 (nI i) w h k x y a a5 a6 a7 a8 a9 a10 a11 := by
  intro n
  induction n with
  | zero =>
    intro i x4 a5 a6 a7 a8 a9 τ hi hn
    exact absurd hn (Nat.not_lt_zero _)
  | succ n ih =>
    intro i x4 a5 a6 a7 a8 a9 τ hi hn R M d ext hx
    have b' := pn_bR R
    have E : (m ≤ i ∨ 120 ≤ i ∨ x4 = 0) → wX_run_44 post (nI p) (nI (σ p).1.length) x4 w h k x y a a5 a6 a7 a8 a9 a10 a11 := by
      intro o
      refine pn_44 (m := m) hp cf d ext b b' M q ?_ st (fun w' b10 b11 Q' q' s' t' => H w' a5 a6 a7 a8 a9 b10 b11 τ Q' R M q' s' t')
      rcases hx with ⟨e, hc⟩ | hx
      · refine Or.inl ⟨e, fun z => ?_⟩
        have l1 := (b' p hp).1
        have l2 := (b' p hp).2.1
        obtain ⟨⟨nx, hnx, ex⟩, _⟩ := cf p hp
        rw [ex, nI_clamp (by omega)] at l2
        have l3 := (b' nx hnx).1
        rcases o with o | o | o
        · omega
        · omega
        · rw [e] at o
          exact absurd o (by decide)
      · exact Or.inr hx
    refine pk_le m i (fun z => E (Or.inl z)) (fun z => pk_le 120 i (fun z2 => E (Or.inr (Or.inl z2))) (fun z2 => br_c (fun z3 => E (Or.inr (Or.inr z3))) (fun z3 => ?_)))
    have hx' : x4 = 1 ∧ i ≤ (τ p).1.length + (τ p).2.1 := by
      rcases hx with hx | hx
      · exact hx
      · exact absurd hx.1 z3
    refine pn_step hp cf b' M (fun g => ?_) (fun l b5 b6 b7 b8 b9 g M' => ?_)
    · dsimp only
      exact nm_r (nI_1 i) (ih (i + 1) 0 a5 a6 a7 a8 a9 τ (by omega) (by omega) R M d ext (Or.inr ⟨rfl, g⟩))
    · dsimp only
      obtain ⟨h40, e, i1, j1, t, hl, he, h1, _, _⟩ := pn_shape g
      refine nm_r (nI_1 i) (ih (i + 1) 1 b5 b6 b7 b8 b9 (pn_up τ p l) (by omega) (by omega) (pn_R_s R hp g) M' (fun j hj => ?_) ?_ (Or.inl ⟨rfl, ?_⟩))
      · rw [pn_un hj]
        exact d j hj
      · obtain ⟨e0, he0⟩ := ext
        obtain ⟨e2, he2⟩ := pn_ext g p
        exact ⟨e0 ++ e2, by rw [he2, he0, List.append_assoc]⟩
      · rw [pn_us, hl]
        show i + 1 ≤ ((τ p).1 ++ e).length + ((τ p).2.1 + i1)
        rw [List.length_append]
        have := hx'.2
        omega
theorem pn_run (hp : p < 8) (hm : m ≤ 120) (cf : pn_cf x y) (R : pn_R k x y a σ) (M : pn_m σ a5 a6 a7 a8 a9) (q : pn_q w h a10 a11 Q)
    (st : ∀ j, j < 8 → j ≠ p → j ∉ Q → pn_go k x y a σ j = none)
    (H : ∀ (w' : Int32) (b5 b6 b7 b8 b9 b10 b11 : Nat → Int32) (τ : Nat → pn_L) (Q' : List Nat), pn_R k x y a τ → pn_m τ b5 b6 b7 b8 b9 → pn_q w' h b10 b11 Q' → (∀ j, j < 8 → j ∉ Q' → pn_go k x y a τ j = none) → (m = 120 → (pn_tt σ 8 < pn_tt τ 8 ∨ (pn_tt τ 8 = pn_tt σ 8 ∧ w' = w))) → post (w', h, k, x, y, a, b5, b6, b7, b8, b9, b10, b11)) :
    wpX_run post (w, h, k, x, y, a, a5, a6, a7, a8, a9, a10, a11) (nI p) (nI m) := by
  have cl : (nI p).toNatClampNeg = p := nI_clamp (by omega)
  unfold wpX_run
  dsimp only
  rw [cl]
  exact ⟨pk_in p 8 hp, nm_r (M p hp).1 ⟨121, pn_13 hp hm cf (pn_bR R) q st H 121 0 1 a5 a6 a7 a8 a9 σ (by omega) (by omega) R M (fun j _ => rfl) ⟨[], by simp⟩ (Or.inl ⟨rfl, Nat.zero_le _⟩)⟩⟩
end
end
section
/-! An object: restart, settle, the questions. -/
section
variable {w h : Int32} {k x y a a5 a6 a7 a8 a9 a10 a11 : Nat → Int32} {σ : Nat → pn_L} {p m : Nat} {Q : List Nat} {u : St1}
/-- an object of the setting k x y a: it stands somewhere on the way, and whoever isn't listed can't go on -/
def pn_I (k x y a : Nat → Int32) (u : St1) : Prop :=
  ∃ (w h : Int32) (a5 a6 a7 a8 a9 a10 a11 : Nat → Int32) (σ : Nat → pn_L) (Q : List Nat), u = (w, h, k, x, y, a, a5, a6, a7, a8, a9, a10, a11) ∧ pn_cf x y ∧ pn_R k x y a σ ∧ pn_m σ a5 a6 a7 a8 a9 ∧ pn_q w h a10 a11 Q ∧ (∀ j, j < 8 → j ∉ Q → pn_go k x y a σ j = none)
theorem pn_bad {post : Int32 → Prop} {v : St2} (hp : p < 8) (H : post 0) : wpX_bad post v (nI p) := by
  unfold wpX_bad
  exact br_f (nI_pos (by omega)) (pk_lt p 8 (fun _ => H) (fun z => absurd z (by omega)))
theorem pn_re61 {post : St1 → Prop} (cf : pn_cf x y) (M : pn_m pn_0 a5 a6 a7 a8 a9) (H : ∀ u, pn_I k x y a u → post u) :
    ∀ (n i : Nat) (w : Int32) (a10 a11 : Nat → Int32) (Q : List Nat), i ≤ 8 → 8 - i < n → pn_q w h a10 a11 Q → (∀ j, j < i → j ∈ Q) → wX_restart_61 post n (nI i) w h k x y a a5 a6 a7 a8 a9 a10 a11 := by
  intro n
  induction n with
  | zero =>
    intro i w a10 a11 Q hi hn
    exact absurd hn (Nat.not_lt_zero _)
  | succ n ih =>
    intro i w a10 a11 Q hi hn q s
    refine pk_le 8 i (fun z => H _ ⟨w, h, a5, a6, a7, a8, a9, a10, a11, pn_0, Q, rfl, cf, pn_R_0, M, q, fun j hj nj => absurd (s j (by omega)) nj⟩) (fun z => ?_)
    refine pn_wake (p := i) z q (fun w' b10 b11 Q' q' i' s' => ?_)
    dsimp only
    refine nm_r (nI_1 i) (ih (i + 1) w' b10 b11 Q' (by omega) (by omega) q' (fun j hj => ?_))
    by_cases e : j = i
    · rw [e]
      exact i'
    · exact s' j (s j (by omega))
theorem pn_re12 {post : St1 → Prop} (cf : pn_cf x y) (H : ∀ u, pn_I k x y a u → post u) :
    ∀ (n i : Nat) (a5 a6 a7 a8 a11 : Nat → Int32), i ≤ 8 → 8 - i < n → (∀ j, j < i → a5 j = 0 ∧ a6 j = 0 ∧ a7 j = 0 ∧ a8 j = 0 ∧ a11 j = 0) → wX_restart_12 post 0 0 n (nI i) k x y a a5 a6 a7 a8 a9 a10 a11 := by
  intro n
  induction n with
  | zero =>
    intro i a5 a6 a7 a8 a11 hi hn
    exact absurd hn (Nat.not_lt_zero _)
  | succ n ih =>
    intro i a5 a6 a7 a8 a11 hi hn s
    have cl : (nI i).toNatClampNeg = i := nI_clamp (by omega)
    refine pk_le 8 i (fun z => ⟨9, ?_⟩) (fun z => ?_)
    · refine pn_re61 (h := 0) cf (fun p hp => ?_) H 9 0 0 a10 a11 [] (by omega) (by omega) ⟨0, by omega, rfl, rfl, by simp, (fun j hj => absurd hj (by simp)), (fun i j hj => absurd hj (by simp)), fun j hj => ⟨fun o => absurd o (by simp), fun _ => (s j (by omega)).2.2.2.2⟩⟩ (fun j hj => absurd hj (Nat.not_lt_zero j))
      obtain ⟨s1, s2, s3, s4, _⟩ := s p (by omega)
      exact ⟨s1, s2, s3, s4, fun i v hv => absurd hv (by simp [pn_0])⟩
    · rw [cl]
      refine ⟨pk_in i 8 z, nm_e ⟨pk_in i 8 z, nm_e ⟨pk_in i 8 z, nm_e ⟨pk_in i 8 z, nm_e ⟨pk_in i 8 z, nm_e (nm_r (nI_1 i) (ih (i + 1) _ _ _ _ _ (by omega) (by omega) (fun j hj => ?_)))⟩⟩⟩⟩⟩
      by_cases e : j = i
      · rw [e, pk_us, pk_us, pk_us, pk_us, pk_us]
        exact ⟨rfl, rfl, rfl, rfl, rfl⟩
      · rw [pk_un e, pk_un e, pk_un e, pk_un e, pk_un e]
        exact s j (by omega)
theorem pn_restart {post : St1 → Prop} (cf : pn_cf x y) (H : ∀ u, pn_I k x y a u → post u) : wpX_restart post (w, h, k, x, y, a, a5, a6, a7, a8, a9, a10, a11) := by
  unfold wpX_restart
  dsimp only
  exact ⟨9, pn_re12 cf H 9 0 a5 a6 a7 a8 a11 (by omega) (by omega) (fun j hj => absurd hj (Nat.not_lt_zero j))⟩
def pn_kk : Nat → Nat → Int32
  | 0 => fun _ => 0
  | n + 1 => upd (pn_kk n) n 1
theorem pn_cf0 : pn_cf (fun _ => 0) (fun _ => 0) := fun _ _ => ⟨⟨0, by omega, rfl⟩, ⟨0, by omega, rfl⟩⟩
theorem pn_init95 {post : St1 → Prop} {mc ms kc ks : Nat} (H : ∀ u, pn_I (pn_kk 8) (fun _ => 0) (fun _ => 0) (fun _ => 0) u → post u) :
    ∀ (n i : Nat), i ≤ 8 → 8 - i < n → wX_init_95 post mc ms kc ks w h n (nI i) (pn_kk i) (fun _ => 0) (fun _ => 0) (fun _ => 0) a5 a6 a7 a8 a9 a10 a11 := by
  intro n
  induction n with
  | zero =>
    intro i hi hn
    exact absurd hn (Nat.not_lt_zero _)
  | succ n ih =>
    intro i hi hn
    have cl : (nI i).toNatClampNeg = i := nI_clamp (by omega)
    refine pk_le 8 i (fun z => ?_) (fun z => ?_)
    · have e : i = 8 := by omega
      rw [e]
      refine pn_restart pn_cf0 (fun u I => ?_)
      obtain ⟨c0, c1, c2, c3, c4, c5, c6, c7, c8, c9, c10, c11, c12⟩ := u
      exact H _ I
    · rw [cl]
      exact ⟨pk_in i 8 z, nm_e (nm_r (nI_1 i) (ih (i + 1) (by omega) (by omega)))⟩
theorem pn_init {post : St1 → Prop} (H : ∀ u, pn_I (pn_kk 8) (fun _ => 0) (fun _ => 0) (fun _ => 0) u → post u) : wpX_init post 11 400 (0, 0) := by
  unfold wpX_init
  dsimp only
  refine ⟨by omega, by omega, by omega, by omega, by omega, by omega, by omega, by omega, by omega, by omega, by omega, by omega, by omega, by omega, by omega, by omega, by omega, by omega, by omega, by omega, by omega, by omega, 9, ?_⟩
  exact pn_init95 H 9 0 (by omega) (by omega)
theorem pn_cf_u {v c : Int32} (cf : pn_cf x y) : pn_cf (upd x p (v &&& 7)) (upd y p (c &&& 7)) := by
  intro j hj
  by_cases e : j = p
  · rw [e, pk_us, pk_us]
    exact ⟨pk_andE v 3 (by decide), pk_andE c 3 (by decide)⟩
  · rw [pk_un e, pk_un e]
    exact cf j hj
theorem pn_set {post : Int32 → St1 → Prop} {kk : Nat} {v c : Int32} (hp : p < 8) (hk : kk < 8) (I : pn_I k x y a u)
    (H : ∀ u', pn_I (upd k p (nI kk)) (upd x p (v &&& 7)) (upd y p ((v >>> ((3 : Int32) &&& 31)) &&& 7)) (upd a p c) u' → post 0 u') : wpX_set post u (nI p) (nI kk) v c := by
  have cl : (nI p).toNatClampNeg = p := nI_clamp (by omega)
  obtain ⟨w, h, a5, a6, a7, a8, a9, a10, a11, σ, Q, e, cf, _⟩ := I
  subst e
  unfold wpX_set
  dsimp only
  rw [cl]
  refine pn_bad hp (br_t rfl (br_f (nI_pos (by omega)) (pk_le kk 7 (fun _ => ?_) (fun z => absurd z (by omega)))))
  refine ⟨pk_in p 8 hp, nm_e ⟨pk_in p 8 hp, nm_e ⟨pk_in p 8 hp, nm_e ⟨pk_in p 8 hp, nm_e (pn_restart (pn_cf_u cf) (fun u' I' => ?_))⟩⟩⟩⟩
  obtain ⟨c0, c1, c2, c3, c4, c5, c6, c7, c8, c9, c10, c11, c12⟩ := u'
  exact H _ I'
theorem pn_settle2 {post : St1 → Prop} (cf : pn_cf x y)
    (H : ∀ (w h : Int32) (a5 a6 a7 a8 a9 a10 a11 : Nat → Int32) (σ : Nat → pn_L), pn_F k x y a σ → pn_m σ a5 a6 a7 a8 a9 → pn_q w h a10 a11 [] → post (w, h, k, x, y, a, a5, a6, a7, a8, a9, a10, a11)) :
    ∀ (n i : Nat) (w h : Int32) (a5 a6 a7 a8 a9 a10 a11 : Nat → Int32) (σ : Nat → pn_L) (Q : List Nat), pn_R k x y a σ → pn_m σ a5 a6 a7 a8 a9 → pn_q w h a10 a11 Q → (∀ j, j < 8 → j ∉ Q → pn_go k x y a σ j = none) →
      i + (Q.length + 8 * (320 - pn_tt σ 8)) ≤ 2568 → Q.length + 8 * (320 - pn_tt σ 8) < n → wX_settle_2 post n (nI i) w h k x y a a5 a6 a7 a8 a9 a10 a11 := by
  intro n
  induction n with
  | zero =>
    intro i w h a5 a6 a7 a8 a9 a10 a11 σ Q R M q st hi hn
    exact absurd hn (Nat.not_lt_zero _)
  | succ n ih =>
    intro i w h a5 a6 a7 a8 a9 a10 a11 σ Q R M q st hi hn
    refine pk_le 4000 i (fun z => absurd z (by omega)) (fun _ => br_c (fun z => ?_) (fun z => ?_))
    · have e := pn_q_nil q z
      subst e
      exact H w h a5 a6 a7 a8 a9 a10 a11 σ ⟨R, fun j hj => st j hj (by simp)⟩ M q
    · obtain ⟨p, Q', Hd, eQ, hp, np, h8, eh, r0, q'⟩ := pn_pop q z
      have lq := (pn_q_len q').1
      have eq1 := (pn_q_len q').2
      have ch : h.toNatClampNeg = Hd := pk_cl Hd eh
      have lQ : Q.length = Q'.length + 1 := by rw [eQ]; rfl
      have cl : (nI p).toNatClampNeg = p := nI_clamp (by omega)
      refine ⟨pk_in Hd 8 h8 eh, nm_r (e' := nI p) (by rw [ch, r0]) (nm_e (nm_e ⟨pk_in p 8 hp, nm_r (e' := upd a11 p 0) (by rw [cl]) ?_⟩))⟩
      refine pn_run (m := 120) hp (by omega) cf R M q' (fun j hj jp jn => st j hj (fun o => ?_)) (fun w' b5 b6 b7 b8 b9 b10 b11 τ Q2 R2 M2 q2 s2 t2 => ?_)
      · rw [eQ] at o
        rcases List.mem_cons.mp o with o | o
        · exact jp o
        · exact jn o
      · dsimp only
        have l2 := (pn_q_len q2).1
        have e2 := (pn_q_len q2).2
        have bt : pn_tt τ 8 ≤ 40 * 8 := pn_tt_b 8 (fun j hj => (pn_bR R2 j hj).1)
        have mu : Q2.length + 8 * (320 - pn_tt τ 8) < Q.length + 8 * (320 - pn_tt σ 8) := by
          rcases t2 rfl with t | ⟨t, tw⟩
          · omega
          · rw [e2, eq1] at tw
            have tl := (nI_eq (by omega) (by omega)).mp tw
            omega
        exact nm_r (nI_1 i) (ih (i + 1) w' _ b5 b6 b7 b8 b9 b10 b11 τ Q2 R2 M2 q2 s2 (by omega) (by omega))
theorem pn_settle {post : St1 → Prop} (I : pn_I k x y a u)
    (H : ∀ (w h : Int32) (a5 a6 a7 a8 a9 a10 a11 : Nat → Int32) (σ : Nat → pn_L), pn_I k x y a (w, h, k, x, y, a, a5, a6, a7, a8, a9, a10, a11) → pn_F k x y a σ → pn_m σ a5 a6 a7 a8 a9 → post (w, h, k, x, y, a, a5, a6, a7, a8, a9, a10, a11)) : wpX_settle post u := by
  obtain ⟨w, h, a5, a6, a7, a8, a9, a10, a11, σ, Q, e, cf, R, M, q, st⟩ := I
  subst e
  unfold wpX_settle
  dsimp only
  have l8 := (pn_q_len q).1
  refine ⟨_, pn_settle2 cf (fun w h a5 a6 a7 a8 a9 a10 a11 σ F M q => ?_) _ 0 w h a5 a6 a7 a8 a9 a10 a11 σ Q R M q st (by omega) (Nat.lt_succ_self _)⟩
  exact H w h a5 a6 a7 a8 a9 a10 a11 σ ⟨w, h, a5, a6, a7, a8, a9, a10, a11, σ, [], rfl, cf, F.1, M, q, fun j hj _ => F.2 j hj⟩ F M
theorem pn_length {post : Int32 → St1 → Prop} (hp : p < 8) (I : pn_I k x y a u) (H : ∀ σ u', pn_I k x y a u' → pn_F k x y a σ → post (nI (σ p).1.length) u') : wpX_length post u (nI p) := by
  have cl : (nI p).toNatClampNeg = p := nI_clamp (by omega)
  obtain ⟨c0, c1, c2, c3, c4, c5, c6, c7, c8, c9, c10, c11, c12⟩ := u
  unfold wpX_length
  dsimp only
  refine pn_bad hp (br_t rfl (pn_settle I (fun w h a5 a6 a7 a8 a9 a10 a11 σ I' F M => ?_)))
  dsimp only
  rw [cl, (M p hp).1]
  exact ⟨pk_in p 8 hp, H σ _ I' F⟩
theorem pn_item {post : Int32 → St1 → Prop} {i : Nat} (hp : p < 8) (hi : i < 40) (I : pn_I k x y a u) (H : ∀ σ u', pn_I k x y a u' → pn_F k x y a σ → post (((σ p).1[i]?).getD (-3)) u') : wpX_item post u (nI p) (nI i) := by
  have cl : (nI p).toNatClampNeg = p := nI_clamp (by omega)
  obtain ⟨c0, c1, c2, c3, c4, c5, c6, c7, c8, c9, c10, c11, c12⟩ := u
  unfold wpX_item
  dsimp only
  refine pn_bad hp (br_t rfl (pn_settle I (fun w h a5 a6 a7 a8 a9 a10 a11 σ I' F M => ?_)))
  have lb := (pn_bR F.1 p hp).1
  dsimp only
  rw [cl, (M p hp).1, pn_ix, nI_clamp (show p * 40 + i < 2 ^ 31 by omega)]
  refine br_f (nI_pos (by omega)) ⟨pk_in p 8 hp, pk_lt i (σ p).1.length (fun z => ⟨pk_in (p * 40 + i) 320 (by omega), ?_⟩) (fun z => ?_)⟩
  · have t := H σ _ I' F
    obtain ⟨v, hv⟩ := pn_some_lt z
    rw [hv] at t
    rw [(M p hp).2.2.2.2 i v hv]
    exact t
  · have t := H σ _ I' F
    rw [pn_le_none z] at t
    exact t
theorem pn_same39 {post : Int32 → St1 → Prop} {l : Nat} (hp : p < 8) (hl : l ≤ 40) (h5 : a5 p = nI l) (H : post 1 (w, h, k, x, y, a, a5, a6, a7, a8, a9, a10, a11)) :
    ∀ (n i : Nat), i ≤ l → l - i < n → wX_same_39 post (nI p) (nI p) w h k x y a a5 a6 a7 a8 a9 a10 a11 n (nI i) := by
  have cl : (nI p).toNatClampNeg = p := nI_clamp (by omega)
  intro n
  induction n with
  | zero =>
    intro i hi hn
    exact absurd hn (Nat.not_lt_zero _)
  | succ n ih =>
    intro i hi hn
    unfold wX_same_39
    rw [cl, h5, pn_ix]
    exact ⟨pk_in p 8 hp, pk_le l i (fun _ => H) (fun z => ⟨pk_in (p * 40 + i) 320 (by omega), pk_in (p * 40 + i) 320 (by omega), br_t rfl (nm_r (nI_1 i) (ih (i + 1) (by omega) (by omega)))⟩)⟩
theorem pn_same {post : Int32 → St1 → Prop} (hp : p < 8) (I : pn_I k x y a u) (H : ∀ u', pn_I k x y a u' → post 1 u') : wpX_same post u (nI p) (nI p) := by
  have cl : (nI p).toNatClampNeg = p := nI_clamp (by omega)
  obtain ⟨c0, c1, c2, c3, c4, c5, c6, c7, c8, c9, c10, c11, c12⟩ := u
  unfold wpX_same
  dsimp only
  refine pn_bad hp (br_t rfl (pn_bad hp (br_t rfl (pn_settle I (fun w h a5 a6 a7 a8 a9 a10 a11 σ I' F M => ?_)))))
  dsimp only
  exact ⟨pk_in p 8 hp, pk_in p 8 hp, br_t rfl ⟨_, pn_same39 hp (pn_bR F.1 p hp).1 (M p hp).1 (H _ I') _ 0 (Nat.zero_le _) (Nat.lt_succ_self _)⟩⟩
theorem pn_fire {post : Int32 → St1 → Prop} (hp : p < 8) (hm : m ≤ 120) (I : pn_I k x y a u) (H : ∀ u', pn_I k x y a u' → post 0 u') : wpX_fire post u (nI p) (nI m) := by
  obtain ⟨w, h, a5, a6, a7, a8, a9, a10, a11, σ, Q, e, cf, R, M, q, st⟩ := I
  subst e
  unfold wpX_fire
  dsimp only
  refine pn_bad hp (br_t rfl (pn_run hp hm cf R M q (fun j hj _ nj => st j hj nj) (fun w' b5 b6 b7 b8 b9 b10 b11 τ Q2 R2 M2 q2 s2 _ => ?_)))
  exact H _ ⟨w', h, b5, b6, b7, b8, b9, b10, b11, τ, Q2, rfl, cf, R2, M2, q2, s2⟩
end
end
section
/-! The law. -/
section
variable {k x y a xs : Nat → Int32} {σ : Nat → pn_L} {p X Y L kc ks : Nat}
theorem pn_cell {post : Int32 → Prop} {v : St2} {c : Nat} (hL : L ≤ 260) (hc : c < 2) (H : ∀ r, post r) : wpL_cell post L xs v (nI c) := by
  unfold wpL_cell
  exact pk_le L c (fun _ => H 0) (fun z => ⟨pk_in c L z, H _⟩)
theorem pn_least {post : Int32 → Prop} {v : St2} {c d : Nat} (hc : c < 2 ^ 31) (hd : d < 2 ^ 31) (H : post (nI (min c d))) : wpL_least post v (nI c) (nI d) := by
  unfold wpL_least
  refine pk_le d c (fun z => ?_) (fun z => ?_)
  · rw [Nat.min_eq_right z] at H
    exact H
  · rw [Nat.min_eq_left (by omega)] at H
    exact H
theorem pn_438 : ∀ (n i : Nat) (c0 c1 : Int32) (c2 c3 c4 c5 c6 c7 c8 c9 c10 c11 c12 : Nat → Int32), i ≤ 8 → 8 - i < n → pn_I k x y a (c0, c1, c2, c3, c4, c5, c6, c7, c8, c9, c10, c11, c12) → wL_law_438 (fun r => r = 1) L xs kc ks n (nI i) c0 c1 c2 c3 c4 c5 c6 c7 c8 c9 c10 c11 c12 := by
  intro n
  induction n with
  | zero =>
    intro i c0 c1 c2 c3 c4 c5 c6 c7 c8 c9 c10 c11 c12 hi hn
    exact absurd hn (Nat.not_lt_zero _)
  | succ n ih =>
    intro i c0 c1 c2 c3 c4 c5 c6 c7 c8 c9 c10 c11 c12 hi hn I
    refine pk_le 8 i (fun _ => rfl) (fun z => ?_)
    refine pn_length z I (fun σ u1 I1 F => ?_)
    obtain ⟨d0, d1, d2, d3, d4, d5, d6, d7, d8, d9, d10, d11, d12⟩ := u1
    dsimp only
    refine pn_fire (m := 40) z (by omega) I1 (fun u2 I2 => ?_)
    obtain ⟨e0, e1, e2, e3, e4, e5, e6, e7, e8, e9, e10, e11, e12⟩ := u2
    dsimp only
    refine pn_length z I2 (fun τ u3 I3 G => ?_)
    obtain ⟨f0, f1, f2, f3, f4, f5, f6, f7, f8, f9, f10, f11, f12⟩ := u3
    dsimp only
    have lb := (pn_bR F.1 i z).1
    rw [pn_uniq G F]
    exact br_t rfl (br_f (nI_pos (by omega)) (pk_le (σ i).1.length 40 (fun _ => nm_r (nI_1 i) (ih (i + 1) _ _ _ _ _ _ _ _ _ _ _ _ _ (by omega) (by omega) I3)) (fun z => absurd z (by omega))))
theorem pn_390 (hp : p < 8) (hX : X < 8) (hY : Y < 8) (F : pn_F k x y a σ) (hs : ∀ i, i < (σ p).1.length → ∃ u v, (σ X).1[i]? = some u ∧ (σ Y).1[i]? = some v ∧ (σ p).1[i]? = some (u + v)) :
    ∀ (n i : Nat) (c0 c1 : Int32) (c2 c3 c4 c5 c6 c7 c8 c9 c10 c11 c12 : Nat → Int32), i ≤ (σ p).1.length → (σ p).1.length - i < n → pn_I k x y a (c0, c1, c2, c3, c4, c5, c6, c7, c8, c9, c10, c11, c12) → wL_law_390 (fun r => r = 1) L xs (nI p) (nI X) (nI Y) kc ks n (nI i) c0 c1 c2 c3 c4 c5 c6 c7 c8 c9 c10 c11 c12 := by
  have lb := (pn_bR F.1 p hp).1
  intro n
  induction n with
  | zero =>
    intro i c0 c1 c2 c3 c4 c5 c6 c7 c8 c9 c10 c11 c12 hi hn
    exact absurd hn (Nat.not_lt_zero _)
  | succ n ih =>
    intro i c0 c1 c2 c3 c4 c5 c6 c7 c8 c9 c10 c11 c12 hi hn I
    unfold wL_law_390
    refine pn_length hp I (fun τ u1 I1 G => ?_)
    obtain ⟨d0, d1, d2, d3, d4, d5, d6, d7, d8, d9, d10, d11, d12⟩ := u1
    dsimp only
    rw [pn_uniq G F]
    refine pk_le (σ p).1.length i (fun _ => ⟨9, pn_438 9 0 _ _ _ _ _ _ _ _ _ _ _ _ _ (by omega) (by omega) I1⟩) (fun z => ?_)
    obtain ⟨u, v, hg1, hg2, hg3⟩ := hs i z
    refine pn_item hp (by omega) I1 (fun τ1 u2 I2 G1 => ?_)
    obtain ⟨e0, e1, e2, e3, e4, e5, e6, e7, e8, e9, e10, e11, e12⟩ := u2
    dsimp only
    refine pn_item hX (by omega) I2 (fun τ2 u3 I3 G2 => ?_)
    obtain ⟨f0, f1, f2, f3, f4, f5, f6, f7, f8, f9, f10, f11, f12⟩ := u3
    dsimp only
    refine pn_item hY (by omega) I3 (fun τ3 u4 I4 G3 => ?_)
    obtain ⟨g0, g1, g2, g3, g4, g5, g6, g7, g8, g9, g10, g11, g12⟩ := u4
    dsimp only
    rw [pn_uniq G1 F, pn_uniq G2 F, pn_uniq G3 F, hg1, hg2, hg3]
    exact br_t rfl (nm_r (nI_1 i) (ih (i + 1) _ _ _ _ _ _ _ _ _ _ _ _ _ (by omega) (by omega) I4))
theorem pn_cx (hX : X < 8) : (upd x p (nI X &&& 7) p).toNatClampNeg = X := by
  have e : nI X &&& 7 = nI (X % 8) := pk_andN (by omega) 3 (by decide)
  rw [pk_us, e, nI_clamp (by omega)]
  omega
theorem pn_v8 : nI X + 8 * nI Y = nI (X + 8 * Y) := by
  rw [show (8 : Int32) = nI 8 from rfl, pk_mul, nI_add]
theorem pn_cx2 (hX : X < 8) (hY : Y < 8) : (upd x p ((nI X + 8 * nI Y) &&& 7) p).toNatClampNeg = X := by
  have e : nI (X + 8 * Y) &&& 7 = nI ((X + 8 * Y) % 8) := pk_andN (by omega) 3 (by decide)
  rw [pk_us, pn_v8, e, nI_clamp (by omega)]
  omega
theorem pn_cy2 (hX : X < 8) (hY : Y < 8) : (upd y p (((nI X + 8 * nI Y) >>> ((3 : Int32) &&& 31)) &&& 7) p).toNatClampNeg = Y := by
  have e0 : nI (X + 8 * Y) >>> ((3 : Int32) &&& 31) = nI ((X + 8 * Y) / 8) := pk_shrN (by omega) _ 3 (by decide)
  have e : nI ((X + 8 * Y) / 8) &&& 7 = nI ((X + 8 * Y) / 8 % 8) := pk_andN (by omega) 3 (by decide)
  rw [pk_us, pn_v8, e0, e, nI_clamp (by omega)]
  omega
theorem pn_288 {c : Int32} (hp : p < 8) (hX : X < 8) (hY : Y < 8) (c0 c1 : Int32) (c2 c3 c4 c5 c6 c7 c8 c9 c10 c11 c12 : Nat → Int32) (I : pn_I k x y a (c0, c1, c2, c3, c4, c5, c6, c7, c8, c9, c10, c11, c12)) : wL_law_288 (fun r => r = 1) L xs (nI p) (nI X) (nI Y) c kc ks c0 c1 c2 c3 c4 c5 c6 c7 c8 c9 c10 c11 c12 := by
  unfold wL_law_288
  refine pn_set (kk := 5) hp (by omega) I (fun u1 I1 => ?_)
  obtain ⟨d0, d1, d2, d3, d4, d5, d6, d7, d8, d9, d10, d11, d12⟩ := u1
  dsimp only
  refine pn_length hX I1 (fun σ u2 I2 F => ?_)
  obtain ⟨e0, e1, e2, e3, e4, e5, e6, e7, e8, e9, e10, e11, e12⟩ := u2
  dsimp only
  obtain ⟨hf1, hf2⟩ := pn_F5 hp pk_us (pn_cx hX) F
  have lx := (pn_bR F.1 X hX).1
  rw [pk_us] at hf2
  rw [nI_1]
  refine pn_least (d := 40) (by omega) (by omega) ?_
  refine pn_length hp I2 (fun τ u3 I3 G => ?_)
  obtain ⟨f0, f1, f2, f3, f4, f5, f6, f7, f8, f9, f10, f11, f12⟩ := u3
  dsimp only
  rw [pn_uniq G F, hf1]
  refine br_t rfl (pn_item (i := 0) hp (by omega) I3 (fun τ1 u4 I4 G1 => ?_))
  obtain ⟨g0, g1, g2, g3, g4, g5, g6, g7, g8, g9, g10, g11, g12⟩ := u4
  dsimp only
  rw [pn_uniq G1 F, hf2]
  refine br_t rfl (pn_set (kk := 2) hp (by omega) I4 (fun u5 I5 => ?_))
  obtain ⟨h0, h1, h2, h3, h4, h5, h6, h7, h8, h9, h10, h11, h12⟩ := u5
  dsimp only
  refine pn_length hX I5 (fun ρ u6 I6 F2 => ?_)
  obtain ⟨i0, i1, i2, i3, i4, i5, i6, i7, i8, i9, i10, i11, i12⟩ := u6
  dsimp only
  refine pn_length hY I6 (fun τ2 u7 I7 G2 => ?_)
  obtain ⟨j0, j1, j2, j3, j4, j5, j6, j7, j8, j9, j10, j11, j12⟩ := u7
  dsimp only
  refine pn_length hp I7 (fun τ3 u8 I8 G3 => ?_)
  obtain ⟨l0, l1, l2, l3, l4, l5, l6, l7, l8, l9, l10, l11, l12⟩ := u8
  dsimp only
  obtain ⟨q1, q2⟩ := pn_F2 hp pk_us (pn_cx2 hX hY) (pn_cy2 hX hY) hX hY F2
  have lx2 := (pn_bR F2.1 X hX).1
  have ly2 := (pn_bR F2.1 Y hY).1
  rw [pn_uniq G2 F2, pn_uniq G3 F2]
  refine pn_least (by omega) (by omega) ?_
  rw [← q1]
  exact br_t rfl ⟨_, pn_390 hp hX hY F2 q2 _ 0 _ _ _ _ _ _ _ _ _ _ _ _ _ (Nat.zero_le _) (Nat.lt_succ_self _) I8⟩
theorem pn_223 {c : Int32} (hp : p < 8) (hX : X < 8) (hY : Y < 8) (hk : k p = 7) (hx : (x p).toNatClampNeg = X) :
    ∀ (n i : Nat) (c0 c1 : Int32) (c2 c3 c4 c5 c6 c7 c8 c9 c10 c11 c12 : Nat → Int32), i ≤ 8 → 8 - i < n → pn_I k x y a (c0, c1, c2, c3, c4, c5, c6, c7, c8, c9, c10, c11, c12) → wL_law_223 (fun r => r = 1) L xs (nI p) (nI X) (nI Y) c kc ks n (nI i) c0 c1 c2 c3 c4 c5 c6 c7 c8 c9 c10 c11 c12 := by
  intro n
  induction n with
  | zero =>
    intro i c0 c1 c2 c3 c4 c5 c6 c7 c8 c9 c10 c11 c12 hi hn
    exact absurd hn (Nat.not_lt_zero _)
  | succ n ih =>
    intro i c0 c1 c2 c3 c4 c5 c6 c7 c8 c9 c10 c11 c12 hi hn I
    refine pk_le 8 i (fun z => ?_) (fun z => ?_)
    · refine pn_length hX I (fun σ u1 I1 F => ?_)
      obtain ⟨d0, d1, d2, d3, d4, d5, d6, d7, d8, d9, d10, d11, d12⟩ := u1
      dsimp only
      have lx := (pn_bR F.1 X hX).1
      refine pk_eq (σ X).1.length 40 (fun g => ?_) (fun g => pn_288 hp hX hY _ _ _ _ _ _ _ _ _ _ _ _ _ I1)
      obtain ⟨hf1, v, hf2, hf3⟩ := pn_F7 hp hk hx F g
      refine pn_length hp I1 (fun τ u2 I2 G => ?_)
      obtain ⟨e0, e1, e2, e3, e4, e5, e6, e7, e8, e9, e10, e11, e12⟩ := u2
      dsimp only
      rw [pn_uniq G F, hf1]
      refine br_t rfl (pn_item (i := 0) hp (by omega) I2 (fun τ1 u3 I3 G1 => ?_))
      obtain ⟨f0, f1, f2, f3, f4, f5, f6, f7, f8, f9, f10, f11, f12⟩ := u3
      dsimp only
      refine pn_item (i := 0) hX (by omega) I3 (fun τ2 u4 I4 G2 => ?_)
      obtain ⟨g0, g1, g2, g3, g4, g5, g6, g7, g8, g9, g10, g11, g12⟩ := u4
      dsimp only
      rw [pn_uniq G1 F, pn_uniq G2 F, hf2, hf3]
      exact br_t rfl (pn_288 hp hX hY _ _ _ _ _ _ _ _ _ _ _ _ _ I4)
    · refine pn_same z I (fun u1 I1 => ?_)
      obtain ⟨d0, d1, d2, d3, d4, d5, d6, d7, d8, d9, d10, d11, d12⟩ := u1
      dsimp only
      exact br_f (by decide) (nm_r (nI_1 i) (ih (i + 1) _ _ _ _ _ _ _ _ _ _ _ _ _ (by omega) (by omega) I1))
theorem pn_xy {j : Nat} (hp : p < 8) (hj : j < 256) : ((nI p + 1) + (nI j - nI j / 7 * 7)) &&& 7 = nI ((p + 1 + j % 7) % 8) := by
  have r : nI j - nI j / 7 * 7 = nI (j % 7) := pk_rem (a := j) (d := 7) (by omega) (by omega) (by omega)
  rw [r, nI_1, nI_add]
  exact pk_andN (by omega) 3 (by decide)
theorem pn_145 (hL : L ≤ 260) (c0 c1 : Int32) (c2 c3 c4 c5 c6 c7 c8 c9 c10 c11 c12 : Nat → Int32) (I : pn_I k x y a (c0, c1, c2, c3, c4, c5, c6, c7, c8, c9, c10, c11, c12)) : wL_law_145 (fun r => r = 1) L xs kc ks c0 c1 c2 c3 c4 c5 c6 c7 c8 c9 c10 c11 c12 := by
  unfold wL_law_145
  refine pn_cell (c := 0) hL (by omega) (fun r => ?_)
  obtain ⟨p, hp', ep⟩ := pk_andE r (m := 7) 3 (by decide)
  have hp : p < 8 := hp'
  refine nm_r ep (pn_cell (c := 0) hL (by omega) (fun r1 => ⟨by decide, ?_⟩))
  obtain ⟨j, hj, ej⟩ := pk_andE (r1 >>> ((3 : Int32) &&& 31)) (m := 255) 8 (by decide)
  refine nm_r (e' := nI ((p + 1 + j % 7) % 8)) (by rw [ej]; exact pn_xy hp hj) (pn_cell (c := 0) hL (by omega) (fun r2 => ⟨by decide, ?_⟩))
  obtain ⟨j2, hj2, ej2⟩ := pk_andE (r2 >>> ((11 : Int32) &&& 31)) (m := 255) 8 (by decide)
  refine nm_r (e' := nI ((p + 1 + j2 % 7) % 8)) (by rw [ej2]; exact pn_xy hp hj2) (pn_cell (c := 1) hL (by omega) (fun r3 => ?_))
  refine pn_set (kk := 7) hp (by omega) I (fun u1 I1 => ?_)
  obtain ⟨d0, d1, d2, d3, d4, d5, d6, d7, d8, d9, d10, d11, d12⟩ := u1
  dsimp only
  exact ⟨9, pn_223 hp (by omega) (by omega) pk_us (pn_cx (by omega)) 9 0 _ _ _ _ _ _ _ _ _ _ _ _ _ (by omega) (by omega) I1⟩
theorem pn_92 {J : Int32 → Int32 → Int32 → (Nat → Int32) → (Nat → Int32) → (Nat → Int32) → (Nat → Int32) → (Nat → Int32) → (Nat → Int32) → (Nat → Int32) → (Nat → Int32) → (Nat → Int32) → (Nat → Int32) → (Nat → Int32) → Int32 → Int32 → (Nat → Int32) → (Nat → Int32) → (Nat → Int32) → (Nat → Int32) → (Nat → Int32) → (Nat → Int32) → (Nat → Int32) → (Nat → Int32) → (Nat → Int32) → (Nat → Int32) → (Nat → Int32) → Prop} {t : Nat}
    (HJ : ∀ (c0 c1 : Int32) (c2 c3 c4 c5 c6 c7 c8 c9 c10 c11 c12 : Nat → Int32) (d0 d1 : Int32) (d2 d3 d4 d5 d6 d7 d8 d9 d10 d11 d12 : Nat → Int32), pn_I k x y a (c0, c1, c2, c3, c4, c5, c6, c7, c8, c9, c10, c11, c12) → pn_I k x y a (d0, d1, d2, d3, d4, d5, d6, d7, d8, d9, d10, d11, d12) → J (nI (t + 1)) c0 c1 c2 c3 c4 c5 c6 c7 c8 c9 c10 c11 c12 d0 d1 d2 d3 d4 d5 d6 d7 d8 d9 d10 d11 d12) :
    ∀ (n i : Nat) (c0 c1 : Int32) (c2 c3 c4 c5 c6 c7 c8 c9 c10 c11 c12 : Nat → Int32) (d0 d1 : Int32) (d2 d3 d4 d5 d6 d7 d8 d9 d10 d11 d12 : Nat → Int32), i ≤ 320 → 320 - i < n → pn_I k x y a (c0, c1, c2, c3, c4, c5, c6, c7, c8, c9, c10, c11, c12) → pn_I k x y a (d0, d1, d2, d3, d4, d5, d6, d7, d8, d9, d10, d11, d12) → wL_law_92 (fun r => r = 1) L xs J (nI t) kc ks n (nI i) c0 c1 c2 c3 c4 c5 c6 c7 c8 c9 c10 c11 c12 d0 d1 d2 d3 d4 d5 d6 d7 d8 d9 d10 d11 d12 := by
  intro n
  induction n with
  | zero =>
    intro i c0 c1 c2 c3 c4 c5 c6 c7 c8 c9 c10 c11 c12 d0 d1 d2 d3 d4 d5 d6 d7 d8 d9 d10 d11 d12 hi hn
    exact absurd hn (Nat.not_lt_zero _)
  | succ n ih =>
    intro i c0 c1 c2 c3 c4 c5 c6 c7 c8 c9 c10 c11 c12 d0 d1 d2 d3 d4 d5 d6 d7 d8 d9 d10 d11 d12 hi hn I1 I2
    have e1 : nI i / 40 = nI (i / 40) := pk_div (a := i) (d := 40) (by omega) (by omega) (by omega)
    have e2 : nI i - nI i / 40 * 40 = nI (i % 40) := pk_rem (a := i) (d := 40) (by omega) (by omega) (by omega)
    refine pk_le 320 i (fun _ => nm_r (nI_1 t) (HJ _ _ _ _ _ _ _ _ _ _ _ _ _ _ _ _ _ _ _ _ _ _ _ _ _ _ I1 I2)) (fun z => ⟨by decide, by decide, ?_⟩)
    rw [e2, e1]
    refine pn_item (by omega) (by omega) I1 (fun σ u1 I3 F => ?_)
    obtain ⟨e0, e1, e2, e3, e4, e5, e6, e7, e8, e9, e10, e11, e12⟩ := u1
    dsimp only
    refine ⟨by decide, by decide, pn_item (by omega) (by omega) I2 (fun τ u2 I4 G => ?_)⟩
    obtain ⟨f0, f1, f2, f3, f4, f5, f6, f7, f8, f9, f10, f11, f12⟩ := u2
    dsimp only
    rw [pn_uniq G F]
    exact br_t rfl (nm_r (nI_1 i) (ih (i + 1) _ _ _ _ _ _ _ _ _ _ _ _ _ _ _ _ _ _ _ _ _ _ _ _ _ _ (by omega) (by omega) I3 I4))
theorem pn_Lset {post : Int32 → St1 → Prop} {u : St1} {v : Int32} (hp : p < 8) (I : pn_I k x y a u)
    (H : ∀ u', pn_I (upd k p ((v >>> ((8 : Int32) &&& 31)) &&& 7)) (upd x p (((v >>> ((11 : Int32) &&& 31)) &&& 63) &&& 7)) (upd y p ((((v >>> ((11 : Int32) &&& 31)) &&& 63) >>> ((3 : Int32) &&& 31)) &&& 7)) (upd a p (((v >>> ((17 : Int32) &&& 31)) &&& 31) - 12)) u' → post 0 u') :
    wpL_set post u (nI p) v := by
  obtain ⟨c0, c1, c2, c3, c4, c5, c6, c7, c8, c9, c10, c11, c12⟩ := u
  obtain ⟨kk, hk, ek⟩ := pk_andE (v >>> ((8 : Int32) &&& 31)) (m := 7) 3 (by decide)
  rw [ek] at H
  unfold wpL_set
  dsimp only
  rw [ek]
  refine pn_set hp hk I (fun u' I' => ?_)
  obtain ⟨d0, d1, d2, d3, d4, d5, d6, d7, d8, d9, d10, d11, d12⟩ := u'
  exact H _ I'
theorem pn_18 (hL : L ≤ 260) : ∀ (n i : Nat) (k x y a : Nat → Int32) (c0 c1 : Int32) (c2 c3 c4 c5 c6 c7 c8 c9 c10 c11 c12 : Nat → Int32) (d0 d1 : Int32) (d2 d3 d4 d5 d6 d7 d8 d9 d10 d11 d12 : Nat → Int32), i ≤ 40 → 40 - i < n → pn_I k x y a (c0, c1, c2, c3, c4, c5, c6, c7, c8, c9, c10, c11, c12) → pn_I k x y a (d0, d1, d2, d3, d4, d5, d6, d7, d8, d9, d10, d11, d12) → wL_law_18 (fun r => r = 1) L xs kc ks n (nI i) c0 c1 c2 c3 c4 c5 c6 c7 c8 c9 c10 c11 c12 d0 d1 d2 d3 d4 d5 d6 d7 d8 d9 d10 d11 d12 := by
  intro n
  induction n with
  | zero =>
    intro i k x y a c0 c1 c2 c3 c4 c5 c6 c7 c8 c9 c10 c11 c12 d0 d1 d2 d3 d4 d5 d6 d7 d8 d9 d10 d11 d12 hi hn
    exact absurd hn (Nat.not_lt_zero _)
  | succ n ih =>
    intro i k x y a c0 c1 c2 c3 c4 c5 c6 c7 c8 c9 c10 c11 c12 d0 d1 d2 d3 d4 d5 d6 d7 d8 d9 d10 d11 d12 hi hn I1 I2
    refine pk_le L i (fun _ => pn_145 hL _ _ _ _ _ _ _ _ _ _ _ _ _ I1) (fun z => pk_le 40 i (fun _ => pn_145 hL _ _ _ _ _ _ _ _ _ _ _ _ _ I1) (fun z2 => ⟨pk_in i L z, fun v _ => ?_⟩))
    obtain ⟨p, hp, ep⟩ := pk_andE v (m := 7) 3 (by decide)
    obtain ⟨f, hf, ef⟩ := pk_andE (v >>> ((3 : Int32) &&& 31)) (m := 7) 3 (by decide)
    obtain ⟨m, hm, em⟩ := pk_andE (v >>> ((20 : Int32) &&& 31)) (m := 63) 6 (by decide)
    refine nm_r ep ?_
    rw [ef, em]
    refine pn_Lset hp I1 (fun u1 I3 => ?_)
    obtain ⟨e0, e1, e2, e3, e4, e5, e6, e7, e8, e9, e10, e11, e12⟩ := u1
    dsimp only
    refine pn_Lset hp I2 (fun u2 I4 => ?_)
    obtain ⟨g0, g1, g2, g3, g4, g5, g6, g7, g8, g9, g10, g11, g12⟩ := u2
    dsimp only
    refine pn_fire hf (by omega) I3 (fun u3 I5 => ?_)
    obtain ⟨h0, h1, h2, h3, h4, h5, h6, h7, h8, h9, h10, h11, h12⟩ := u3
    dsimp only
    exact br_c (fun _ => ⟨321, pn_92 (fun c0 c1 c2 c3 c4 c5 c6 c7 c8 c9 c10 c11 c12 d0 d1 d2 d3 d4 d5 d6 d7 d8 d9 d10 d11 d12 J1 J2 => ih (i + 1) _ _ _ _ c0 c1 c2 c3 c4 c5 c6 c7 c8 c9 c10 c11 c12 d0 d1 d2 d3 d4 d5 d6 d7 d8 d9 d10 d11 d12 (by omega) (by omega) J1 J2) 321 0 _ _ _ _ _ _ _ _ _ _ _ _ _ _ _ _ _ _ _ _ _ _ _ _ _ _ (by omega) (by omega) I5 I4⟩) (fun _ => nm_r (nI_1 i) (ih (i + 1) _ _ _ _ _ _ _ _ _ _ _ _ _ _ _ _ _ _ _ _ _ _ _ _ _ _ _ _ _ _ (by omega) (by omega) I5 I4))
end
end
section
/-! What is owed. -/
theorem i_vc (xs : Nat → Int32) (L : Nat) (hL : L ≤ 260) : wpL_law (fun r => r = 1) L xs := by
  unfold wpL_law
  refine ⟨11, 400, by omega, by omega, pn_init (fun u1 I1 => ?_)⟩
  obtain ⟨c0, c1, c2, c3, c4, c5, c6, c7, c8, c9, c10, c11, c12⟩ := u1
  dsimp only
  refine ⟨by omega, by omega, 11, 400, by omega, by omega, pn_init (fun u2 I2 => ?_)⟩
  obtain ⟨d0, d1, d2, d3, d4, d5, d6, d7, d8, d9, d10, d11, d12⟩ := u2
  dsimp only
  exact ⟨39, pn_18 hL 39 2 _ _ _ _ _ _ _ _ _ _ _ _ _ _ _ _ _ _ _ _ _ _ _ _ _ _ _ _ _ _ (by omega) (by omega) I1 I2⟩
end
