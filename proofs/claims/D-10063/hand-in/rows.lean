section
/-! words over the transitions of a net, latest letter first; marking, touch depth, key -/
abbrev nj_Net : Type := (Nat → Nat → Bool) × (Nat → Nat → Bool) × (Nat → Bool) × (Nat → Bool)
def nj_md (g : Nat → Bool) (f : Nat → Nat) : Nat → Nat
  | 0 => 0
  | n + 1 => max (nj_md g f n) (if g n = true then f n else 0)
theorem nj_md_le {g : Nat → Bool} {f : Nat → Nat} {p : Nat} (h : g p = true) : ∀ n, p < n → f p ≤ nj_md g f n := by
  intro n
  induction n with
  | zero => intro h; omega
  | succ n ih =>
    intro hp
    unfold nj_md
    by_cases e : p = n
    · subst e
      rw [if_pos h]
      omega
    · have := ih (by omega)
      omega
theorem nj_md_ub {g : Nat → Bool} {f : Nat → Nat} {b : Nat} (h : ∀ p, g p = true → f p ≤ b) : ∀ n, nj_md g f n ≤ b := by
  intro n
  induction n with
  | zero => unfold nj_md; omega
  | succ n ih =>
    unfold nj_md
    by_cases e : g n = true
    · rw [if_pos e]
      have := h n e
      omega
    · rw [if_neg e]
      omega
theorem nj_md_cg {g : Nat → Bool} {f f' : Nat → Nat} (h : ∀ p, g p = true → f p = f' p) : ∀ n, nj_md g f n = nj_md g f' n := by
  intro n
  induction n with
  | zero => rfl
  | succ n ih =>
    unfold nj_md
    rw [ih]
    by_cases e : g n = true
    · rw [if_pos e, if_pos e, h n e]
    · rw [if_neg e, if_neg e]
def nj_rdy (N : nj_Net) (t : Nat) (m : Nat → Bool) : Prop := ∀ p, N.1 t p = true → m p = true
def nj_clr (N : nj_Net) (t : Nat) (m : Nat → Bool) : Prop := ∀ p, N.2.1 t p = true → N.1 t p = false → m p = false
def nj_fire (N : nj_Net) (t : Nat) (m : Nat → Bool) : Nat → Bool := fun p => (m p && !N.1 t p) || N.2.1 t p
def nj_mk (N : nj_Net) : List Nat → Nat → Bool
  | [] => N.2.2.2
  | t :: w => nj_fire N t (nj_mk N w)
def nj_td (N : nj_Net) : List Nat → Nat → Nat
  | [] => fun _ => 0
  | t :: w => fun p => if (N.1 t p || N.2.1 t p) = true then nj_md (N.1 t) (nj_td N w) 6 + 1 else nj_td N w p
def nj_dp (N : nj_Net) (t : Nat) (w : List Nat) : Nat := nj_md (N.1 t) (nj_td N w) 6 + 1
def nj_ok (N : nj_Net) : List Nat → Prop
  | [] => True
  | t :: w => nj_ok N w ∧ t < 8 ∧ N.2.2.1 t = true ∧ nj_rdy N t (nj_mk N w) ∧ nj_clr N t (nj_mk N w)
def nj_kk (N : nj_Net) : List Nat → Nat → Nat
  | [] => fun _ => 0
  | t :: w => fun x => nj_kk N w x + (if x = t then 1 else 0) + (if x = 8 * nj_dp N t w + t then 1 else 0)
def nj_fl (N : nj_Net) (j : Nat) : List Nat → List Nat
  | [] => []
  | t :: w => if nj_dp N t w < j then t :: nj_fl N j w else nj_fl N j w
/-- no marking that is reached in less than n steps clashes -/
def nj_sf (N : nj_Net) (n : Nat) : Prop := ∀ w, nj_ok N w → w.length < n → ∀ t, t < 8 → N.2.2.1 t = true → nj_rdy N t (nj_mk N w) → nj_clr N t (nj_mk N w)
def nj_wf (N : nj_Net) : Prop := ∀ t p, N.1 t p = true → p < 6
theorem nj_td_hit {N : nj_Net} {t p : Nat} {w : List Nat} (h : (N.1 t p || N.2.1 t p) = true) : nj_td N (t :: w) p = nj_dp N t w := by
  show (if (N.1 t p || N.2.1 t p) = true then _ else _) = _
  rw [if_pos h]
  rfl
theorem nj_td_mis {N : nj_Net} {t p : Nat} {w : List Nat} (h : ¬ (N.1 t p || N.2.1 t p) = true) : nj_td N (t :: w) p = nj_td N w p := by
  show (if (N.1 t p || N.2.1 t p) = true then _ else _) = _
  rw [if_neg h]
theorem nj_mk_mis {N : nj_Net} {t p : Nat} {w : List Nat} (h : ¬ (N.1 t p || N.2.1 t p) = true) : nj_mk N (t :: w) p = nj_mk N w p := by
  show ((nj_mk N w p && !N.1 t p) || N.2.1 t p) = _
  cases h1 : N.1 t p <;> cases h2 : N.2.1 t p <;> simp_all
theorem nj_mk_post {N : nj_Net} {t p : Nat} {w : List Nat} (h : N.2.1 t p = true) : nj_mk N (t :: w) p = true := by
  show ((nj_mk N w p && !N.1 t p) || N.2.1 t p) = _
  rw [h, Bool.or_true]
theorem nj_mk_not {N : nj_Net} {t p : Nat} {w : List Nat} (h : N.2.1 t p = false) (h1 : N.1 t p = true) : nj_mk N (t :: w) p = false := by
  show ((nj_mk N w p && !N.1 t p) || N.2.1 t p) = _
  rw [h, h1]
  simp
theorem nj_dp_lt {N : nj_Net} (hw : nj_wf N) {t p : Nat} (w : List Nat) (h : N.1 t p = true) : nj_td N w p < nj_dp N t w := by
  have := nj_md_le (f := nj_td N w) h 6 (hw t p h)
  unfold nj_dp
  omega
theorem nj_dp_cg {N : nj_Net} {t : Nat} {w w' : List Nat} (h : ∀ p, N.1 t p = true → nj_td N w p = nj_td N w' p) : nj_dp N t w = nj_dp N t w' := by
  unfold nj_dp
  rw [nj_md_cg h]
theorem nj_dp_ub {N : nj_Net} {t b : Nat} {w : List Nat} (h : ∀ p, N.1 t p = true → nj_td N w p < b) (hb : 0 < b) : nj_dp N t w ≤ b := by
  have := nj_md_ub (g := N.1 t) (f := nj_td N w) (b := b - 1) (fun p hp => by have := h p hp; omega) 6
  unfold nj_dp
  omega
/-- the letters of depth below j alone are a word too, and the tokens of depth below j lie there -/
theorem nj_split {N : nj_Net} (hw : nj_wf N) {n : Nat} (hs : nj_sf N n) (j : Nat) : ∀ w, nj_ok N w → w.length ≤ n →
    nj_ok N (nj_fl N j w) ∧ (nj_fl N j w).length ≤ w.length ∧ ∀ p, nj_mk N w p = true → nj_td N w p < j → nj_mk N (nj_fl N j w) p = true ∧ nj_td N (nj_fl N j w) p = nj_td N w p := by
  intro w
  induction w with
  | nil => exact fun _ _ => ⟨trivial, Nat.le_refl _, fun p h _ => ⟨h, rfl⟩⟩
  | cons t w ih =>
    intro ho hl
    obtain ⟨ho1, ht8, hh, hr, hc⟩ := ho
    have hl' : w.length + 1 ≤ n := hl
    obtain ⟨i1, i2, i3⟩ := ih ho1 (by omega)
    by_cases hd : nj_dp N t w < j
    · have ef : nj_fl N j (t :: w) = t :: nj_fl N j w := by
        show (if nj_dp N t w < j then _ else _) = _
        rw [if_pos hd]
      rw [ef]
      have hpre : ∀ p, N.1 t p = true → nj_mk N (nj_fl N j w) p = true ∧ nj_td N (nj_fl N j w) p = nj_td N w p := by
        intro p hp
        have := nj_dp_lt hw w hp
        exact i3 p (hr p hp) (by omega)
      have edp : nj_dp N t (nj_fl N j w) = nj_dp N t w := nj_dp_cg (fun p hp => (hpre p hp).2)
      have hr' : nj_rdy N t (nj_mk N (nj_fl N j w)) := fun p hp => (hpre p hp).1
      refine ⟨⟨i1, ht8, hh, hr', hs _ i1 (by omega) t ht8 hh hr'⟩, by simp only [List.length_cons]; omega, ?_⟩
      intro p hm htd
      by_cases hx : (N.1 t p || N.2.1 t p) = true
      · have hpo : N.2.1 t p = true := by
          cases h2 : N.2.1 t p
          · rw [h2, Bool.or_false] at hx
            rw [nj_mk_not h2 hx] at hm
            exact hm
          · rfl
        refine ⟨nj_mk_post hpo, ?_⟩
        rw [nj_td_hit hx, nj_td_hit hx, edp]
      · rw [nj_mk_mis hx] at hm
        rw [nj_td_mis hx] at htd
        rw [nj_mk_mis hx, nj_td_mis hx, nj_td_mis hx]
        exact i3 p hm htd
    · have ef : nj_fl N j (t :: w) = nj_fl N j w := by
        show (if nj_dp N t w < j then _ else _) = _
        rw [if_neg hd]
      rw [ef]
      refine ⟨i1, by simp only [List.length_cons]; omega, ?_⟩
      intro p hm htd
      by_cases hx : (N.1 t p || N.2.1 t p) = true
      · rw [nj_td_hit hx] at htd
        omega
      · rw [nj_mk_mis hx] at hm
        rw [nj_td_mis hx] at htd
        rw [nj_td_mis hx]
        exact i3 p hm htd
theorem nj_split3 {N : nj_Net} (hw : nj_wf N) {n : Nat} (hs : nj_sf N n) (p : Nat) : ∀ w, nj_ok N w → w.length ≤ n → nj_mk N w p = false → 0 < nj_td N w p → nj_mk N (nj_fl N (nj_td N w p) w) p = true := by
  intro w
  induction w with
  | nil => exact fun _ _ _ h => absurd h (by show ¬ 0 < 0; omega)
  | cons t w ih =>
    intro ho hl hm h0
    obtain ⟨ho1, ht8, hh, hr, hc⟩ := ho
    have hl' : w.length + 1 ≤ n := hl
    by_cases hx : (N.1 t p || N.2.1 t p) = true
    · rw [nj_td_hit hx]
      have hpo : N.2.1 t p = false := by
        cases h2 : N.2.1 t p
        · rfl
        · rw [nj_mk_post h2] at hm
          exact hm
      have hpr : N.1 t p = true := by rw [hpo, Bool.or_false] at hx; exact hx
      have ef : nj_fl N (nj_dp N t w) (t :: w) = nj_fl N (nj_dp N t w) w := by
        show (if nj_dp N t w < nj_dp N t w then _ else _) = _
        rw [if_neg (Nat.lt_irrefl _)]
      rw [ef]
      exact ((nj_split hw hs (nj_dp N t w) w ho1 (by omega)).2.2 p (hr p hpr) (nj_dp_lt hw w hpr)).1
    · rw [nj_td_mis hx] at h0 ⊢
      rw [nj_mk_mis hx] at hm
      have i := ih ho1 (by omega) hm h0
      show nj_mk N (if nj_dp N t w < nj_td N w p then t :: nj_fl N (nj_td N w p) w else nj_fl N (nj_td N w p) w) p = true
      by_cases hd : nj_dp N t w < nj_td N w p
      · rw [if_pos hd, nj_mk_mis hx]
        exact i
      · rw [if_neg hd]
        exact i
/-- who touches a place later lies as deep at least -/
theorem nj_inv {N : nj_Net} (hw : nj_wf N) {n : Nat} (hs : nj_sf N n) {t : Nat} {w : List Nat} (ho : nj_ok N (t :: w)) (hl : w.length < n) {p : Nat} (hx : (N.1 t p || N.2.1 t p) = true) : nj_td N w p ≤ nj_dp N t w := by
  obtain ⟨ho1, ht8, hh, hr, hc⟩ := ho
  cases h1 : N.1 t p
  · have h2 : N.2.1 t p = true := by rw [h1, Bool.false_or] at hx; exact hx
    have hm : nj_mk N w p = false := hc p h2 h1
    rcases Nat.lt_or_ge (nj_dp N t w) (nj_td N w p) with z | z
    · have a := nj_split3 hw hs p w ho1 (by omega) hm (by omega)
      obtain ⟨s1, s2, s3⟩ := nj_split hw hs (nj_td N w p) w ho1 (by omega)
      have hr' : nj_rdy N t (nj_mk N (nj_fl N (nj_td N w p) w)) := fun q hq => (s3 q (hr q hq) (by have := nj_dp_lt hw w hq; omega)).1
      have c := hs _ s1 (by omega) t ht8 hh hr' p h2 h1
      rw [a] at c
      exact absurd c (by decide)
    · exact z
  · have := nj_dp_lt hw w h1
    omega
/-- an event that touches p is no deeper than p's touch depth -/
theorem nj_dep {N : nj_Net} (hw : nj_wf N) {n : Nat} (hs : nj_sf N n) (p d v : Nat) (hd : 0 < d) (hv : v < 8) (hx : (N.1 v p || N.2.1 v p) = true) : ∀ w, nj_ok N w → w.length ≤ n → 0 < nj_kk N w (8 * d + v) → d ≤ nj_td N w p := by
  intro w
  induction w with
  | nil => exact fun _ _ h => absurd h (by show ¬ 0 < 0; omega)
  | cons t w ih =>
    intro ho hl hk
    have hl' : w.length + 1 ≤ n := hl
    have ht8 : t < 8 := ho.2.1
    have ek : nj_kk N (t :: w) (8 * d + v) = nj_kk N w (8 * d + v) + (if 8 * d + v = t then 1 else 0) + (if 8 * d + v = 8 * nj_dp N t w + t then 1 else 0) := rfl
    rw [ek, if_neg (show ¬ 8 * d + v = t by omega)] at hk
    by_cases e : 8 * d + v = 8 * nj_dp N t w + t
    · have e1 : v = t := by omega
      have e2 : d = nj_dp N t w := by omega
      rw [e1] at hx
      rw [nj_td_hit hx]
      omega
    · rw [if_neg e] at hk
      have i := ih ho.1 (by omega) (by omega)
      by_cases hy : (N.1 t p || N.2.1 t p) = true
      · rw [nj_td_hit hy]
        have := nj_inv hw hs ho (by omega) hy
        omega
      · rw [nj_td_mis hy]
        exact i
theorem nj_att {N : nj_Net} (p : Nat) : ∀ w, nj_ok N w → 0 < nj_td N w p → ∃ v, v < 8 ∧ (N.1 v p || N.2.1 v p) = true ∧ 0 < nj_kk N w (8 * nj_td N w p + v) := by
  intro w
  induction w with
  | nil => exact fun _ h => absurd h (by show ¬ 0 < 0; omega)
  | cons t w ih =>
    intro ho h0
    have ek : ∀ x, nj_kk N (t :: w) x = nj_kk N w x + (if x = t then 1 else 0) + (if x = 8 * nj_dp N t w + t then 1 else 0) := fun x => rfl
    by_cases hx : (N.1 t p || N.2.1 t p) = true
    · refine ⟨t, ho.2.1, hx, ?_⟩
      rw [nj_td_hit hx, ek, if_pos rfl]
      omega
    · rw [nj_td_mis hx] at h0 ⊢
      obtain ⟨v, v1, v2, v3⟩ := ih ho.1 h0
      refine ⟨v, v1, v2, ?_⟩
      rw [ek]
      omega
theorem nj_td_le {N : nj_Net} (hw : nj_wf N) {n : Nat} (hs : nj_sf N n) {w w' : List Nat} (ho : nj_ok N w) (ho' : nj_ok N w') (hl' : w'.length ≤ n) (hk : ∀ x, nj_kk N w x = nj_kk N w' x) (p : Nat) : nj_td N w p ≤ nj_td N w' p := by
  rcases Nat.eq_zero_or_pos (nj_td N w p) with z | z
  · omega
  · obtain ⟨v, v1, v2, v3⟩ := nj_att p w ho z
    rw [hk] at v3
    exact nj_dep hw hs p _ v z v1 v2 w' ho' hl' v3
/-- the key knows the touch depths -/
theorem nj_td_kk {N : nj_Net} (hw : nj_wf N) {n : Nat} (hs : nj_sf N n) {w w' : List Nat} (ho : nj_ok N w) (ho' : nj_ok N w') (hl : w.length ≤ n) (hl' : w'.length ≤ n) (hk : ∀ x, nj_kk N w x = nj_kk N w' x) (p : Nat) : nj_td N w p = nj_td N w' p :=
  Nat.le_antisymm (nj_td_le hw hs ho ho' hl' hk p) (nj_td_le hw hs ho' ho hl (fun x => (hk x).symm) p)
/-! sums of a column of the key -/
def nj_sm (f : Nat → Nat) (v : Nat) : Nat → Nat
  | 0 => 0
  | j + 1 => nj_sm f v j + (if j = 0 then 0 else f (8 * j + v))
theorem nj_sm_cg {f g : Nat → Nat} {v : Nat} : ∀ j, (∀ d, 0 < d → d < j → f (8 * d + v) = g (8 * d + v)) → nj_sm f v j = nj_sm g v j := by
  intro j
  induction j with
  | zero => exact fun _ => rfl
  | succ j ih =>
    intro h
    unfold nj_sm
    rw [ih (fun d h0 h1 => h d h0 (by omega))]
    by_cases e : j = 0
    · rw [if_pos e, if_pos e]
    · rw [if_neg e, if_neg e, h j (by omega) (by omega)]
theorem nj_sm_add {N : nj_Net} {t : Nat} {w : List Nat} {v : Nat} (hv : v < 8) (ht : t < 8) : ∀ j, nj_sm (nj_kk N (t :: w)) v j = nj_sm (nj_kk N w) v j + (if v = t ∧ nj_dp N t w < j then 1 else 0) := by
  intro j
  have ek : ∀ x, nj_kk N (t :: w) x = nj_kk N w x + (if x = t then 1 else 0) + (if x = 8 * nj_dp N t w + t then 1 else 0) := fun x => rfl
  have h1 : 0 < nj_dp N t w := by unfold nj_dp; omega
  induction j with
  | zero => rw [if_neg (fun h => absurd h.2 (by omega))]; rfl
  | succ j ih =>
    unfold nj_sm
    rw [ih]
    by_cases e : j = 0
    · rw [if_pos e, if_pos e]
      rw [if_neg (fun h => absurd h.2 (by omega)), if_neg (fun h => absurd h.2 (by omega))]
    · rw [if_neg e, if_neg e, ek, if_neg (show ¬ 8 * j + v = t by omega)]
      by_cases e2 : v = t
      · by_cases e3 : nj_dp N t w = j
        · rw [if_neg (fun h => absurd h.2 (by omega)), if_pos (show 8 * j + v = 8 * nj_dp N t w + t by omega), if_pos ⟨e2, by omega⟩]
          omega
        · rw [if_neg (show ¬ 8 * j + v = 8 * nj_dp N t w + t by omega)]
          by_cases e4 : nj_dp N t w < j
          · rw [if_pos ⟨e2, e4⟩, if_pos ⟨e2, by omega⟩]; omega
          · rw [if_neg (fun h => e4 h.2), if_neg (fun h => absurd h.2 (by omega))]; omega
      · rw [if_neg (fun h => e2 h.1), if_neg (show ¬ 8 * j + v = 8 * nj_dp N t w + t by omega), if_neg (fun h => e2 h.1)]
        omega
theorem nj_kk_lo {N : nj_Net} {t : Nat} {w : List Nat} {v : Nat} (hv : v < 8) : nj_kk N (t :: w) v = nj_kk N w v + (if v = t then 1 else 0) := by
  have ek : nj_kk N (t :: w) v = nj_kk N w v + (if v = t then 1 else 0) + (if v = 8 * nj_dp N t w + t then 1 else 0) := rfl
  have h1 : 0 < nj_dp N t w := by unfold nj_dp; omega
  rw [ek, if_neg (show ¬ v = 8 * nj_dp N t w + t by omega)]
  rfl
theorem nj_kk_hi {N : nj_Net} {t : Nat} {w : List Nat} {v d : Nat} (hv : v < 8) (ht : t < 8) (hd : 0 < d) : nj_kk N (t :: w) (8 * d + v) = nj_kk N w (8 * d + v) + (if v = t ∧ d = nj_dp N t w then 1 else 0) := by
  have ek : nj_kk N (t :: w) (8 * d + v) = nj_kk N w (8 * d + v) + (if 8 * d + v = t then 1 else 0) + (if 8 * d + v = 8 * nj_dp N t w + t then 1 else 0) := rfl
  rw [ek, if_neg (show ¬ 8 * d + v = t by omega)]
  by_cases e : v = t ∧ d = nj_dp N t w
  · rw [if_pos e, if_pos (by omega)]
  · rw [if_neg e, if_neg (by omega)]
theorem nj_smA {N : nj_Net} {v : Nat} (hv : v < 8) (j : Nat) : ∀ w, nj_ok N w → nj_sm (nj_kk N w) v j ≤ nj_kk N w v := by
  intro w
  induction w with
  | nil =>
    intro _
    have : ∀ j, nj_sm (nj_kk N []) v j = 0 := by
      intro j
      induction j with
      | zero => rfl
      | succ j ih => unfold nj_sm; rw [ih]; by_cases e : j = 0 <;> simp [e, nj_kk]
    rw [this]
    omega
  | cons t w ih =>
    intro ho
    have i := ih ho.1
    rw [nj_sm_add hv ho.2.1, nj_kk_lo hv]
    by_cases e : v = t
    · rw [if_pos e]
      by_cases e2 : v = t ∧ nj_dp N t w < j
      · rw [if_pos e2]; omega
      · rw [if_neg e2]; omega
    · rw [if_neg e, if_neg (fun h => e h.1)]; omega
theorem nj_smB {N : nj_Net} {v : Nat} (hv : v < 8) (j : Nat) : ∀ w, nj_ok N w → (∀ d, 0 < d → j ≤ d → nj_kk N w (8 * d + v) = 0) → nj_sm (nj_kk N w) v j = nj_kk N w v := by
  intro w
  induction w with
  | nil =>
    intro _ _
    have : ∀ j, nj_sm (nj_kk N []) v j = 0 := by
      intro j
      induction j with
      | zero => rfl
      | succ j ih => unfold nj_sm; rw [ih]; by_cases e : j = 0 <;> simp [e, nj_kk]
    rw [this]
    rfl
  | cons t w ih =>
    intro ho h
    have h1 : 0 < nj_dp N t w := by unfold nj_dp; omega
    have i := ih ho.1 (fun d d0 d1 => by have := h d d0 d1; rw [nj_kk_hi hv ho.2.1 d0] at this; omega)
    rw [nj_sm_add hv ho.2.1, nj_kk_lo hv, i]
    by_cases e : v = t
    · have : nj_dp N t w < j := by
        rcases Nat.lt_or_ge (nj_dp N t w) j with z | z
        · exact z
        · have := h _ h1 z
          rw [nj_kk_hi hv ho.2.1 h1, if_pos ⟨e, rfl⟩] at this
          omega
      rw [if_pos e, if_pos ⟨e, this⟩]
    · rw [if_neg e, if_neg (fun h => e h.1)]
theorem nj_smC {N : nj_Net} {v : Nat} (hv : v < 8) (j : Nat) : ∀ w, nj_ok N w → nj_sm (nj_kk N w) v j = nj_kk N w v → ∀ d, 0 < d → j ≤ d → nj_kk N w (8 * d + v) = 0 := by
  intro w
  induction w with
  | nil => exact fun _ _ _ _ _ => rfl
  | cons t w ih =>
    intro ho h d d0 d1
    have a := nj_smA hv j w ho.1
    rw [nj_sm_add hv ho.2.1, nj_kk_lo hv] at h
    rw [nj_kk_hi hv ho.2.1 d0]
    by_cases e : v = t
    · rw [if_pos e] at h
      by_cases e2 : nj_dp N t w < j
      · rw [if_pos ⟨e, e2⟩] at h
        rw [if_neg (fun h => absurd h.2 (by omega)), ih ho.1 (by omega) d d0 d1]
      · rw [if_neg (fun h => e2 h.2)] at h
        omega
    · rw [if_neg e, if_neg (fun h => e h.1)] at h
      rw [if_neg (fun h => e h.1), ih ho.1 (by omega) d d0 d1]
/-! the order: the first place where two keys differ, more first -/
def nj_pl (f g : Nat → Nat) : Prop := ∃ x, (∀ y, y < x → f y = g y) ∧ g x < f x
theorem nj_pl_ir (f : Nat → Nat) : ¬ nj_pl f f := fun ⟨_, _, h⟩ => Nat.lt_irrefl _ h
theorem nj_pl_tr {f g h : Nat → Nat} (a : nj_pl f g) (b : nj_pl g h) : nj_pl f h := by
  obtain ⟨x, x1, x2⟩ := a
  obtain ⟨y, y1, y2⟩ := b
  rcases Nat.lt_trichotomy x y with z | z | z
  · exact ⟨x, fun i hi => by rw [x1 i hi, y1 i (by omega)], by rw [← y1 x z]; exact x2⟩
  · subst z
    exact ⟨x, fun i hi => by rw [x1 i hi, y1 i hi], by omega⟩
  · exact ⟨y, fun i hi => by rw [x1 i (by omega), y1 i hi], by rw [x1 y z]; exact y2⟩
theorem nj_pl_tot {f g : Nat → Nat} (X : Nat) (h : ∀ x, X ≤ x → f x = g x) : nj_pl f g ∨ nj_pl g f ∨ ∀ x, f x = g x := by
  have : ∀ n, (∀ y, y < n → f y = g y) ∨ nj_pl f g ∨ nj_pl g f := by
    intro n
    induction n with
    | zero => exact Or.inl (fun y hy => absurd hy (by omega))
    | succ n ih =>
      rcases ih with i | i
      · rcases Nat.lt_trichotomy (f n) (g n) with z | z | z
        · exact Or.inr (Or.inr ⟨n, fun y hy => (i y hy).symm, z⟩)
        · refine Or.inl (fun y hy => ?_)
          by_cases e : y = n
          · rw [e, z]
          · exact i y (by omega)
        · exact Or.inr (Or.inl ⟨n, i, z⟩)
      · exact Or.inr i
  rcases this X with z | z | z
  · refine Or.inr (Or.inr (fun x => ?_))
    rcases Nat.lt_or_ge x X with y | y
    · exact z x y
    · exact h x y
  · exact Or.inl z
  · exact Or.inr (Or.inl z)
theorem nj_dp_half {N : nj_Net} (hw : nj_wf N) {n : Nat} (hs : nj_sf N n) {t : Nat} {w1 w2 : List Nat} (ho1 : nj_ok N w1) (ho2 : nj_ok N w2) (hl1 : w1.length ≤ n) (i : Nat) (hk : ∀ y, y < 8 * i → nj_kk N w1 y = nj_kk N w2 y) (hi : 0 < i) (hj : nj_dp N t w1 ≤ i) : nj_dp N t w2 ≤ nj_dp N t w1 := by
  have h1 : 0 < nj_dp N t w1 := by unfold nj_dp; omega
  refine nj_dp_ub (fun p hp => ?_) h1
  rcases Nat.lt_or_ge (nj_td N w2 p) (nj_dp N t w1) with z | z
  · exact z
  · obtain ⟨v, v1, v2, v3⟩ := nj_att p w2 ho2 (by omega)
    have a : ∀ d, 0 < d → nj_dp N t w1 ≤ d → nj_kk N w1 (8 * d + v) = 0 := by
      intro d d0 d1
      rcases Nat.eq_zero_or_pos (nj_kk N w1 (8 * d + v)) with y | y
      · exact y
      · have b := nj_dep hw hs p d v d0 v1 v2 w1 ho1 hl1 y
        have c := nj_dp_lt hw w1 hp
        omega
    have b := nj_smB v1 (nj_dp N t w1) w1 ho1 a
    have c : nj_sm (nj_kk N w2) v (nj_dp N t w1) = nj_kk N w2 v := by
      rw [← hk v (by omega), ← b]
      exact (nj_sm_cg _ (fun d d0 d1 => hk _ (by omega))).symm
    have e := nj_smC v1 _ w2 ho2 c _ (by omega) z
    omega
/-- the order minds no common letter behind -/
theorem nj_adeq {N : nj_Net} (hw : nj_wf N) {n : Nat} (hs : nj_sf N n) {t : Nat} {w1 w2 : List Nat} (ho1 : nj_ok N w1) (ho2 : nj_ok N w2) (hl1 : w1.length ≤ n) (hl2 : w2.length ≤ n) (ht : t < 8) (h : nj_pl (nj_kk N w1) (nj_kk N w2)) : nj_pl (nj_kk N (t :: w1)) (nj_kk N (t :: w2)) := by
  obtain ⟨x, x1, x2⟩ := h
  have e1 : ∀ y, nj_kk N (t :: w1) y = nj_kk N w1 y + (if y = t then 1 else 0) + (if y = 8 * nj_dp N t w1 + t then 1 else 0) := fun y => rfl
  have e2 : ∀ y, nj_kk N (t :: w2) y = nj_kk N w2 y + (if y = t then 1 else 0) + (if y = 8 * nj_dp N t w2 + t then 1 else 0) := fun y => rfl
  have d1 : 0 < nj_dp N t w1 := by unfold nj_dp; omega
  have d2 : 0 < nj_dp N t w2 := by unfold nj_dp; omega
  have key : ∀ y, y ≤ x → (if y = 8 * nj_dp N t w1 + t then 1 else 0) = (if y = 8 * nj_dp N t w2 + t then 1 else 0) := by
    intro y hy
    rcases Nat.lt_or_ge x 8 with z | z
    · rw [if_neg (by omega), if_neg (by omega)]
    · have hk : ∀ y, y < 8 * (x / 8) → nj_kk N w1 y = nj_kk N w2 y := fun y hy => x1 y (by omega)
      rcases Nat.lt_or_ge (x / 8) (nj_dp N t w1) with a | a
      · rcases Nat.lt_or_ge (x / 8) (nj_dp N t w2) with b | b
        · rw [if_neg (by omega), if_neg (by omega)]
        · have c := nj_dp_half hw hs ho2 ho1 hl2 (x / 8) (fun y hy => (hk y hy).symm) (by omega) b
          omega
      · have b := nj_dp_half hw hs ho1 ho2 hl1 (x / 8) hk (by omega) a
        have c := nj_dp_half (t := t) hw hs ho2 ho1 hl2 (x / 8) (fun y hy => (hk y hy).symm) (by omega) (by omega)
        rw [Nat.le_antisymm c b]
  refine ⟨x, fun y hy => ?_, ?_⟩
  · rw [e1, e2, x1 y hy, key y (by omega)]
  · rw [e1, e2, key x (Nat.le_refl _)]
    omega
end
section
/-! least words -/
theorem nj_minl {α : Type} (R : α → α → Prop) (ir : ∀ a, ¬ R a a) (tr : ∀ a b c, R a b → R b c → R a c) (P : α → Prop) : ∀ l : List α, (∃ x, x ∈ l ∧ P x) → ∃ y, y ∈ l ∧ P y ∧ ∀ z, z ∈ l → P z → ¬ R z y := by
  intro l
  induction l with
  | nil => exact fun ⟨x, hx, _⟩ => absurd hx (by simp)
  | cons a l ih =>
    intro ⟨x, hx, px⟩
    by_cases h : ∃ x, x ∈ l ∧ P x
    · obtain ⟨y, y1, y2, y3⟩ := ih h
      by_cases g : P a ∧ R a y
      · refine ⟨a, by simp, g.1, fun z hz pz hr => ?_⟩
        rcases List.mem_cons.mp hz with e | e
        · rw [e] at hr
          exact ir a hr
        · exact y3 z e pz (tr _ _ _ hr g.2)
      · refine ⟨y, List.mem_cons_of_mem _ y1, y2, fun z hz pz hr => ?_⟩
        rcases List.mem_cons.mp hz with e | e
        · rw [e] at hr pz
          exact g ⟨pz, hr⟩
        · exact y3 z e pz hr
    · rcases List.mem_cons.mp hx with e | e
      · rw [e] at px
        refine ⟨a, by simp, px, fun z hz pz hr => ?_⟩
        rcases List.mem_cons.mp hz with e | e
        · rw [e] at hr
          exact ir a hr
        · exact h ⟨z, e, pz⟩
      · exact absurd ⟨x, e, px⟩ h
def nj_wl : Nat → List (List Nat)
  | 0 => [[]]
  | n + 1 => (nj_wl n).flatMap (fun w => (List.range 8).map (fun t => t :: w))
theorem nj_wl_mem {N : nj_Net} : ∀ w, nj_ok N w → w ∈ nj_wl w.length := by
  intro w
  induction w with
  | nil => exact fun _ => by simp [nj_wl]
  | cons t w ih =>
    intro ho
    show t :: w ∈ (nj_wl w.length).flatMap (fun w => (List.range 8).map (fun t => t :: w))
    rw [List.mem_flatMap]
    exact ⟨w, ih ho.1, List.mem_map.mpr ⟨t, List.mem_range.mpr ho.2.1, rfl⟩⟩
/-- a least word for its marking: shortest, and of the shortest none has a key that goes before -/
def nj_mn (N : nj_Net) (w : List Nat) : Prop := nj_ok N w ∧ ∀ w', nj_ok N w' → nj_mk N w' = nj_mk N w → w.length ≤ w'.length ∧ (w'.length = w.length → ¬ nj_pl (nj_kk N w') (nj_kk N w))
theorem nj_mn_ex {N : nj_Net} {w : List Nat} (ho : nj_ok N w) : ∃ w0, nj_mn N w0 ∧ nj_mk N w0 = nj_mk N w ∧ w0.length ≤ w.length := by
  obtain ⟨k, ⟨w1, a1, a2, a3⟩, hk⟩ := pk_least (fun k => ∃ w', nj_ok N w' ∧ nj_mk N w' = nj_mk N w ∧ w'.length = k) ⟨w.length, w, ho, rfl, rfl⟩
  have hle : ∀ w', nj_ok N w' → nj_mk N w' = nj_mk N w → k ≤ w'.length := by
    intro w' h1 h2
    rcases Nat.lt_or_ge w'.length k with z | z
    · exact absurd ⟨w', h1, h2, rfl⟩ (hk _ z)
    · exact z
  obtain ⟨y, y1, ⟨y2, y3, y4⟩, y5⟩ := nj_minl (fun a b : List Nat => nj_pl (nj_kk N a) (nj_kk N b)) (fun a => nj_pl_ir _) (fun a b c => nj_pl_tr) (fun w' => nj_ok N w' ∧ nj_mk N w' = nj_mk N w ∧ w'.length = k) (nj_wl k) ⟨w1, by rw [← a3]; exact nj_wl_mem w1 a1, a1, a2, a3⟩
  refine ⟨y, ⟨y2, fun w' h1 h2 => ?_⟩, y3, by rw [y4]; exact hle w ho rfl⟩
  rw [y3] at h2
  refine ⟨by rw [y4]; exact hle w' h1 h2, fun h3 => ?_⟩
  exact y5 w' (by rw [← y4, ← h3]; exact nj_wl_mem w' h1) ⟨h1, h2, by rw [h3, y4]⟩
theorem nj_ok_cg {N : nj_Net} {t : Nat} {w w' : List Nat} (h : nj_ok N (t :: w)) (ho : nj_ok N w') (hm : nj_mk N w' = nj_mk N w) : nj_ok N (t :: w') := by
  obtain ⟨_, h1, h2, h3, h4⟩ := h
  refine ⟨ho, h1, h2, ?_, ?_⟩
  · rw [hm]; exact h3
  · rw [hm]; exact h4
theorem nj_mk_cg {N : nj_Net} {t : Nat} {w w' : List Nat} (hm : nj_mk N w' = nj_mk N w) : nj_mk N (t :: w') = nj_mk N (t :: w) := by
  show nj_fire N t (nj_mk N w') = nj_fire N t (nj_mk N w)
  rw [hm]
/-- what stands ahead of a least word's last letter is least too -/
theorem nj_mn_tl {N : nj_Net} (hw : nj_wf N) {n : Nat} (hs : nj_sf N n) {t : Nat} {w : List Nat} (h : nj_mn N (t :: w)) (hl : w.length < n) : nj_mn N w := by
  obtain ⟨ho, hm⟩ := h
  refine ⟨ho.1, fun w' h1 h2 => ?_⟩
  have a := hm (t :: w') (nj_ok_cg ho h1 h2) (nj_mk_cg h2)
  simp only [List.length_cons] at a
  refine ⟨by omega, fun h3 h4 => a.2 (by omega) ?_⟩
  exact nj_adeq hw hs h1 ho.1 (by omega) (by omega) ho.2.1 h4
/-! how many below n -/
def nj_ct (f : Nat → Bool) : Nat → Nat
  | 0 => 0
  | n + 1 => nj_ct f n + (if f n = true then 1 else 0)
theorem nj_ct_cg {f g : Nat → Bool} : ∀ n, (∀ i, i < n → f i = g i) → nj_ct f n = nj_ct g n := by
  intro n
  induction n with
  | zero => exact fun _ => rfl
  | succ n ih =>
    intro h
    unfold nj_ct
    rw [ih (fun i hi => h i (by omega)), h n (by omega)]
theorem nj_ct_le {f g : Nat → Bool} : ∀ n, (∀ i, i < n → f i = true → g i = true) → nj_ct f n ≤ nj_ct g n := by
  intro n
  induction n with
  | zero => exact fun _ => Nat.le_refl _
  | succ n ih =>
    intro h
    unfold nj_ct
    have i := ih (fun i hi => h i (by omega))
    by_cases e : f n = true
    · rw [if_pos e, if_pos (h n (by omega) e)]
      omega
    · rw [if_neg e]
      omega
theorem nj_ct_ub (f : Nat → Bool) : ∀ n, nj_ct f n ≤ n := by
  intro n
  induction n with
  | zero => exact Nat.le_refl _
  | succ n ih => unfold nj_ct; by_cases e : f n = true <;> simp only [e, if_true, if_false] <;> first | omega | (simp; omega)
theorem nj_ct_0 {f : Nat → Bool} : ∀ n, (∀ i, i < n → f i = false) → nj_ct f n = 0 := by
  intro n
  induction n with
  | zero => exact fun _ => rfl
  | succ n ih =>
    intro h
    unfold nj_ct
    rw [ih (fun i hi => h i (by omega)), h n (by omega)]
    rfl
theorem nj_ct_pos {f : Nat → Bool} : ∀ n, 0 < nj_ct f n → ∃ i, i < n ∧ f i = true := by
  intro n
  induction n with
  | zero => exact fun h => absurd h (by show ¬ 0 < 0; omega)
  | succ n ih =>
    intro h
    unfold nj_ct at h
    by_cases e : f n = true
    · exact ⟨n, by omega, e⟩
    · rw [if_neg e] at h
      obtain ⟨i, i1, i2⟩ := ih (by omega)
      exact ⟨i, by omega, i2⟩
theorem nj_ct_one {f : Nat → Bool} {i : Nat} (h : f i = true) : ∀ n, i < n → 0 < nj_ct f n := by
  intro n
  induction n with
  | zero => intro h; omega
  | succ n ih =>
    intro hi
    unfold nj_ct
    by_cases e : i = n
    · subst e
      rw [if_pos h]
      omega
    · have := ih (by omega)
      omega
/-- one more -/
theorem nj_ct_add {f g : Nat → Bool} {e : Nat} (h : ∀ i, i ≠ e → f i = g i) (he : f e = false) : ∀ n, nj_ct g n = nj_ct f n + (if e < n ∧ g e = true then 1 else 0) := by
  intro n
  induction n with
  | zero => rw [if_neg (fun h => absurd h.1 (by omega))]; rfl
  | succ n ih =>
    unfold nj_ct
    rw [ih]
    by_cases x : n = e
    · subst x
      have a : ¬ (n < n ∧ g n = true) := fun h => absurd h.1 (Nat.lt_irrefl n)
      have b : ¬ f n = true := by rw [he]; decide
      rw [if_neg a, if_neg b]
      by_cases y : g n = true
      · have c : n < n + 1 ∧ g n = true := ⟨by omega, y⟩
        rw [if_pos y, if_pos c]
      · have c : ¬ (n < n + 1 ∧ g n = true) := fun h => y h.2
        rw [if_neg y, if_neg c]
    · rw [h n x]
      by_cases y : e < n ∧ g e = true
      · have c : e < n + 1 ∧ g e = true := ⟨by omega, y.2⟩
        rw [if_pos y, if_pos c]
        omega
      · have c : ¬ (e < n + 1 ∧ g e = true) := fun h => y ⟨by omega, h.2⟩
        rw [if_neg y, if_neg c]
        omega
end
section
/-! the prefix: events and conditions; what stands beside what -/
/-- the prefix's own facts: ne events, nc conditions; T: an event's transition; eb e p: the condition at place p that event e takes; pl, pd: a condition's place and maker (0: none, e + 1: event e); be: beside; ps: the events that led to a condition; D: an event's depth -/
def nj_X (N : nj_Net) (ne nc : Nat) (T : Nat → Nat) (eb : Nat → Nat → Nat) (pl pd : Nat → Nat) (be ps : Nat → Nat → Bool) (D : Nat → Nat) : Prop :=
  (∀ e, e < ne → T e < 8 ∧ N.2.2.1 (T e) = true ∧ ∀ p, N.1 (T e) p = true → eb e p < nc ∧ pl (eb e p) = p ∧ pd (eb e p) ≤ e) ∧
  (∀ c, c < nc → pd c ≤ ne ∧ (pd c = 0 → N.2.2.2 (pl c) = true) ∧ (0 < pd c → N.2.1 (T (pd c - 1)) (pl c) = true)) ∧
  (∀ p, N.2.2.2 p = true → ∃ c, c < nc ∧ pd c = 0 ∧ pl c = p) ∧
  (∀ e p, e < ne → N.2.1 (T e) p = true → ∃ c, c < nc ∧ pd c = e + 1 ∧ pl c = p) ∧
  (∀ c d, c < nc → d < nc → pd c = pd d → pl c = pl d → c = d) ∧
  (∀ e f, e < ne → f < ne → T e = T f → (∀ p, N.1 (T e) p = true → eb e p = eb f p) → e = f) ∧
  (∀ c f, c < nc → (ps c f = true ↔ 0 < pd c ∧ (f = pd c - 1 ∨ ∃ p, N.1 (T (pd c - 1)) p = true ∧ ps (eb (pd c - 1) p) f = true))) ∧
  (∀ c d, c < nc → d < nc → pd c = pd d → c ≠ d → be c d = true) ∧
  (∀ c, c < nc → be c c = false) ∧
  (∀ c d, c < nc → d < nc → be c d = true → be d c = true) ∧
  (∀ c d, c < nc → d < nc → pd d < pd c → (be c d = true ↔ ∀ p, N.1 (T (pd c - 1)) p = true → be (eb (pd c - 1) p) d = true)) ∧
  (∀ e p q, e < ne → N.1 (T e) p = true → N.1 (T e) q = true → p ≠ q → be (eb e p) (eb e q) = true) ∧
  (∀ e, e < ne → 0 < D e ∧ (∀ p f, N.1 (T e) p = true → ps (eb e p) f = true → D f < D e) ∧ (D e = 1 ∨ ∃ p f, N.1 (T e) p = true ∧ ps (eb e p) f = true ∧ D e = D f + 1))
section
variable {N : nj_Net} {ne nc : Nat} {T : Nat → Nat} {eb : Nat → Nat → Nat} {pl pd : Nat → Nat} {be ps : Nat → Nat → Bool} {D : Nat → Nat}
/-- no two events of U take the same condition -/
def nj_nc (N : nj_Net) (T : Nat → Nat) (eb : Nat → Nat → Nat) (U : Nat → Prop) : Prop := ∀ e f p, U e → U f → N.1 (T e) p = true → N.1 (T f) p = true → eb e p = eb f p → e = f
/-- no event of U takes c -/
def nj_un (N : nj_Net) (T : Nat → Nat) (eb : Nat → Nat → Nat) (pl : Nat → Nat) (U : Nat → Prop) (c : Nat) : Prop := ∀ e, U e → N.1 (T e) (pl c) = true → eb e (pl c) ≠ c
def nj_co (N : nj_Net) (T : Nat → Nat) (eb : Nat → Nat → Nat) (pl : Nat → Nat) (ps : Nat → Nat → Bool) (c d : Nat) : Prop :=
  c ≠ d ∧ nj_nc N T eb (fun e => ps c e = true ∨ ps d e = true) ∧ nj_un N T eb pl (fun e => ps c e = true ∨ ps d e = true) c ∧ nj_un N T eb pl (fun e => ps c e = true ∨ ps d e = true) d
def nj_lc (N : nj_Net) (T : Nat → Nat) (eb : Nat → Nat → Nat) (pl : Nat → Nat) (ps : Nat → Nat → Bool) (c : Nat) : Prop :=
  nj_nc N T eb (fun e => ps c e = true) ∧ nj_un N T eb pl (fun e => ps c e = true) c
theorem nj_co_sym {c d : Nat} (h : nj_co N T eb pl ps c d) : nj_co N T eb pl ps d c := by
  obtain ⟨h1, h2, h3, h4⟩ := h
  exact ⟨fun e => h1 e.symm, fun e f p he hf => h2 e f p he.symm hf.symm, fun e he => h4 e he.symm, fun e he => h3 e he.symm⟩
/-- pairwise is enough -/
theorem nj_pw {X : Nat → Prop} (h1 : ∀ c, X c → nj_lc N T eb pl ps c) (h2 : ∀ c d, X c → X d → c ≠ d → nj_co N T eb pl ps c d) :
    nj_nc N T eb (fun e => ∃ c, X c ∧ ps c e = true) ∧ ∀ c, X c → nj_un N T eb pl (fun e => ∃ c, X c ∧ ps c e = true) c := by
  constructor
  · intro e f p ⟨c, hc, ec⟩ ⟨d, hd, fd⟩
    by_cases z : c = d
    · subst z
      exact (h1 c hc).1 e f p ec fd
    · exact (h2 c d hc hd z).2.1 e f p (Or.inl ec) (Or.inr fd)
  · intro c hc e ⟨d, hd, fd⟩
    by_cases z : c = d
    · subst z
      exact (h1 c hc).2 e fd
    · exact (h2 c d hc hd z).2.2.1 e (Or.inr fd)
theorem nj_ps_lt (hX : nj_X N ne nc T eb pl pd be ps D) : ∀ k c, c < nc → pd c ≤ k → ∀ f, ps c f = true → f < pd c := by
  obtain ⟨x1, x2, x3, x4, x5, x6, x7, x8⟩ := hX
  intro k
  induction k with
  | zero =>
    intro c hc hp f hf
    have := ((x7 c f hc).mp hf).1
    omega
  | succ k ih =>
    intro c hc hp f hf
    obtain ⟨h0, h⟩ := (x7 c f hc).mp hf
    have hne := (x2 c hc).1
    rcases h with h | ⟨p, h1, h2⟩
    · omega
    · obtain ⟨a1, a2, a3⟩ := (x1 (pd c - 1) (by omega)).2.2 p h1
      have := ih _ a1 (by omega) f h2
      omega
theorem nj_ps_cl (hX : nj_X N ne nc T eb pl pd be ps D) : ∀ k c, c < nc → pd c ≤ k → ∀ e p, ps c e = true → N.1 (T e) p = true → 0 < pd (eb e p) → ps c (pd (eb e p) - 1) = true := by
  have hX' := hX
  obtain ⟨x1, x2, x3, x4, x5, x6, x7, x8⟩ := hX
  intro k
  induction k with
  | zero =>
    intro c hc hp e p hf
    have := ((x7 c e hc).mp hf).1
    omega
  | succ k ih =>
    intro c hc hp e p hf hp1 hpd
    obtain ⟨h0, h⟩ := (x7 c e hc).mp hf
    have hne := (x2 c hc).1
    rcases h with h | ⟨q, h1, h2⟩
    · obtain ⟨a1, a2, a3⟩ := (x1 e (by omega)).2.2 p hp1
      refine (x7 c _ hc).mpr ⟨h0, Or.inr ⟨p, by rw [← h]; exact hp1, ?_⟩⟩
      rw [← h]
      exact (x7 _ _ a1).mpr ⟨hpd, Or.inl rfl⟩
    · obtain ⟨a1, a2, a3⟩ := (x1 (pd c - 1) (by omega)).2.2 q h1
      exact (x7 c _ hc).mpr ⟨h0, Or.inr ⟨q, h1, ih _ a1 (by omega) e p h2 hp1 hpd⟩⟩
/-- an event whose conditions are pairwise fine joins in -/
theorem nj_join {X : Nat → Prop} {e : Nat} (h1 : ∀ c, X c → nj_lc N T eb pl ps c) (h2 : ∀ c d, X c → X d → c ≠ d → nj_co N T eb pl ps c d) (he : ∀ p, N.1 (T e) p = true → X (eb e p) ∧ pl (eb e p) = p) :
    nj_nc N T eb (fun f => f = e ∨ ∃ c, X c ∧ ps c f = true) ∧ ∀ c, X c → (N.1 (T e) (pl c) = true → eb e (pl c) ≠ c) → nj_un N T eb pl (fun f => f = e ∨ ∃ c, X c ∧ ps c f = true) c := by
  obtain ⟨a, b⟩ := nj_pw h1 h2
  have key : ∀ f p, (∃ c, X c ∧ ps c f = true) → N.1 (T e) p = true → N.1 (T f) p = true → eb e p = eb f p → e = f := by
    intro f p hf p1 p2 h
    obtain ⟨g1, g2⟩ := he p p1
    have := b _ g1 f hf
    rw [g2] at this
    exact absurd h.symm (this p2)
  constructor
  · intro f g p hf hg p1 p2 h
    rcases hf with hf | hf
    · rcases hg with hg | hg
      · rw [hf, hg]
      · rw [hf] at p1 h ⊢
        exact key g p hg p1 p2 h
    · rcases hg with hg | hg
      · rw [hg] at p2 h ⊢
        exact (key f p hf p2 p1 h.symm).symm
      · exact a f g p hf hg p1 p2 h
  · intro c hc hn f hf
    rcases hf with hf | hf
    · rw [hf]
      exact hn
    · exact b c hc f hf
theorem nj_be_co (hX : nj_X N ne nc T eb pl pd be ps D) : ∀ k, (∀ c, c < nc → pd c ≤ k → nj_lc N T eb pl ps c) ∧ (∀ c d, c < nc → d < nc → pd c ≤ k → pd d ≤ k → c ≠ d → (be c d = true ↔ nj_co N T eb pl ps c d)) := by
  have hX' := hX
  obtain ⟨x1, x2, x3, x4, x5, x6, x7, x8, x9, x10, x11, x12, x13⟩ := hX
  intro k
  induction k with
  | zero =>
    have no : ∀ c, c < nc → pd c ≤ 0 → ∀ f, ¬ ps c f = true := by
      intro c hc hp f hf
      have := ((x7 c f hc).mp hf).1
      omega
    refine ⟨fun c hc hp => ⟨fun e f p he => absurd he (no c hc hp e), fun e he => absurd he (no c hc hp e)⟩, fun c d hc hd pc pe hn => ⟨fun _ => ?_, fun _ => x8 c d hc hd (by omega) hn⟩⟩
    refine ⟨hn, fun e f p he => ?_, fun e he => ?_, fun e he => ?_⟩ <;>
    · rcases he with he | he
      · exact absurd he (no c hc pc e)
      · exact absurd he (no d hd pe e)
  | succ k ih =>
    obtain ⟨i1, i2⟩ := ih
    have xk : ∀ c, c < nc → pd c = k + 1 → (∀ p, N.1 (T k) p = true → eb k p < nc ∧ pl (eb k p) = p ∧ pd (eb k p) ≤ k) ∧ k < ne ∧ (∀ f, ps c f = true ↔ (f = k ∨ ∃ p, N.1 (T k) p = true ∧ ps (eb k p) f = true)) := by
      intro c hc e
      have hne := (x2 c hc).1
      refine ⟨(x1 k (by omega)).2.2, by omega, fun f => ?_⟩
      have := x7 c f hc
      rw [e] at this
      simp only [Nat.add_sub_cancel] at this
      rw [this]
      exact ⟨fun h => h.2, fun h => ⟨by omega, h⟩⟩
    have pw : k < ne → ∀ c d, (∃ p, N.1 (T k) p = true ∧ eb k p = c) → (∃ p, N.1 (T k) p = true ∧ eb k p = d) → c ≠ d → nj_co N T eb pl ps c d := by
      intro hk c d ⟨p, p1, p2⟩ ⟨q, q1, q2⟩ hn
      obtain ⟨a1, a2, a3⟩ := (x1 k hk).2.2 p p1
      obtain ⟨b1, b2, b3⟩ := (x1 k hk).2.2 q q1
      rw [← p2, ← q2] at hn ⊢
      refine (i2 _ _ a1 b1 a3 b3 hn).mp (x12 k p q hk p1 q1 (fun e => hn (by rw [e])))
    have lcX : k < ne → ∀ c, (∃ p, N.1 (T k) p = true ∧ eb k p = c) → nj_lc N T eb pl ps c := by
      intro hk c ⟨p, p1, p2⟩
      obtain ⟨a1, a2, a3⟩ := (x1 k hk).2.2 p p1
      rw [← p2]
      exact i1 _ a1 a3
    -- events below k + 1 take nothing that event k makes
    have late : ∀ c, c < nc → pd c = k + 1 → ∀ f, f ≤ k → N.1 (T f) (pl c) = true → eb f (pl c) ≠ c := by
      intro c hc e f hf hp h
      have hne := (x2 c hc).1
      have := ((x1 f (by omega)).2.2 _ hp).2.2
      rw [h] at this
      omega
    have lc1 : ∀ c, c < nc → pd c = k + 1 → nj_lc N T eb pl ps c := by
      intro c hc e
      obtain ⟨y1, y2, y3⟩ := xk c hc e
      have J := nj_join (X := fun c => ∃ p, N.1 (T k) p = true ∧ eb k p = c) (e := k) (lcX y2) (pw y2) (fun p hp => ⟨⟨p, hp, rfl⟩, (y1 p hp).2.1⟩)
      refine ⟨fun f g p hf hg => J.1 f g p ?_ ?_, fun f hf => late c hc e f ?_⟩
      · rcases (y3 f).mp hf with h | ⟨p, h1, h2⟩
        · exact Or.inl h
        · exact Or.inr ⟨_, ⟨p, h1, rfl⟩, h2⟩
      · rcases (y3 g).mp hg with h | ⟨p, h1, h2⟩
        · exact Or.inl h
        · exact Or.inr ⟨_, ⟨p, h1, rfl⟩, h2⟩
      · have := nj_ps_lt hX' (k + 1) c hc (by omega) f hf
        omega
    -- the later one made by k, the other one elder
    have main : ∀ c d, c < nc → d < nc → pd c = k + 1 → pd d ≤ k → (be c d = true ↔ nj_co N T eb pl ps c d) := by
      intro c d hc hd e hpd
      obtain ⟨y1, y2, y3⟩ := xk c hc e
      have hb := x11 c d hc hd (by omega)
      rw [e] at hb
      simp only [Nat.add_sub_cancel] at hb
      rw [hb]
      have hcd : c ≠ d := fun z => by rw [z] at e; omega
      constructor
      · intro h
        have hbd : ∀ p, N.1 (T k) p = true → eb k p ≠ d := by
          intro p hp z
          have := h p hp
          rw [z, x9 d hd] at this
          exact absurd this (by decide)
        have J := nj_join (X := fun c => c = d ∨ ∃ p, N.1 (T k) p = true ∧ eb k p = c) (e := k) (by
            intro c h
            rcases h with h | h
            · rw [h]; exact i1 d hd hpd
            · exact lcX y2 c h) (by
            intro a b ha hb' hn
            rcases ha with ha | ha
            · rcases hb' with hb' | hb'
              · exact absurd (ha.trans hb'.symm) hn
              · obtain ⟨p, p1, p2⟩ := hb'
                rw [ha, ← p2]
                rw [ha, ← p2] at hn
                obtain ⟨a1, a2, a3⟩ := y1 p p1
                exact nj_co_sym ((i2 _ _ a1 hd a3 hpd hn.symm).mp (h p p1))
            · rcases hb' with hb' | hb'
              · obtain ⟨p, p1, p2⟩ := ha
                rw [hb', ← p2]
                rw [hb', ← p2] at hn
                obtain ⟨a1, a2, a3⟩ := y1 p p1
                exact (i2 _ _ a1 hd a3 hpd hn).mp (h p p1)
              · exact pw y2 a b ha hb' hn) (fun p hp => ⟨Or.inr ⟨p, hp, rfl⟩, (y1 p hp).2.1⟩)
        have sub : ∀ f, (ps c f = true ∨ ps d f = true) → (f = k ∨ ∃ c, (c = d ∨ ∃ p, N.1 (T k) p = true ∧ eb k p = c) ∧ ps c f = true) := by
          intro f hf
          rcases hf with hf | hf
          · rcases (y3 f).mp hf with h | ⟨p, h1, h2⟩
            · exact Or.inl h
            · exact Or.inr ⟨_, Or.inr ⟨p, h1, rfl⟩, h2⟩
          · exact Or.inr ⟨d, Or.inl rfl, hf⟩
        refine ⟨hcd, fun f g p hf hg => J.1 f g p (sub f hf) (sub g hg), fun f hf => late c hc e f ?_, fun f hf => J.2 d (Or.inl rfl) (fun hp => hbd _ hp) f (sub f hf)⟩
        rcases hf with hf | hf
        · have := nj_ps_lt hX' (k + 1) c hc (by omega) f hf
          omega
        · have := nj_ps_lt hX' (k + 1) d hd (by omega) f hf
          omega
      · intro ⟨h1, h2, h3, h4⟩ p hp
        obtain ⟨a1, a2, a3⟩ := y1 p hp
        have ke : ps c k = true := (y3 k).mpr (Or.inl rfl)
        have hne : eb k p ≠ d := by
          intro z
          have := h4 k (Or.inl ke)
          rw [← z, a2] at this
          exact this hp rfl
        have sub : ∀ f, (ps (eb k p) f = true ∨ ps d f = true) → (ps c f = true ∨ ps d f = true) ∧ f ≠ k := by
          intro f hf
          rcases hf with hf | hf
          · have := nj_ps_lt hX' k _ a1 a3 f hf
            exact ⟨Or.inl ((y3 f).mpr (Or.inr ⟨p, hp, hf⟩)), by omega⟩
          · have := nj_ps_lt hX' k _ hd hpd f hf
            exact ⟨Or.inr hf, by omega⟩
        refine (i2 _ _ a1 hd a3 hpd hne).mpr ⟨hne, fun f g q hf hg => h2 f g q (sub f hf).1 (sub g hg).1, fun f hf => ?_, fun f hf => h4 f (sub f hf).1⟩
        rw [a2]
        intro q1 q2
        exact (sub f hf).2 (h2 f k p (sub f hf).1 (Or.inl ke) q1 hp q2)
    refine ⟨fun c hc hp => ?_, fun c d hc hd pc pe hn => ?_⟩
    · by_cases e : pd c = k + 1
      · exact lc1 c hc e
      · exact i1 c hc (by omega)
    · by_cases e : pd c = k + 1
      · by_cases e2 : pd d = k + 1
        · refine ⟨fun _ => ?_, fun _ => x8 c d hc hd (by omega) hn⟩
          obtain ⟨y1, y2, y3⟩ := xk c hc e
          obtain ⟨z1, z2, z3⟩ := xk d hd e2
          have sub : ∀ f, (ps c f = true ∨ ps d f = true) → ps c f = true := by
            intro f hf
            rcases hf with hf | hf
            · exact hf
            · exact (y3 f).mpr ((z3 f).mp hf)
          have L := lc1 c hc e
          refine ⟨hn, fun f g p hf hg => L.1 f g p (sub f hf) (sub g hg), fun f hf => L.2 f (sub f hf), fun f hf => late d hd e2 f ?_⟩
          have := nj_ps_lt hX' (k + 1) c hc (by omega) f (sub f hf)
          omega
        · exact main c d hc hd e (by omega)
      · by_cases e2 : pd d = k + 1
        · have m := main d c hd hc e2 (by omega)
          exact ⟨fun h => nj_co_sym (m.mp (x10 c d hc hd h)), fun h => x10 d c hd hc (m.mpr (nj_co_sym h))⟩
        · exact i2 c d hc hd (by omega) (by omega) hn
theorem nj_bc (hX : nj_X N ne nc T eb pl pd be ps D) {c d : Nat} (hc : c < nc) (hd : d < nc) (hn : c ≠ d) : be c d = true ↔ nj_co N T eb pl ps c d :=
  (nj_be_co hX ne).2 c d hc hd (hX.2.1 c hc).1 (hX.2.1 d hd).1 hn
theorem nj_lo (hX : nj_X N ne nc T eb pl pd be ps D) {c : Nat} (hc : c < nc) : nj_lc N T eb pl ps c :=
  (nj_be_co hX ne).1 c hc (hX.2.1 c hc).1
end
end
section
/-! configurations and their cuts -/
section
variable {N : nj_Net} {ne nc : Nat} {T : Nat → Nat} {eb : Nat → Nat → Nat} {pl pd : Nat → Nat} {be ps : Nat → Nat → Bool} {D : Nat → Nat}
def nj_cfg (N : nj_Net) (ne : Nat) (T : Nat → Nat) (eb : Nat → Nat → Nat) (pd : Nat → Nat) (E : Nat → Bool) : Prop :=
  (∀ e, E e = true → e < ne) ∧ (∀ e p, E e = true → N.1 (T e) p = true → 0 < pd (eb e p) → E (pd (eb e p) - 1) = true) ∧ nj_nc N T eb (fun e => E e = true)
def nj_cut (N : nj_Net) (nc : Nat) (T : Nat → Nat) (eb : Nat → Nat → Nat) (pl pd : Nat → Nat) (E : Nat → Bool) (c : Nat) : Prop :=
  c < nc ∧ (pd c = 0 ∨ E (pd c - 1) = true) ∧ nj_un N T eb pl (fun e => E e = true) c
theorem nj_ps_in (hX : nj_X N ne nc T eb pl pd be ps D) {E : Nat → Bool} (hE : nj_cfg N ne T eb pd E) : ∀ k c, c < nc → pd c ≤ k → (pd c = 0 ∨ E (pd c - 1) = true) → ∀ f, ps c f = true → E f = true := by
  obtain ⟨x1, x2, x3, x4, x5, x6, x7, x8⟩ := hX
  intro k
  induction k with
  | zero =>
    intro c hc hp h f hf
    have := ((x7 c f hc).mp hf).1
    omega
  | succ k ih =>
    intro c hc hp h f hf
    obtain ⟨h0, g⟩ := (x7 c f hc).mp hf
    have hne := (x2 c hc).1
    have h' : E (pd c - 1) = true := by
      rcases h with h | h
      · omega
      · exact h
    rcases g with g | ⟨p, g1, g2⟩
    · rw [g]; exact h'
    · obtain ⟨a1, a2, a3⟩ := (x1 (pd c - 1) (by omega)).2.2 p g1
      refine ih _ a1 (by omega) ?_ f g2
      rcases Nat.eq_zero_or_pos (pd (eb (pd c - 1) p)) with z | z
      · exact Or.inl z
      · exact Or.inr (hE.2.1 _ p h' g1 z)
/-- two of a cut stand beside each other -/
theorem nj_cut_be (hX : nj_X N ne nc T eb pl pd be ps D) {E : Nat → Bool} (hE : nj_cfg N ne T eb pd E) {c d : Nat} (hc : nj_cut N nc T eb pl pd E c) (hd : nj_cut N nc T eb pl pd E d) (hn : c ≠ d) : be c d = true := by
  have pc := nj_ps_in hX hE _ c hc.1 (Nat.le_refl _) hc.2.1
  have pe := nj_ps_in hX hE _ d hd.1 (Nat.le_refl _) hd.2.1
  have sub : ∀ f, (ps c f = true ∨ ps d f = true) → E f = true := by
    intro f hf
    rcases hf with hf | hf
    · exact pc f hf
    · exact pe f hf
  exact (nj_bc hX hc.1 hd.1 hn).mpr ⟨hn, fun e f p he hf => hE.2.2 e f p (sub e he) (sub f hf), fun e he => hc.2.2 e (sub e he), fun e he => hd.2.2 e (sub e he)⟩
theorem nj_cut_eq (hX : nj_X N ne nc T eb pl pd be ps D) (hU : ∀ c d, c < nc → d < nc → be c d = true → pl c ≠ pl d) {E : Nat → Bool} (hE : nj_cfg N ne T eb pd E) {c d : Nat} (hc : nj_cut N nc T eb pl pd E c) (hd : nj_cut N nc T eb pl pd E d) (hp : pl c = pl d) : c = d := by
  by_cases z : c = d
  · exact z
  · exact absurd hp (hU c d hc.1 hd.1 (nj_cut_be hX hE hc hd z))
/-- the past of an event that can happen -/
def nj_H (N : nj_Net) (t : Nat) (b : Nat → Nat) (ps : Nat → Nat → Bool) : Nat → Nat → Bool
  | 0 => fun _ => false
  | n + 1 => fun f => nj_H N t b ps n f || (N.1 t n && ps (b n) f)
theorem nj_H_iff {t : Nat} {b : Nat → Nat} {f : Nat} : ∀ n, nj_H N t b ps n f = true ↔ ∃ p, p < n ∧ N.1 t p = true ∧ ps (b p) f = true := by
  intro n
  induction n with
  | zero => exact ⟨fun h => absurd h (by simp [nj_H]), fun ⟨p, h, _⟩ => absurd h (by omega)⟩
  | succ n ih =>
    show (nj_H N t b ps n f || (N.1 t n && ps (b n) f)) = true ↔ _
    rw [Bool.or_eq_true, ih, Bool.and_eq_true]
    constructor
    · intro h
      rcases h with ⟨p, h1, h2⟩ | h
      · exact ⟨p, by omega, h2⟩
      · exact ⟨n, by omega, h⟩
    · intro ⟨p, h1, h2⟩
      by_cases e : p = n
      · rw [e] at h2; exact Or.inr h2
      · exact Or.inl ⟨p, by omega, h2⟩
theorem nj_H_6 (hw : nj_wf N) {t : Nat} {b : Nat → Nat} {f : Nat} : nj_H N t b ps 6 f = true ↔ ∃ p, N.1 t p = true ∧ ps (b p) f = true :=
  (nj_H_iff 6).trans ⟨fun ⟨p, _, h⟩ => ⟨p, h⟩, fun ⟨p, h1, h2⟩ => ⟨p, hw t p h1, h1, h2⟩⟩
/-- an event that can happen: its transition and the conditions it takes -/
def nj_pos (N : nj_Net) (nc : Nat) (pl : Nat → Nat) (be : Nat → Nat → Bool) (t : Nat) (b : Nat → Nat) : Prop :=
  t < 8 ∧ N.2.2.1 t = true ∧ (∀ p, N.1 t p = true → b p < nc ∧ pl (b p) = p) ∧ (∀ p q, N.1 t p = true → N.1 t q = true → p ≠ q → be (b p) (b q) = true)
theorem nj_pos_cfg (hw : nj_wf N) (hX : nj_X N ne nc T eb pl pd be ps D) {t : Nat} {b : Nat → Nat} (h : nj_pos N nc pl be t b) : nj_cfg N ne T eb pd (nj_H N t b ps 6) ∧ ∀ p, N.1 t p = true → nj_cut N nc T eb pl pd (nj_H N t b ps 6) (b p) := by
  obtain ⟨_, _, h1, h2⟩ := h
  have J := nj_pw (N := N) (T := T) (eb := eb) (pl := pl) (ps := ps) (X := fun c => ∃ p, N.1 t p = true ∧ b p = c) (by
      intro c ⟨p, p1, p2⟩
      rw [← p2]
      exact nj_lo hX (h1 p p1).1) (by
      intro c d ⟨p, p1, p2⟩ ⟨q, q1, q2⟩ hn
      rw [← p2, ← q2] at hn ⊢
      exact (nj_bc hX (h1 p p1).1 (h1 q q1).1 hn).mp (h2 p q p1 q1 (fun e => hn (by rw [e]))))
  have sub : ∀ f, nj_H N t b ps 6 f = true → ∃ c, (∃ p, N.1 t p = true ∧ b p = c) ∧ ps c f = true := by
    intro f hf
    obtain ⟨p, p1, p2⟩ := (nj_H_6 hw).mp hf
    exact ⟨_, ⟨p, p1, rfl⟩, p2⟩
  refine ⟨⟨fun f hf => ?_, fun f q hf hq h0 => ?_, fun e f p he hf => J.1 e f p (sub e he) (sub f hf)⟩, fun p hp => ⟨(h1 p hp).1, ?_, fun f hf => J.2 _ ⟨p, hp, rfl⟩ f (sub f hf)⟩⟩
  · obtain ⟨p, p1, p2⟩ := (nj_H_6 hw).mp hf
    have a := nj_ps_lt hX _ _ (h1 p p1).1 (Nat.le_refl _) f p2
    have b := (hX.2.1 _ (h1 p p1).1).1
    omega
  · obtain ⟨p, p1, p2⟩ := (nj_H_6 hw).mp hf
    exact (nj_H_6 hw).mpr ⟨p, p1, nj_ps_cl hX _ _ (h1 p p1).1 (Nat.le_refl _) f q p2 hq h0⟩
  · rcases Nat.eq_zero_or_pos (pd (b p)) with z | z
    · exact Or.inl z
    · exact Or.inr ((nj_H_6 hw).mpr ⟨p, hp, (hX.2.2.2.2.2.2.1 _ _ (h1 p hp).1).mpr ⟨z, Or.inl rfl⟩⟩)
/-- every event of a configuration led to a condition of its cut -/
theorem nj_cut_cov (hX : nj_X N ne nc T eb pl pd be ps D) (hpo : ∀ t, t < 8 → N.2.2.1 t = true → ∃ p, N.2.1 t p = true) {E : Nat → Bool} (hE : nj_cfg N ne T eb pd E) : ∀ k e, ne ≤ e + k → E e = true → ∃ c, nj_cut N nc T eb pl pd E c ∧ ps c e = true := by
  have hX' := hX
  obtain ⟨x1, x2, x3, x4, x5, x6, x7, x8⟩ := hX
  intro k
  induction k with
  | zero =>
    intro e hk he
    have := hE.1 e he
    omega
  | succ k ih =>
    intro e hk he
    have hne := hE.1 e he
    obtain ⟨y1, y2, y3⟩ := x1 e hne
    obtain ⟨p, hp⟩ := hpo _ y1 y2
    obtain ⟨c, c1, c2, c3⟩ := x4 e p hne hp
    have pse : ps c e = true := (x7 c e c1).mpr ⟨by omega, Or.inl (by omega)⟩
    by_cases h : ∃ f, E f = true ∧ N.1 (T f) p = true ∧ eb f p = c
    · obtain ⟨f, f1, f2, f3⟩ := h
      have fne := hE.1 f f1
      obtain ⟨a1, a2, a3⟩ := (x1 f fne).2.2 p f2
      rw [f3] at a3
      obtain ⟨c', b1, b2⟩ := ih f (by omega) f1
      refine ⟨c', b1, ?_⟩
      have := nj_ps_cl hX' _ c' b1.1 (Nat.le_refl _) f p b2 f2 (by rw [f3]; omega)
      rw [f3, c2] at this
      exact this
    · refine ⟨c, ⟨c1, Or.inr (by rw [c2]; exact he), fun f hf hp' hc => h ⟨f, hf, ?_, ?_⟩⟩, pse⟩
      · rw [← c3]; exact hp'
      · rw [← c3]; exact hc
theorem nj_least {P : Nat → Prop} {n : Nat} (h : P n) : ∃ k, k ≤ n ∧ P k ∧ ∀ j, j < k → ¬ P j := by
  obtain ⟨k, h1, h2⟩ := pk_least P ⟨n, h⟩
  refine ⟨k, ?_, h1, h2⟩
  rcases Nat.lt_or_ge n k with z | z
  · exact absurd h (h2 n z)
  · exact z
/-- a cut is as large as can be -/
theorem nj_cut_max (hX : nj_X N ne nc T eb pl pd be ps D) (hpo : ∀ t, t < 8 → N.2.2.1 t = true → ∃ p, N.2.1 t p = true) (hpr : ∀ t, t < 8 → N.2.2.1 t = true → ∃ p, N.1 t p = true) {E : Nat → Bool} (hE : nj_cfg N ne T eb pd E) {d : Nat} (hd : d < nc) (hn : ¬ nj_cut N nc T eb pl pd E d) : ∃ c, nj_cut N nc T eb pl pd E c ∧ be c d = false := by
  have hX' := hX
  obtain ⟨x1, x2, x3, x4, x5, x6, x7, x8⟩ := hX
  -- it is enough to contradict co
  have fin : ∀ c, nj_cut N nc T eb pl pd E c → ¬ nj_co N T eb pl ps c d → ∃ c, nj_cut N nc T eb pl pd E c ∧ be c d = false := by
    intro c hc h
    refine ⟨c, hc, ?_⟩
    have hcd : c ≠ d := fun z => hn (by rw [← z]; exact hc)
    cases hb : be c d
    · rfl
    · exact absurd ((nj_bc hX' hc.1 hd hcd).mp hb) h
  by_cases hm : pd d = 0 ∨ E (pd d - 1) = true
  · have : ∃ f, E f = true ∧ N.1 (T f) (pl d) = true ∧ eb f (pl d) = d := by
      apply Classical.byContradiction
      intro h
      exact hn ⟨hd, hm, fun f hf hp hc => h ⟨f, hf, hp, hc⟩⟩
    obtain ⟨f, f1, f2, f3⟩ := this
    obtain ⟨c, c1, c2⟩ := nj_cut_cov hX' hpo hE ne f (by omega) f1
    exact fin c c1 (fun h => h.2.2.2 f (Or.inl c2) f2 f3)
  · have h0 : 0 < pd d := by
      rcases Nat.eq_zero_or_pos (pd d) with z | z
      · exact absurd (Or.inl z) hm
      · exact z
    have hne := (x2 d hd).1
    obtain ⟨e, e1, ⟨e2, e3⟩, e4⟩ := nj_least (P := fun e => ps d e = true ∧ ¬ E e = true) (n := pd d - 1) ⟨(x7 d _ hd).mpr ⟨h0, Or.inl rfl⟩, fun z => hm (Or.inr z)⟩
    obtain ⟨y1, y2, y3⟩ := x1 e (by omega)
    obtain ⟨p, hp⟩ := hpr _ y1 y2
    obtain ⟨a1, a2, a3⟩ := y3 p hp
    have hb : pd (eb e p) = 0 ∨ E (pd (eb e p) - 1) = true := by
      rcases Nat.eq_zero_or_pos (pd (eb e p)) with z | z
      · exact Or.inl z
      · refine Or.inr ?_
        have := e4 (pd (eb e p) - 1) (by omega)
        apply Classical.byContradiction
        intro h
        exact this ⟨nj_ps_cl hX' _ d hd (Nat.le_refl _) e p e2 hp z, h⟩
    by_cases hc : nj_cut N nc T eb pl pd E (eb e p)
    · refine fin _ hc (fun h => h.2.2.1 e (Or.inr e2) ?_ ?_)
      · rw [a2]; exact hp
      · rw [a2]
    · have : ∃ f, E f = true ∧ N.1 (T f) p = true ∧ eb f p = eb e p := by
        apply Classical.byContradiction
        intro h
        refine hc ⟨a1, hb, fun f hf hp' hc' => h ⟨f, hf, ?_, ?_⟩⟩
        · rw [← a2]; exact hp'
        · rw [a2] at hc'; exact hc'
      obtain ⟨f, f1, f2, f3⟩ := this
      obtain ⟨c, c1, c2⟩ := nj_cut_cov hX' hpo hE ne f (by omega) f1
      refine fin c c1 (fun h => ?_)
      have := h.2.1 f e p (Or.inl c2) (Or.inr e2) f2 hp f3
      rw [this] at f1
      exact e3 f1
end
end
section
/-! words that realize configurations -/
def nj_dq (pd D : Nat → Nat) (c : Nat) : Nat := if pd c = 0 then 0 else D (pd c - 1)
def nj_q (T D : Nat → Nat) (x f : Nat) : Bool := if x < 8 then decide (T f = x) else decide (T f = x % 8 ∧ D f = x / 8)
def nj_ke (T D : Nat → Nat) (E : Nat → Bool) (x : Nat) : Nat := nj_ct (fun f => E f && nj_q T D x f) 64
def nj_K (T D : Nat → Nat) (H : Nat → Bool) (t j x : Nat) : Nat := nj_ke T D H x + (if x = t then 1 else 0) + (if x = 8 * j + t then 1 else 0)
def nj_ins (E : Nat → Bool) (e : Nat) : Nat → Bool := fun f => E f || decide (f = e)
theorem nj_ins_iff {E : Nat → Bool} {e f : Nat} : nj_ins E e f = true ↔ E f = true ∨ f = e := by
  unfold nj_ins
  rw [Bool.or_eq_true, decide_eq_true_iff]
theorem nj_ke_ins {T D : Nat → Nat} {E : Nat → Bool} {e : Nat} (h : E e = false) (he : e < 64) (hT : T e < 8) (hD : 0 < D e) (x : Nat) : nj_ke T D (nj_ins E e) x = nj_K T D E (T e) (D e) x := by
  unfold nj_ke nj_K nj_ke
  rw [nj_ct_add (f := fun f => E f && nj_q T D x f) (g := fun f => nj_ins E e f && nj_q T D x f) (e := e) (fun i hi => by
    show (E i && _) = ((E i || decide (i = e)) && _)
    rw [decide_eq_false hi, Bool.or_false]) (by show (E e && _) = false; rw [h, Bool.false_and]) 64]
  have hg : (nj_ins E e e && nj_q T D x e) = nj_q T D x e := by
    have : nj_ins E e e = true := nj_ins_iff.mpr (Or.inr rfl)
    rw [this, Bool.true_and]
  show _ + (if e < 64 ∧ (nj_ins E e e && nj_q T D x e) = true then 1 else 0) = _
  rw [hg]
  unfold nj_q
  by_cases hx : x < 8
  · rw [if_pos hx, if_neg (show ¬ x = 8 * D e + T e by omega)]
    by_cases z : T e = x
    · rw [if_pos ⟨he, decide_eq_true z⟩, if_pos z.symm]
    · rw [if_neg (fun a => z (of_decide_eq_true a.2)), if_neg (fun a => z a.symm)]
  · rw [if_neg hx, if_neg (show ¬ x = T e by omega)]
    by_cases z : T e = x % 8 ∧ D e = x / 8
    · rw [if_pos ⟨he, decide_eq_true z⟩, if_pos (by omega)]
    · rw [if_neg (fun a => z (of_decide_eq_true a.2)), if_neg (by omega)]
theorem nj_ct_ins {E : Nat → Bool} {e : Nat} (h : E e = false) (he : e < 64) : nj_ct (nj_ins E e) 64 = nj_ct E 64 + 1 := by
  rw [nj_ct_add (f := E) (g := nj_ins E e) (e := e) (fun i hi => by
    show E i = (E i || decide (i = e))
    rw [decide_eq_false hi, Bool.or_false]) h 64, if_pos ⟨he, nj_ins_iff.mpr (Or.inr rfl)⟩]
/-- the key is 0 where no event lies -/
theorem nj_ke_0 {T D : Nat → Nat} {E : Nat → Bool} {j x : Nat} (h : ∀ f, E f = true → D f < j) (hx : 8 * j ≤ x) (hj : 0 < j) : nj_ke T D E x = 0 := by
  unfold nj_ke
  refine nj_ct_0 64 (fun f _ => ?_)
  cases hf : E f
  · rfl
  · have := h f hf
    unfold nj_q
    rw [if_neg (by omega), decide_eq_false (by omega)]
    rfl
section
variable {N : nj_Net} {ne nc : Nat} {T : Nat → Nat} {eb : Nat → Nat → Nat} {pl pd : Nat → Nat} {be ps : Nat → Nat → Bool} {D : Nat → Nat}
def nj_Re (N : nj_Net) (nc : Nat) (T : Nat → Nat) (eb : Nat → Nat → Nat) (pl pd D : Nat → Nat) (w : List Nat) (E : Nat → Bool) : Prop :=
  nj_ok N w ∧ (∀ p, nj_mk N w p = true ↔ ∃ c, nj_cut N nc T eb pl pd E c ∧ pl c = p) ∧ (∀ c, nj_cut N nc T eb pl pd E c → nj_td N w (pl c) = nj_dq pd D c) ∧ (∀ x, nj_kk N w x = nj_ke T D E x) ∧ w.length = nj_ct E 64
theorem nj_dp_j (hw : nj_wf N) (hX : nj_X N ne nc T eb pl pd be ps D) {t j : Nat} {b : Nat → Nat} (h1 : ∀ p, N.1 t p = true → b p < nc)
    (h2 : 0 < j ∧ (∀ p f, N.1 t p = true → ps (b p) f = true → D f < j) ∧ (j = 1 ∨ ∃ p f, N.1 t p = true ∧ ps (b p) f = true ∧ j = D f + 1))
    {w : List Nat} (h3 : ∀ p, N.1 t p = true → nj_td N w p = nj_dq pd D (b p)) : nj_dp N t w = j := by
  obtain ⟨x1, x2, x3, x4, x5, x6, x7, x8, x9, x10, x11, x12, x13⟩ := hX
  obtain ⟨j1, j2, j3⟩ := h2
  refine Nat.le_antisymm (nj_dp_ub (fun p hp => ?_) j1) ?_
  · rw [h3 p hp]
    unfold nj_dq
    by_cases z : pd (b p) = 0
    · rw [if_pos z]; exact j1
    · rw [if_neg z]
      exact j2 p _ hp ((x7 _ _ (h1 p hp)).mpr ⟨by omega, Or.inl rfl⟩)
  · rcases j3 with j3 | ⟨p, f, p1, p2, p3⟩
    · unfold nj_dp; omega
    · have a := nj_dp_lt hw w p1
      rw [h3 p p1] at a
      have : D f ≤ nj_dq pd D (b p) := by
        obtain ⟨z, g⟩ := (x7 _ f (h1 p p1)).mp p2
        unfold nj_dq
        rw [if_neg (by omega)]
        rcases g with g | ⟨q, g1, g2⟩
        · rw [g]; exact Nat.le_refl _
        · have := (x13 (pd (b p) - 1) (by have := (x2 _ (h1 p p1)).1; omega)).2.1 q f g1 g2
          omega
      omega
theorem nj_eb_cut (hX : nj_X N ne nc T eb pl pd be ps D) {E : Nat → Bool} {e : Nat} (he : E e = false) (hE' : nj_cfg N ne T eb pd (nj_ins E e)) : ∀ p, N.1 (T e) p = true → nj_cut N nc T eb pl pd E (eb e p) := by
  intro p hp
  have ee : nj_ins E e e = true := nj_ins_iff.mpr (Or.inr rfl)
  have hne := hE'.1 e ee
  obtain ⟨a1, a2, a3⟩ := (hX.1 e hne).2.2 p hp
  refine ⟨a1, ?_, fun f hf hp' hc => ?_⟩
  · rcases Nat.eq_zero_or_pos (pd (eb e p)) with z | z
    · exact Or.inl z
    · rcases nj_ins_iff.mp (hE'.2.1 e p ee hp z) with g | g
      · exact Or.inr g
      · omega
  · rw [a2] at hp' hc
    have := hE'.2.2 f e p (nj_ins_iff.mpr (Or.inl hf)) ee hp' hp hc
    rw [this, he] at hf
    exact absurd hf (by decide)
theorem nj_ins_cfg (hX : nj_X N ne nc T eb pl pd be ps D) {E : Nat → Bool} {e : Nat} (hE : nj_cfg N ne T eb pd E) (he : e < ne) (hc : ∀ p, N.1 (T e) p = true → nj_cut N nc T eb pl pd E (eb e p)) : nj_cfg N ne T eb pd (nj_ins E e) := by
  obtain ⟨e1, e2, e3⟩ := hE
  have y := (hX.1 e he).2.2
  have key : ∀ f p, E f = true → N.1 (T e) p = true → N.1 (T f) p = true → eb e p = eb f p → e = f := by
    intro f p hf p1 p2 h
    have := (hc p p1).2.2 f hf
    rw [(y p p1).2.1] at this
    exact absurd h.symm (this p2)
  refine ⟨fun f hf => ?_, fun f p hf hp h0 => ?_, fun f g p hf hg p1 p2 h => ?_⟩
  · rcases nj_ins_iff.mp hf with g | g
    · exact e1 f g
    · rw [g]; exact he
  · rcases nj_ins_iff.mp hf with g | g
    · exact nj_ins_iff.mpr (Or.inl (e2 f p g hp h0))
    · rw [g] at hp h0 ⊢
      rcases (hc p hp).2.1 with z | z
      · omega
      · exact nj_ins_iff.mpr (Or.inl z)
  · rcases nj_ins_iff.mp hf with a | a
    · rcases nj_ins_iff.mp hg with b | b
      · exact e3 f g p a b p1 p2 h
      · rw [b] at p2 h ⊢
        exact (key f p a p2 p1 h.symm).symm
    · rcases nj_ins_iff.mp hg with b | b
      · rw [a] at p1 h ⊢
        exact key g p b p1 p2 h
      · rw [a, b]
/-- one more event -/
theorem nj_re_step (hw : nj_wf N) (hX : nj_X N ne nc T eb pl pd be ps D) (hU : ∀ c d, c < nc → d < nc → be c d = true → pl c ≠ pl d) (hne : ne ≤ 64) {w : List Nat} {E : Nat → Bool} {e : Nat}
    (hR : nj_Re N nc T eb pl pd D w E) (hE : nj_cfg N ne T eb pd E) (he : E e = false) (hE' : nj_cfg N ne T eb pd (nj_ins E e)) : nj_Re N nc T eb pl pd D (T e :: w) (nj_ins E e) := by
  have hX' := hX
  have hc := nj_eb_cut hX he hE'
  obtain ⟨x1, x2, x3, x4, x5, x6, x7, x8, x9, x10, x11, x12, x13⟩ := hX
  obtain ⟨r1, r2, r3, r4, r5⟩ := hR
  have hn := hE'.1 e (nj_ins_iff.mpr (Or.inr rfl))
  obtain ⟨y1, y2, y3⟩ := x1 e hn
  -- the new cut
  have new : ∀ c, c < nc → pd c = e + 1 → nj_cut N nc T eb pl pd (nj_ins E e) c := by
    intro c c1 c2
    refine ⟨c1, Or.inr (nj_ins_iff.mpr (Or.inr (by omega))), fun f hf hp h => ?_⟩
    have fne := hE'.1 f hf
    have a3 := ((x1 f fne).2.2 _ hp).2.2
    rw [h] at a3
    rcases nj_ins_iff.mp hf with g | g
    · have := hE.2.1 f _ g hp (by rw [h]; omega)
      rw [h, c2] at this
      simp only [Nat.add_sub_cancel] at this
      rw [he] at this
      exact absurd this (by decide)
    · omega
  have old : ∀ c, nj_cut N nc T eb pl pd E c → (N.1 (T e) (pl c) = true → eb e (pl c) ≠ c) → nj_cut N nc T eb pl pd (nj_ins E e) c := by
    intro c ⟨c1, c2, c3⟩ h
    refine ⟨c1, ?_, fun f hf => ?_⟩
    · rcases c2 with z | z
      · exact Or.inl z
      · exact Or.inr (nj_ins_iff.mpr (Or.inl z))
    · rcases nj_ins_iff.mp hf with g | g
      · exact c3 f g
      · rw [g]; exact h
  have back : ∀ c, nj_cut N nc T eb pl pd (nj_ins E e) c → pd c = e + 1 ∨ (nj_cut N nc T eb pl pd E c ∧ (N.1 (T e) (pl c) = true → eb e (pl c) ≠ c)) := by
    intro c ⟨c1, c2, c3⟩
    by_cases z : pd c = e + 1
    · exact Or.inl z
    · refine Or.inr ⟨⟨c1, ?_, fun f hf => c3 f (nj_ins_iff.mpr (Or.inl hf))⟩, c3 e (nj_ins_iff.mpr (Or.inr rfl))⟩
      rcases c2 with g | g
      · exact Or.inl g
      · rcases nj_ins_iff.mp g with g | g
        · exact Or.inr g
        · rcases Nat.eq_zero_or_pos (pd c) with y | y
          · exact Or.inl y
          · omega
  -- an old condition that stays isn't at a place that e takes from or puts to
  have apart : ∀ c, nj_cut N nc T eb pl pd E c → (N.1 (T e) (pl c) = true → eb e (pl c) ≠ c) → ¬ (N.1 (T e) (pl c) || N.2.1 (T e) (pl c)) = true := by
    intro c c1 c2 h
    have hnp : N.1 (T e) (pl c) = false := by
      cases hh : N.1 (T e) (pl c)
      · rfl
      · exact absurd (nj_cut_eq hX' hU hE (hc _ hh) c1 (y3 _ hh).2.1) (c2 hh)
    rw [hnp, Bool.false_or] at h
    obtain ⟨c', d1, d2, d3⟩ := x4 e _ hn h
    have := nj_cut_eq hX' hU hE' (new c' d1 d2) (old c c1 c2) d3
    rw [this] at d2
    rcases c1.2.1 with g | g
    · omega
    · rw [d2] at g
      simp only [Nat.add_sub_cancel] at g
      rw [he] at g
      exact absurd g (by decide)
  have hr : nj_rdy N (T e) (nj_mk N w) := fun p hp => (r2 p).mpr ⟨_, hc p hp, (y3 p hp).2.1⟩
  have hcl : nj_clr N (T e) (nj_mk N w) := by
    intro p p1 p2
    cases hm : nj_mk N w p
    · rfl
    · obtain ⟨c, c1, c2⟩ := (r2 p).mp hm
      subst c2
      have := apart c c1 (fun h => by rw [p2] at h; exact absurd h (by decide))
      rw [p1, Bool.or_true] at this
      exact absurd rfl this
  have hdp : nj_dp N (T e) w = D e := nj_dp_j hw hX' (b := eb e) (fun p hp => (y3 p hp).1) (x13 e hn) (fun p hp => by
    have := r3 _ (hc p hp)
    rw [(y3 p hp).2.1] at this
    exact this)
  refine ⟨⟨r1, y1, y2, hr, hcl⟩, fun p => ⟨fun hm => ?_, fun ⟨c, c1, c2⟩ => ?_⟩, fun c hcc => ?_, fun x => ?_, ?_⟩
  · cases hpo : N.2.1 (T e) p
    · cases hp : N.1 (T e) p
      · rw [nj_mk_mis (by rw [hpo, hp]; decide)] at hm
        obtain ⟨c, c1, c2⟩ := (r2 p).mp hm
        refine ⟨c, old c c1 (fun h => ?_), c2⟩
        rw [c2, hp] at h
        exact absurd h (by decide)
      · rw [nj_mk_not hpo hp] at hm
        exact absurd hm (by decide)
    · obtain ⟨c, c1, c2, c3⟩ := x4 e p hn hpo
      exact ⟨c, new c c1 c2, c3⟩
  · rcases back c c1 with g | ⟨g1, g2⟩
    · have := (x2 c c1.1).2.2 (by omega)
      rw [g] at this
      simp only [Nat.add_sub_cancel] at this
      rw [c2] at this
      exact nj_mk_post this
    · have a := apart c g1 g2
      rw [c2] at a
      rw [nj_mk_mis a]
      exact (r2 p).mpr ⟨c, g1, c2⟩
  · rcases back c hcc with g | ⟨g1, g2⟩
    · have := (x2 c hcc.1).2.2 (by omega)
      rw [g] at this
      simp only [Nat.add_sub_cancel] at this
      rw [nj_td_hit (by rw [this, Bool.or_true]), hdp]
      unfold nj_dq
      rw [if_neg (by omega), g]
      rfl
    · rw [nj_td_mis (apart c g1 g2)]
      exact r3 c g1
  · rw [nj_ke_ins he (by omega) y1 (x13 e hn).1 x]
    show nj_kk N w x + _ + _ = _
    rw [r4 x, hdp]
    rfl
  · rw [nj_ct_ins he (by omega), List.length_cons, r5]
/-! the rest of a configuration behind a part of it -/
def nj_wr (T : Nat → Nat) (E H : Nat → Bool) (base : List Nat) : Nat → List Nat
  | 0 => base
  | n + 1 => if (E n && !H n) = true then T n :: nj_wr T E H base n else nj_wr T E H base n
def nj_G (E H : Nat → Bool) (n : Nat) : Nat → Bool := fun f => H f || (E f && decide (f < n))
theorem nj_G_iff {E H : Nat → Bool} {n f : Nat} : nj_G E H n f = true ↔ H f = true ∨ (E f = true ∧ f < n) := by
  unfold nj_G
  rw [Bool.or_eq_true, Bool.and_eq_true, decide_eq_true_iff]
theorem nj_G_in {E H : Nat → Bool} {n : Nat} (h : (E n && !H n) = true) : nj_G E H (n + 1) = nj_ins (nj_G E H n) n ∧ nj_G E H n n = false := by
  have hE : E n = true := by
    cases z : E n
    · rw [z] at h; exact h
    · rfl
  have hH : H n = false := by
    cases z : H n
    · rfl
    · rw [z, hE] at h; exact absurd h (by decide)
  constructor
  · funext f
    rw [Bool.eq_iff_iff, nj_G_iff, nj_ins_iff, nj_G_iff]
    constructor
    · intro g
      rcases g with g | ⟨g1, g2⟩
      · exact Or.inl (Or.inl g)
      · by_cases e : f = n
        · exact Or.inr e
        · exact Or.inl (Or.inr ⟨g1, by omega⟩)
    · intro g
      rcases g with (g | ⟨g1, g2⟩) | g
      · exact Or.inl g
      · exact Or.inr ⟨g1, by omega⟩
      · rw [g]
        exact Or.inr ⟨hE, by omega⟩
  · unfold nj_G
    rw [hH, decide_eq_false (Nat.lt_irrefl n), Bool.and_false, Bool.or_false]
theorem nj_G_out {E H : Nat → Bool} {n : Nat} (h : ¬ (E n && !H n) = true) : nj_G E H (n + 1) = nj_G E H n := by
  funext f
  rw [Bool.eq_iff_iff, nj_G_iff, nj_G_iff]
  constructor
  · intro g
    rcases g with g | ⟨g1, g2⟩
    · exact Or.inl g
    · by_cases e : f = n
      · rw [e] at g1 ⊢
        cases z : H n
        · rw [g1, z] at h
          exact absurd rfl h
        · exact Or.inl rfl
      · exact Or.inr ⟨g1, by omega⟩
  · intro g
    rcases g with g | ⟨g1, g2⟩
    · exact Or.inl g
    · exact Or.inr ⟨g1, by omega⟩
theorem nj_G_cfg (hX : nj_X N ne nc T eb pl pd be ps D) {E H : Nat → Bool} (hE : nj_cfg N ne T eb pd E) (hH : nj_cfg N ne T eb pd H) (hs : ∀ f, H f = true → E f = true) (n : Nat) : nj_cfg N ne T eb pd (nj_G E H n) := by
  have sub : ∀ f, nj_G E H n f = true → E f = true := by
    intro f hf
    rcases nj_G_iff.mp hf with g | g
    · exact hs f g
    · exact g.1
  refine ⟨fun f hf => hE.1 f (sub f hf), fun f p hf hp h0 => ?_, fun e f p he hf => hE.2.2 e f p (sub e he) (sub f hf)⟩
  rcases nj_G_iff.mp hf with g | ⟨g1, g2⟩
  · exact nj_G_iff.mpr (Or.inl (hH.2.1 f p g hp h0))
  · have := ((hX.1 f (hE.1 f g1)).2.2 p hp).2.2
    exact nj_G_iff.mpr (Or.inr ⟨hE.2.1 f p g1 hp h0, by omega⟩)
theorem nj_wr_re (hw : nj_wf N) (hX : nj_X N ne nc T eb pl pd be ps D) (hU : ∀ c d, c < nc → d < nc → be c d = true → pl c ≠ pl d) (hne : ne ≤ 64) {E H : Nat → Bool} (hE : nj_cfg N ne T eb pd E) (hH : nj_cfg N ne T eb pd H) (hs : ∀ f, H f = true → E f = true) {base : List Nat} (hb : nj_Re N nc T eb pl pd D base H) :
    ∀ n, nj_Re N nc T eb pl pd D (nj_wr T E H base n) (nj_G E H n) := by
  intro n
  induction n with
  | zero =>
    have : nj_G E H 0 = H := by
      funext f
      unfold nj_G
      rw [decide_eq_false (Nat.not_lt_zero f), Bool.and_false, Bool.or_false]
    rw [this]
    exact hb
  | succ n ih =>
    unfold nj_wr
    by_cases h : (E n && !H n) = true
    · rw [if_pos h, (nj_G_in h).1]
      refine nj_re_step hw hX hU hne ih (nj_G_cfg hX hE hH hs n) (nj_G_in h).2 ?_
      rw [← (nj_G_in h).1]
      exact nj_G_cfg hX hE hH hs (n + 1)
    · rw [if_neg h, nj_G_out h]
      exact ih
theorem nj_G_all {E H : Nat → Bool} (hE : nj_cfg N ne T eb pd E) (hs : ∀ f, H f = true → E f = true) : nj_G E H ne = E := by
  funext f
  rw [Bool.eq_iff_iff, nj_G_iff]
  constructor
  · intro g
    rcases g with g | g
    · exact hs f g
    · exact g.1
  · intro g
    exact Or.inr ⟨g, hE.1 f g⟩
end
/-! two letters that don't touch each other's places -/
theorem nj_swap {N : nj_Net} {t r : Nat} {w : List Nat} (ht : nj_ok N (t :: w)) (hr : nj_ok N (r :: w)) (hd : ∀ p, N.1 t p = true → N.1 r p = true → False) (hc : nj_clr N r (nj_mk N (t :: w))) :
    nj_ok N (r :: t :: w) ∧ nj_ok N (t :: r :: w) ∧ nj_mk N (r :: t :: w) = nj_mk N (t :: r :: w) ∧ nj_td N (r :: t :: w) = nj_td N (t :: r :: w) ∧ ∀ x, nj_kk N (r :: t :: w) x = nj_kk N (t :: r :: w) x := by
  obtain ⟨t1, t2, t3, t4, t5⟩ := ht
  obtain ⟨r1, r2, r3, r4, r5⟩ := hr
  have dis : ∀ p, (N.1 t p || N.2.1 t p) = true → ¬ (N.1 r p || N.2.1 r p) = true := by
    intro p a b
    cases p1 : N.1 t p
    · have q1 : N.2.1 t p = true := by rw [p1, Bool.false_or] at a; exact a
      have m0 := t5 p q1 p1
      cases p2 : N.1 r p
      · have q2 : N.2.1 r p = true := by rw [p2, Bool.false_or] at b; exact b
        have := hc p q2 p2
        rw [nj_mk_post q1] at this
        exact absurd this (by decide)
      · have := r4 p p2
        rw [m0] at this
        exact absurd this (by decide)
    · have m1 := t4 p p1
      cases p2 : N.1 r p
      · have q2 : N.2.1 r p = true := by rw [p2, Bool.false_or] at b; exact b
        have := r5 p q2 p2
        rw [m1] at this
        exact absurd this (by decide)
      · exact hd p p1 p2
  have nr : ∀ p, N.1 r p = true → ¬ (N.1 t p || N.2.1 t p) = true := fun p hp a => dis p a (by rw [hp, Bool.true_or])
  have nt : ∀ p, N.1 t p = true → ¬ (N.1 r p || N.2.1 r p) = true := fun p hp => dis p (by rw [hp, Bool.true_or])
  have er : nj_dp N r (t :: w) = nj_dp N r w := nj_dp_cg (fun p hp => nj_td_mis (nr p hp))
  have et : nj_dp N t (r :: w) = nj_dp N t w := nj_dp_cg (fun p hp => nj_td_mis (nt p hp))
  refine ⟨⟨⟨t1, t2, t3, t4, t5⟩, r2, r3, fun p hp => by rw [nj_mk_mis (nr p hp)]; exact r4 p hp, hc⟩, ⟨⟨r1, r2, r3, r4, r5⟩, t2, t3, fun p hp => by rw [nj_mk_mis (nt p hp)]; exact t4 p hp, fun p p1 p2 => ?_⟩, ?_, ?_, ?_⟩
  · rw [nj_mk_mis (dis p (by rw [p1, Bool.or_true]))]
    exact t5 p p1 p2
  · funext p
    by_cases a : (N.1 t p || N.2.1 t p) = true
    · rw [nj_mk_mis (t := r) (dis p a)]
      show _ = ((nj_mk N (r :: w) p && !N.1 t p) || N.2.1 t p)
      rw [nj_mk_mis (dis p a)]
      rfl
    · rw [nj_mk_mis (t := t) (w := r :: w) a]
      show ((nj_mk N (t :: w) p && !N.1 r p) || N.2.1 r p) = _
      rw [nj_mk_mis a]
      rfl
  · funext p
    by_cases a : (N.1 t p || N.2.1 t p) = true
    · rw [nj_td_mis (t := r) (dis p a), nj_td_hit a, nj_td_hit a, et]
    · rw [nj_td_mis (t := t) (w := r :: w) a]
      by_cases b : (N.1 r p || N.2.1 r p) = true
      · rw [nj_td_hit b, nj_td_hit b, er]
      · rw [nj_td_mis b, nj_td_mis b, nj_td_mis a]
  · intro x
    show (nj_kk N w x + _ + _) + _ + _ = (nj_kk N w x + _ + _) + _ + _
    rw [er, et]
    omega
/-- the same marking, depths, key, length -/
def nj_we (N : nj_Net) (a b : List Nat) : Prop := nj_mk N a = nj_mk N b ∧ nj_td N a = nj_td N b ∧ (∀ x, nj_kk N a x = nj_kk N b x) ∧ a.length = b.length
theorem nj_we_cons {N : nj_Net} {a b : List Nat} (h : nj_we N a b) (r : Nat) : nj_we N (r :: a) (r :: b) := by
  obtain ⟨h1, h2, h3, h4⟩ := h
  have e : nj_dp N r a = nj_dp N r b := by unfold nj_dp; rw [h2]
  refine ⟨nj_mk_cg h1, ?_, fun x => ?_, by rw [List.length_cons, List.length_cons, h4]⟩
  · funext p
    by_cases c : (N.1 r p || N.2.1 r p) = true
    · rw [nj_td_hit c, nj_td_hit c, e]
    · rw [nj_td_mis c, nj_td_mis c, h2]
  · show nj_kk N a x + _ + _ = nj_kk N b x + _ + _
    rw [h3, e]
theorem nj_we_tr {N : nj_Net} {a b c : List Nat} (h : nj_we N a b) (g : nj_we N b c) : nj_we N a c :=
  ⟨h.1.trans g.1, h.2.1.trans g.2.1, fun x => (h.2.2.1 x).trans (g.2.2.1 x), h.2.2.2.trans g.2.2.2⟩
/-! the same letters behind two words that lead to one marking -/
theorem nj_wr_mk {N : nj_Net} {T : Nat → Nat} {E H : Nat → Bool} {a b : List Nat} (h : nj_mk N a = nj_mk N b) : ∀ n, nj_mk N (nj_wr T E H a n) = nj_mk N (nj_wr T E H b n) := by
  intro n
  induction n with
  | zero => exact h
  | succ n ih =>
    unfold nj_wr
    by_cases e : (E n && !H n) = true
    · rw [if_pos e, if_pos e]; exact nj_mk_cg ih
    · rw [if_neg e, if_neg e]; exact ih
theorem nj_wr_ok {N : nj_Net} {T : Nat → Nat} {E H : Nat → Bool} {a b : List Nat} (h : nj_mk N a = nj_mk N b) (hb : nj_ok N b) : ∀ n, nj_ok N (nj_wr T E H a n) → nj_ok N (nj_wr T E H b n) := by
  intro n
  induction n with
  | zero => exact fun _ => hb
  | succ n ih =>
    unfold nj_wr
    by_cases e : (E n && !H n) = true
    · rw [if_pos e, if_pos e]
      intro g
      exact nj_ok_cg g (ih g.1) (nj_wr_mk h n).symm
    · rw [if_neg e, if_neg e]; exact ih
theorem nj_wr_len {T : Nat → Nat} {E H : Nat → Bool} {a b : List Nat} : ∀ n, (nj_wr T E H a n).length + b.length = (nj_wr T E H b n).length + a.length := by
  intro n
  induction n with
  | zero => exact Nat.add_comm _ _
  | succ n ih =>
    unfold nj_wr
    by_cases e : (E n && !H n) = true
    · rw [if_pos e, if_pos e]; simp only [List.length_cons]; omega
    · rw [if_neg e, if_neg e]; exact ih
theorem nj_wr_mono {T : Nat → Nat} {E H : Nat → Bool} {a : List Nat} (n : Nat) : (nj_wr T E H a n).length ≤ (nj_wr T E H a (n + 1)).length := by
  show _ ≤ (if (E n && !H n) = true then _ else _ : List Nat).length
  by_cases e : (E n && !H n) = true
  · rw [if_pos e, List.length_cons]; omega
  · rw [if_neg e]; exact Nat.le_refl _
theorem nj_wr_pl {N : nj_Net} (hw : nj_wf N) {k : Nat} (hs : nj_sf N k) {T : Nat → Nat} {E H : Nat → Bool} {a b : List Nat} (h : nj_mk N a = nj_mk N b) (hb : nj_ok N b) (hl : b.length = a.length) (hp : nj_pl (nj_kk N b) (nj_kk N a)) : ∀ n, nj_ok N (nj_wr T E H a n) → (nj_wr T E H a n).length ≤ k → nj_pl (nj_kk N (nj_wr T E H b n)) (nj_kk N (nj_wr T E H a n)) := by
  intro n
  induction n with
  | zero => exact fun _ _ => hp
  | succ n ih =>
    intro g hk
    have hk' : (nj_wr T E H a n).length ≤ k := Nat.le_trans (nj_wr_mono n) hk
    have L := nj_wr_len (T := T) (E := E) (H := H) (a := a) (b := b) n
    revert g hk
    unfold nj_wr
    by_cases e : (E n && !H n) = true
    · rw [if_pos e, if_pos e]
      intro g hk
      exact nj_adeq hw hs (nj_wr_ok h hb n g.1) g.1 (by omega) hk' g.2.1 (ih g.1 hk')
    · rw [if_neg e, if_neg e]
      intro g _
      exact ih g hk'
end
section
/-! an event that can happen, ahead of the rest -/
section
variable {N : nj_Net} {ne nc : Nat} {T : Nat → Nat} {eb : Nat → Nat → Nat} {pl pd : Nat → Nat} {be ps : Nat → Nat → Bool} {D : Nat → Nat}
theorem nj_ct_sub {E H : Nat → Bool} (h : ∀ f, H f = true → E f = true) : nj_ct H 64 ≤ nj_ct E 64 := nj_ct_le 64 (fun f _ hf => h f hf)
theorem nj_ahead (hw : nj_wf N) (hX : nj_X N ne nc T eb pl pd be ps D) (hU : ∀ c d, c < nc → d < nc → be c d = true → pl c ≠ pl d) (hne : ne ≤ 64) {n : Nat} (hsf : nj_sf N n)
    {E H : Nat → Bool} (hE : nj_cfg N ne T eb pd E) (hH : nj_cfg N ne T eb pd H) (hs : ∀ f, H f = true → E f = true) (hn : nj_ct E 64 < n) {base : List Nat} (hb : nj_Re N nc T eb pl pd D base H)
    {t : Nat} {b : Nat → Nat} (ht : t < 8) (hht : N.2.2.1 t = true) (hbp : ∀ p, N.1 t p = true → pl (b p) = p) (hbE : ∀ p, N.1 t p = true → nj_cut N nc T eb pl pd E (b p)) (hbH : ∀ p, N.1 t p = true → nj_cut N nc T eb pl pd H (b p)) :
    ∀ m, nj_ok N (nj_wr T E H (t :: base) m) ∧ nj_ok N (t :: nj_wr T E H base m) ∧ nj_we N (nj_wr T E H (t :: base) m) (t :: nj_wr T E H base m) := by
  have sub : ∀ m f, nj_G E H m f = true → E f = true := by
    intro m f hf
    rcases nj_G_iff.mp hf with g | g
    · exact hs f g
    · exact g.1
  have cutG : ∀ m p, N.1 t p = true → nj_cut N nc T eb pl pd (nj_G E H m) (b p) := by
    intro m p hp
    obtain ⟨c1, c2, c3⟩ := hbE p hp
    refine ⟨c1, ?_, fun f hf => c3 f (sub m f hf)⟩
    rcases (hbH p hp).2.1 with g | g
    · exact Or.inl g
    · exact Or.inr (nj_G_iff.mpr (Or.inl g))
  have lenG : ∀ m, nj_ct (nj_G E H m) 64 ≤ nj_ct E 64 := fun m => nj_ct_sub (sub m)
  intro m
  induction m with
  | zero =>
    obtain ⟨r1, r2, r3, r4, r5⟩ := hb
    have hr : nj_rdy N t (nj_mk N base) := fun p hp => (r2 p).mpr ⟨_, hbH p hp, hbp p hp⟩
    have o : nj_ok N (t :: base) := ⟨r1, ht, hht, hr, hsf base r1 (by have := nj_ct_sub hs; omega) t ht hht hr⟩
    exact ⟨o, o, rfl, rfl, fun _ => rfl, rfl⟩
  | succ m ih =>
    obtain ⟨i1, i2, i3⟩ := ih
    unfold nj_wr
    by_cases h : (E m && !H m) = true
    · rw [if_pos h, if_pos h]
      have Rm := nj_wr_re hw hX hU hne hE hH hs hb m
      have Rm1 := nj_wr_re hw hX hU hne hE hH hs hb (m + 1)
      have Cm := nj_G_cfg hX hE hH hs m
      have Cm1 := nj_G_cfg hX hE hH hs (m + 1)
      unfold nj_wr at Rm1
      rw [if_pos h] at Rm1
      have hEm : E m = true := by
        cases z : E m
        · rw [z] at h; exact h
        · rfl
      have hcut := nj_eb_cut (pl := pl) hX (nj_G_in h).2 (by rw [← (nj_G_in h).1]; exact Cm1)
      have hmne := hE.1 m hEm
      have hd : ∀ p, N.1 t p = true → N.1 (T m) p = true → False := by
        intro p p1 p2
        have q := ((hX.1 m hmne).2.2 p p2).2.1
        have := nj_cut_eq hX hU Cm (hcut p p2) (cutG m p p1) (by rw [q, hbp p p1])
        refine (hbE p p1).2.2 m hEm ?_ ?_
        · rw [hbp p p1]; exact p2
        · rw [hbp p p1]; exact this
      have orD := Rm1.1
      have hrr : nj_rdy N (T m) (nj_mk N (t :: nj_wr T E H base m)) := by
        intro p hp
        have a := orD.2.2.2.1 p hp
        show ((nj_mk N (nj_wr T E H base m) p && !N.1 t p) || N.2.1 t p) = true
        have b' : N.1 t p = false := by
          cases z : N.1 t p
          · rfl
          · exact absurd hp (fun y => hd p z y)
        rw [a, b']
        rfl
      have l1 := Rm.2.2.2.2
      have l2 := Rm1.2.2.2.2
      have l3 := lenG (m + 1)
      rw [List.length_cons] at l2
      have hc : nj_clr N (T m) (nj_mk N (t :: nj_wr T E H base m)) := hsf _ i2 (by rw [List.length_cons]; omega) (T m) orD.2.1 orD.2.2.1 hrr
      obtain ⟨s1, s2, s3, s4, s5⟩ := nj_swap i2 orD hd hc
      refine ⟨nj_ok_cg s1 i1 i3.1, s2, nj_we_tr (nj_we_cons i3 (T m)) ⟨s3, s4, s5, ?_⟩⟩
      simp only [List.length_cons]
    · rw [if_neg h, if_neg h]
      exact ⟨i1, i2, i3⟩
/-- the same key, the same configuration -/
theorem nj_uqh (hX : nj_X N ne nc T eb pl pd be ps D) (hU : ∀ c d, c < nc → d < nc → be c d = true → pl c ≠ pl d) (hne : ne ≤ 64) {E E' : Nat → Bool} (hE : nj_cfg N ne T eb pd E) (hE' : nj_cfg N ne T eb pd E') (hk : ∀ x, nj_ke T D E x = nj_ke T D E' x) (d : Nat)
    (ih : ∀ e, D e < d → (E e = true ↔ E' e = true)) : ∀ e, D e = d → E e = true → E' e = true := by
  have hX' := hX
  obtain ⟨x1, x2, x3, x4, x5, x6, x7, x8, x9, x10, x11, x12, x13⟩ := hX
  intro e hd he
  have hn := hE.1 e he
  obtain ⟨y1, y2, y3⟩ := x1 e hn
  have h0 := (x13 e hn).1
  have q : ∀ f, nj_q T D (8 * d + T e) f = true ↔ T f = T e ∧ D f = d := by
    intro f
    unfold nj_q
    rw [if_neg (by omega), decide_eq_true_iff]
    constructor <;> intro ⟨a, b⟩ <;> constructor <;> omega
  have a : 0 < nj_ke T D E (8 * d + T e) := nj_ct_one (i := e) (by
    show (E e && nj_q T D (8 * d + T e) e) = true
    rw [he, Bool.true_and]
    exact (q e).mpr ⟨rfl, hd⟩) 64 (by omega)
  rw [hk] at a
  obtain ⟨e', _, h'⟩ := nj_ct_pos 64 a
  rw [Bool.and_eq_true, q] at h'
  obtain ⟨b1, b2, b3⟩ := h'
  have hn' := hE'.1 e' b1
  let F : Nat → Bool := fun f => E f && decide (D f < d)
  have F1 : ∀ f, F f = true ↔ E f = true ∧ D f < d := by
    intro f
    show (E f && decide (D f < d)) = true ↔ _
    rw [Bool.and_eq_true, decide_eq_true_iff]
  have F2 : ∀ f, F f = true ↔ E' f = true ∧ D f < d := by
    intro f
    rw [F1]
    constructor
    · intro ⟨g1, g2⟩; exact ⟨(ih f g2).mp g1, g2⟩
    · intro ⟨g1, g2⟩; exact ⟨(ih f g2).mpr g1, g2⟩
  have down : ∀ f p, f < ne → N.1 (T f) p = true → 0 < pd (eb f p) → D (pd (eb f p) - 1) < D f := by
    intro f p hf hp hz
    obtain ⟨a1, a2, a3⟩ := (x1 f hf).2.2 p hp
    exact (x13 f hf).2.1 p _ hp ((x7 _ _ a1).mpr ⟨hz, Or.inl rfl⟩)
  have cF : nj_cfg N ne T eb pd F := by
    refine ⟨fun f hf => hE.1 f ((F1 f).mp hf).1, fun f p hf hp hz => ?_, fun f g p hf hg => hE.2.2 f g p ((F1 f).mp hf).1 ((F1 g).mp hg).1⟩
    obtain ⟨g1, g2⟩ := (F1 f).mp hf
    have := down f p (hE.1 f g1) hp hz
    exact (F1 _).mpr ⟨hE.2.1 f p g1 hp hz, by omega⟩
  have cutF : ∀ (E0 : Nat → Bool) (e0 : Nat), nj_cfg N ne T eb pd E0 → (∀ f, F f = true ↔ E0 f = true ∧ D f < d) → E0 e0 = true → D e0 = d → ∀ p, N.1 (T e0) p = true → nj_cut N nc T eb pl pd F (eb e0 p) := by
    intro E0 e0 hE0 hF h1 h2 p hp
    have hn0 := hE0.1 e0 h1
    obtain ⟨a1, a2, a3⟩ := (x1 e0 hn0).2.2 p hp
    refine ⟨a1, ?_, fun f hf hp' hc => ?_⟩
    · rcases Nat.eq_zero_or_pos (pd (eb e0 p)) with z | z
      · exact Or.inl z
      · have := down e0 p hn0 hp z
        exact Or.inr ((hF _).mpr ⟨hE0.2.1 e0 p h1 hp z, by omega⟩)
    · rw [a2] at hp' hc
      obtain ⟨g1, g2⟩ := (hF f).mp hf
      have := hE0.2.2 f e0 p g1 h1 hp' hp hc
      rw [this] at g2
      omega
  have : e = e' := by
    refine x6 e e' hn hn' b2.symm (fun p hp => ?_)
    have hp' : N.1 (T e') p = true := by rw [b2]; exact hp
    refine nj_cut_eq hX' hU cF (cutF E e hE F1 he hd p hp) (cutF E' e' hE' F2 b1 b3 p hp') ?_
    rw [(y3 p hp).2.1, ((x1 e' hn').2.2 p hp').2.1]
  rw [this]
  exact b1
theorem nj_uq (hX : nj_X N ne nc T eb pl pd be ps D) (hU : ∀ c d, c < nc → d < nc → be c d = true → pl c ≠ pl d) (hne : ne ≤ 64) {E E' : Nat → Bool} (hE : nj_cfg N ne T eb pd E) (hE' : nj_cfg N ne T eb pd E') (hk : ∀ x, nj_ke T D E x = nj_ke T D E' x) : ∀ d e, D e < d → (E e = true ↔ E' e = true) := by
  intro d
  induction d with
  | zero => intro e h; omega
  | succ d ih =>
    intro e h
    by_cases z : D e = d
    · exact ⟨nj_uqh hX hU hne hE hE' hk d ih e z, nj_uqh hX hU hne hE' hE (fun x => (hk x).symm) d (fun e h => (ih e h).symm) e z⟩
    · exact ih e (by omega)
end
/-! tokens are counted -/
def nj_bi (b : Bool) : Int := if b = true then 1 else 0
def nj_is (f : Nat → Int) : Nat → Int
  | 0 => 0
  | n + 1 => nj_is f n + f n
def nj_cn (N : nj_Net) (k : Nat → Nat) (p : Nat) : Int := nj_bi (N.2.2.2 p) + nj_is (fun v => (k v : Int) * (nj_bi (N.2.1 v p) - nj_bi (N.1 v p))) 8
theorem nj_is_cg {f g : Nat → Int} : ∀ n, (∀ i, i < n → f i = g i) → nj_is f n = nj_is g n := by
  intro n
  induction n with
  | zero => exact fun _ => rfl
  | succ n ih =>
    intro h
    unfold nj_is
    rw [ih (fun i hi => h i (by omega)), h n (by omega)]
theorem nj_is_add {f g : Nat → Int} {t : Nat} {x : Int} : ∀ n, (∀ i, i < n → i ≠ t → g i = f i) → g t = f t + x → nj_is g n = nj_is f n + (if t < n then x else 0) := by
  intro n
  induction n with
  | zero => exact fun _ _ => by rw [if_neg (Nat.not_lt_zero t)]; rfl
  | succ n ih =>
    intro h1 h2
    unfold nj_is
    rw [ih (fun i hi => h1 i (by omega)) h2]
    by_cases e : n = t
    · subst e
      rw [h2, if_neg (Nat.lt_irrefl n), if_pos (by omega)]
      omega
    · rw [h1 n (by omega) e]
      by_cases z : t < n
      · rw [if_pos z, if_pos (by omega)]; omega
      · rw [if_neg z, if_neg (by omega)]; omega
theorem nj_cn_word {N : nj_Net} (p : Nat) : ∀ w, nj_ok N w → nj_cn N (nj_kk N w) p = nj_bi (nj_mk N w p) := by
  intro w
  induction w with
  | nil =>
    intro _
    unfold nj_cn
    have : nj_is (fun v => ((nj_kk N [] v : Nat) : Int) * (nj_bi (N.2.1 v p) - nj_bi (N.1 v p))) 8 = 0 := by
      have z : ∀ n, nj_is (fun _ => (0 : Int)) n = 0 := by
        intro n
        induction n with
        | zero => rfl
        | succ n ih => unfold nj_is; rw [ih]; rfl
      rw [nj_is_cg (g := fun _ => 0) 8 (fun i _ => by show ((0 : Nat) : Int) * _ = 0; rw [Int.natCast_zero, Int.zero_mul]), z]
    rw [this, Int.add_zero]
    rfl
  | cons t w ih =>
    intro ho
    have i := ih ho.1
    obtain ⟨o1, o2, o3, o4, o5⟩ := ho
    unfold nj_cn at i ⊢
    rw [nj_is_add (f := fun v => ((nj_kk N w v : Nat) : Int) * (nj_bi (N.2.1 v p) - nj_bi (N.1 v p))) (t := t) (x := nj_bi (N.2.1 t p) - nj_bi (N.1 t p)) 8 (by
        intro v hv hn
        show ((nj_kk N (t :: w) v : Nat) : Int) * _ = ((nj_kk N w v : Nat) : Int) * _
        rw [nj_kk_lo hv, if_neg hn]
        rfl) (by
        show ((nj_kk N (t :: w) t : Nat) : Int) * _ = ((nj_kk N w t : Nat) : Int) * _ + _
        rw [nj_kk_lo o2, if_pos rfl, Int.natCast_add, Int.add_mul]
        simp), if_pos o2, ← Int.add_assoc, i]
    have e : nj_mk N (t :: w) p = ((nj_mk N w p && !N.1 t p) || N.2.1 t p) := rfl
    rw [e]
    have a := o4 p
    have b := o5 p
    revert a b
    cases N.1 t p <;> cases N.2.1 t p <;> cases nj_mk N w p <;> simp [nj_bi]
/-- a marking as a number -/
def nj_cd (m : Nat → Bool) : Nat → Nat
  | 0 => 0
  | n + 1 => nj_cd m n + (if m n = true then 2 ^ n else 0)
theorem nj_cd_lt (m : Nat → Bool) : ∀ n, nj_cd m n < 2 ^ n := by
  intro n
  induction n with
  | zero => exact Nat.one_pos
  | succ n ih =>
    unfold nj_cd
    rw [Nat.pow_succ]
    by_cases e : m n = true
    · rw [if_pos e]; omega
    · rw [if_neg e]; omega
theorem nj_cd_inj {m m' : Nat → Bool} : ∀ n, nj_cd m n = nj_cd m' n → ∀ p, p < n → m p = m' p := by
  intro n
  induction n with
  | zero => intro _ p hp; omega
  | succ n ih =>
    intro h p hp
    unfold nj_cd at h
    have a := nj_cd_lt m n
    have b := nj_cd_lt m' n
    by_cases e : m n = true
    · by_cases e' : m' n = true
      · rw [if_pos e, if_pos e'] at h
        by_cases z : p = n
        · rw [z, e, e']
        · exact ih (by omega) p (by omega)
      · rw [if_pos e, if_neg e'] at h
        omega
    · by_cases e' : m' n = true
      · rw [if_neg e, if_pos e'] at h
        omega
      · rw [if_neg e, if_neg e'] at h
        by_cases z : p = n
        · rw [z]
          simp only [Bool.not_eq_true] at e e'
          rw [e, e']
        · exact ih (by omega) p (by omega)
theorem nj_mk_6 {N : nj_Net} (hM : ∀ p, N.2.2.2 p = true → p < 6) (hP : ∀ t p, N.2.1 t p = true → p < 6) {p : Nat} (hp : 6 ≤ p) : ∀ w, nj_mk N w p = false := by
  intro w
  induction w with
  | nil =>
    cases z : N.2.2.2 p
    · exact z
    · have := hM p z
      omega
  | cons t w ih =>
    show ((nj_mk N w p && !N.1 t p) || N.2.1 t p) = false
    rw [ih, Bool.false_and, Bool.false_or]
    cases z : N.2.1 t p
    · rfl
    · have := hP t p z
      omega
theorem nj_mk_cd {N : nj_Net} (hM : ∀ p, N.2.2.2 p = true → p < 6) (hP : ∀ t p, N.2.1 t p = true → p < 6) {w w' : List Nat} (h : nj_cd (nj_mk N w) 6 = nj_cd (nj_mk N w') 6) : nj_mk N w = nj_mk N w' := by
  funext p
  rcases Nat.lt_or_ge p 6 with z | z
  · exact nj_cd_inj 6 h p z
  · rw [nj_mk_6 hM hP z, nj_mk_6 hM hP z]
end
section
/-! every least word lies in the prefix -/
section
variable {N : nj_Net} {ne nc : Nat} {T : Nat → Nat} {eb : Nat → Nat → Nat} {pl pd : Nat → Nat} {be ps : Nat → Nat → Bool} {D : Nat → Nat}
/-- the past of an inserted event -/
def nj_He (N : nj_Net) (T : Nat → Nat) (eb : Nat → Nat → Nat) (ps : Nat → Nat → Bool) (e : Nat) : Nat → Bool := nj_H N (T e) (eb e) ps 6
/-- a depth that fits a past -/
def nj_dj (D : Nat → Nat) (H : Nat → Bool) (j : Nat) : Prop := 0 < j ∧ (∀ f, H f = true → D f < j) ∧ (j = 1 ∨ ∃ f, H f = true ∧ j = D f + 1)
/-- the offers: every event that can happen leads to the first marking, or to that of an inserted event that doesn't go behind it -/
def nj_off (N : nj_Net) (ne nc : Nat) (T : Nat → Nat) (eb : Nat → Nat → Nat) (pl : Nat → Nat) (be ps : Nat → Nat → Bool) (D : Nat → Nat) (mo : (Nat → Nat) → Nat) : Prop :=
  ∀ t b, nj_pos N nc pl be t b → ∃ j, nj_dj D (nj_H N t b ps 6) j ∧
    (mo (nj_K T D (nj_H N t b ps 6) t j) = nj_cd N.2.2.2 6 ∨
     ∃ e, e < ne ∧ mo (nj_K T D (nj_He N T eb ps e) (T e) (D e)) = mo (nj_K T D (nj_H N t b ps 6) t j) ∧ nj_ct (nj_He N T eb ps e) 64 ≤ nj_ct (nj_H N t b ps 6) 64 ∧
       (nj_ct (nj_He N T eb ps e) 64 = nj_ct (nj_H N t b ps 6) 64 → ¬ nj_pl (nj_K T D (nj_H N t b ps 6) t j) (nj_K T D (nj_He N T eb ps e) (T e) (D e))))
theorem nj_re_0 (hX : nj_X N ne nc T eb pl pd be ps D) : nj_Re N nc T eb pl pd D [] (fun _ => false) := by
  obtain ⟨x1, x2, x3, x4, x5, x6, x7, x8⟩ := hX
  refine ⟨trivial, fun p => ⟨fun h => ?_, fun ⟨c, ⟨c1, c2, c3⟩, c4⟩ => ?_⟩, fun c ⟨c1, c2, c3⟩ => ?_, fun x => ?_, ?_⟩
  · obtain ⟨c, c1, c2, c3⟩ := x3 p h
    exact ⟨c, ⟨c1, Or.inl c2, fun e he => absurd he Bool.false_ne_true⟩, c3⟩
  · rw [← c4]
    rcases c2 with g | g
    · exact (x2 c c1).2.1 g
    · exact absurd g Bool.false_ne_true
  · rcases c2 with g | g
    · unfold nj_dq
      rw [if_pos g]
      rfl
    · exact absurd g Bool.false_ne_true
  · exact (nj_ct_0 64 (fun _ _ => rfl)).symm
  · exact (nj_ct_0 64 (fun _ _ => rfl)).symm
theorem nj_cfg_0 : nj_cfg N ne T eb pd (fun _ => false) :=
  ⟨fun e h => absurd h Bool.false_ne_true, fun e p h => absurd h Bool.false_ne_true, fun e f p h => absurd h Bool.false_ne_true⟩
theorem nj_re_ex (hw : nj_wf N) (hX : nj_X N ne nc T eb pl pd be ps D) (hU : ∀ c d, c < nc → d < nc → be c d = true → pl c ≠ pl d) (hne : ne ≤ 64) {E : Nat → Bool} (hE : nj_cfg N ne T eb pd E) : ∃ w, nj_Re N nc T eb pl pd D w E := by
  have := nj_wr_re hw hX hU hne hE nj_cfg_0 (fun f h => absurd h Bool.false_ne_true) (nj_re_0 hX) ne
  rw [nj_G_all hE (fun f h => absurd h Bool.false_ne_true)] at this
  exact ⟨_, this⟩
theorem nj_K_eq {T D : Nat → Nat} {H H' : Nat → Bool} {t t' j j' : Nat} (ht : t < 8) (ht' : t' < 8) (hj : nj_dj D H j) (hj' : nj_dj D H' j') (h : ∀ x, nj_K T D H t j x = nj_K T D H' t' j' x) : t = t' ∧ j = j' ∧ ∀ x, nj_ke T D H x = nj_ke T D H' x := by
  obtain ⟨a1, a2, _⟩ := hj
  obtain ⟨b1, b2, _⟩ := hj'
  have c1 : j ≤ j' := by
    rcases Nat.lt_or_ge j' j with z | z
    · have := h (8 * j + t)
      unfold nj_K at this
      rw [nj_ke_0 a2 (by omega) a1, nj_ke_0 b2 (by omega) b1, if_neg (by omega), if_pos rfl, if_neg (by omega), if_neg (by omega)] at this
      omega
    · exact z
  have c2 : j' ≤ j := by
    rcases Nat.lt_or_ge j j' with z | z
    · have := h (8 * j' + t')
      unfold nj_K at this
      rw [nj_ke_0 a2 (by omega) a1, nj_ke_0 b2 (by omega) b1, if_neg (by omega), if_neg (by omega), if_neg (by omega), if_pos rfl] at this
      omega
    · exact z
  have e : j = j' := by omega
  subst e
  have f : t = t' := by
    have := h (8 * j + t)
    unfold nj_K at this
    rw [nj_ke_0 a2 (by omega) a1, nj_ke_0 b2 (by omega) b1, if_neg (by omega), if_pos rfl, if_neg (by omega)] at this
    by_cases z : 8 * j + t = 8 * j + t'
    · omega
    · rw [if_neg z] at this
      omega
  subst f
  refine ⟨rfl, rfl, fun x => ?_⟩
  have := h x
  unfold nj_K at this
  omega
theorem nj_K_big {T D : Nat → Nat} {H : Nat → Bool} {t j x : Nat} (ht : t < 8) (hj : nj_dj D H j) (hx : 8 * j + 8 ≤ x) : nj_K T D H t j x = 0 := by
  obtain ⟨a1, a2, _⟩ := hj
  unfold nj_K
  rw [nj_ke_0 a2 (by omega) a1, if_neg (by omega), if_neg (by omega)]
theorem nj_real (hw : nj_wf N) (hM : ∀ p, N.2.2.2 p = true → p < 6) (hP : ∀ t p, N.2.1 t p = true → p < 6) (hpr : ∀ t, t < 8 → N.2.2.1 t = true → ∃ p, N.1 t p = true)
    (hX : nj_X N ne nc T eb pl pd be ps D) (hU : ∀ c d, c < nc → d < nc → be c d = true → pl c ≠ pl d) (hne : ne ≤ 64)
    {mo : (Nat → Nat) → Nat} (hmo : ∀ k m, (∀ p, p < 6 → nj_cn N k p = nj_bi (m p)) → mo k = nj_cd m 6) (hO : nj_off N ne nc T eb pl be ps D mo)
    {n : Nat} (hs : nj_sf N n) : ∀ k w, w.length = k → k ≤ n → nj_mn N w → ∃ E v, nj_cfg N ne T eb pd E ∧ nj_Re N nc T eb pl pd D v E ∧ (∀ x, nj_kk N v x = nj_kk N w x) ∧ nj_mk N v = nj_mk N w ∧ v.length = w.length := by
  intro k
  induction k with
  | zero =>
    intro w hk _ _
    have : w = [] := List.length_eq_zero_iff.mp hk
    subst this
    exact ⟨_, [], nj_cfg_0, nj_re_0 hX, fun _ => rfl, rfl, rfl⟩
  | succ k ih =>
    intro w hk hkn hm
    cases w with
    | nil => exact absurd hk (by simp)
    | cons t w' =>
    have hk' : w'.length = k := by rw [List.length_cons] at hk; omega
    obtain ⟨E, D1, cE, R1, k1, m1, l1⟩ := ih w' hk' (by omega) (nj_mn_tl hw hs hm (by omega))
    obtain ⟨ho, hmin⟩ := hm
    have ho' := ho
    obtain ⟨ho1, ht8, hht, hrdy, hclr⟩ := ho'
    -- the conditions that it takes
    have hb : ∀ p, ∃ c, N.1 t p = true → nj_cut N nc T eb pl pd E c ∧ pl c = p := by
      intro p
      cases hp : N.1 t p
      · exact ⟨0, fun h => absurd h (by decide)⟩
      · have := hrdy p hp
        rw [← m1] at this
        obtain ⟨c, hc⟩ := (R1.2.1 p).mp this
        exact ⟨c, fun _ => hc⟩
    obtain ⟨b, hb⟩ := Classical.skolem.mp hb
    have hpos : nj_pos N nc pl be t b := by
      refine ⟨ht8, hht, fun p hp => ⟨(hb p hp).1.1, (hb p hp).2⟩, fun p q hp hq hn => nj_cut_be hX cE (hb p hp).1 (hb q hq).1 (fun z => hn ?_)⟩
      rw [← (hb p hp).2, ← (hb q hq).2, z]
    obtain ⟨cH, cutH⟩ := nj_pos_cfg hw hX hpos
    obtain ⟨j, hj, hoff⟩ := hO t b hpos
    generalize hHd : nj_H N t b ps 6 = H at cH cutH hj hoff
    have sub : ∀ f, H f = true → E f = true := by
      intro f hf
      rw [← hHd] at hf
      obtain ⟨p, p1, p2⟩ := (nj_H_6 hw).mp hf
      exact nj_ps_in hX cE _ _ (hb p p1).1.1 (Nat.le_refl _) (hb p p1).1.2.1 f p2
    obtain ⟨base, Rb⟩ := nj_re_ex hw hX hU hne cH
    have R2 := nj_wr_re hw hX hU hne cE cH sub Rb ne
    rw [nj_G_all cE sub] at R2
    have lE : nj_ct E 64 = k := by rw [← R1.2.2.2.2, l1, hk']
    obtain ⟨oA, oT, wA⟩ := nj_ahead hw hX hU hne hs cE cH sub (by omega) Rb ht8 hht (fun p hp => (hb p hp).2) (fun p hp => (hb p hp).1) cutH ne
    have oTb : nj_ok N (t :: base) := (nj_ahead hw hX hU hne hs cE cH sub (by omega) Rb ht8 hht (fun p hp => (hb p hp).2) (fun p hp => (hb p hp).1) cutH 0).1
    have hjj : 0 < j ∧ (∀ p f, N.1 t p = true → ps (b p) f = true → D f < j) ∧ (j = 1 ∨ ∃ p f, N.1 t p = true ∧ ps (b p) f = true ∧ j = D f + 1) := by
      obtain ⟨j1, j2, j3⟩ := hj
      refine ⟨j1, fun p f p1 p2 => j2 f (by rw [← hHd]; exact (nj_H_6 hw).mpr ⟨p, p1, p2⟩), ?_⟩
      rcases j3 with j3 | ⟨f, f1, f2⟩
      · exact Or.inl j3
      · rw [← hHd] at f1
        obtain ⟨p, p1, p2⟩ := (nj_H_6 hw).mp f1
        exact Or.inr ⟨p, f, p1, p2, f2⟩
    have dpb : nj_dp N t base = j := nj_dp_j hw hX (b := b) (fun p hp => (hb p hp).1.1) hjj (fun p hp => by
      have := Rb.2.2.1 _ (cutH p hp)
      rw [(hb p hp).2] at this
      exact this)
    -- the word behind: its key is w's key
    have kD : ∀ x, nj_kk N (nj_wr T E H base ne) x = nj_kk N w' x := fun x => by rw [R2.2.2.2.1 x, ← R1.2.2.2.1 x, k1 x]
    have mD : nj_mk N (nj_wr T E H base ne) = nj_mk N w' := by
      rw [← m1]
      funext p
      rw [Bool.eq_iff_iff, R2.2.1 p, R1.2.1 p]
    have lD : (nj_wr T E H base ne).length = k := by rw [R2.2.2.2.2, lE]
    have tD : ∀ p, nj_td N (nj_wr T E H base ne) p = nj_td N w' p := nj_td_kk hw hs R2.1 ho1 (by omega) (by omega) kD
    have dD : nj_dp N t (nj_wr T E H base ne) = nj_dp N t w' := nj_dp_cg (fun p _ => tD p)
    have kT : ∀ x, nj_kk N (t :: nj_wr T E H base ne) x = nj_kk N (t :: w') x := by
      intro x
      show nj_kk N (nj_wr T E H base ne) x + _ + _ = nj_kk N w' x + _ + _
      rw [kD x, dD]
    have mT : nj_mk N (t :: nj_wr T E H base ne) = nj_mk N (t :: w') := nj_mk_cg mD
    have kA : ∀ x, nj_kk N (nj_wr T E H (t :: base) ne) x = nj_kk N (t :: w') x := fun x => (wA.2.2.1 x).trans (kT x)
    have mA : nj_mk N (nj_wr T E H (t :: base) ne) = nj_mk N (t :: w') := wA.1.trans mT
    have lA : (nj_wr T E H (t :: base) ne).length = k + 1 := by rw [wA.2.2.2, List.length_cons, lD]
    have kb : ∀ x, nj_kk N (t :: base) x = nj_K T D H t j x := by
      intro x
      show nj_kk N base x + _ + _ = _
      rw [Rb.2.2.2.1 x, dpb]
      rfl
    have mob : mo (nj_K T D H t j) = nj_cd (nj_mk N (t :: base)) 6 := by
      refine hmo _ _ (fun p _ => ?_)
      rw [← nj_cn_word p (t :: base) oTb]
      have : nj_kk N (t :: base) = nj_K T D H t j := funext kb
      rw [this]
    rcases hoff with h0 | ⟨e, e1, e2, e3, e4⟩
    · -- it leads back to the first marking
      have z : nj_mk N (t :: base) = nj_mk N [] := nj_mk_cd hM hP (by rw [← mob, h0]; rfl)
      have oB := nj_wr_ok (T := T) (E := E) (H := H) z trivial ne oA
      have mB := nj_wr_mk (T := T) (E := E) (H := H) z ne
      have lB := nj_wr_len (T := T) (E := E) (H := H) (a := t :: base) (b := []) ne
      have := (hmin _ oB (by rw [← mB, mA])).1
      simp only [List.length_cons, List.length_nil] at lB this
      omega
    · -- an inserted event leads there
      have x1 := hX.1
      have x12 := hX.2.2.2.2.2.2.2.2.2.2.2.1
      have x13 := hX.2.2.2.2.2.2.2.2.2.2.2.2
      obtain ⟨y1, y2, y3⟩ := x1 e e1
      have hpe : nj_pos N nc pl be (T e) (eb e) := ⟨y1, y2, fun p hp => ⟨(y3 p hp).1, (y3 p hp).2.1⟩, fun p q hp hq hn => x12 e p q e1 hp hq hn⟩
      obtain ⟨cHe, cutHe⟩ := nj_pos_cfg hw hX hpe
      have hde : nj_dj D (nj_He N T eb ps e) (D e) := by
        obtain ⟨d1, d2, d3⟩ := x13 e e1
        refine ⟨d1, fun f hf => ?_, ?_⟩
        · obtain ⟨p, p1, p2⟩ := (nj_H_6 hw).mp hf
          exact d2 p f p1 p2
        · rcases d3 with d3 | ⟨p, f, p1, p2, p3⟩
          · exact Or.inl d3
          · exact Or.inr ⟨f, (nj_H_6 hw).mpr ⟨p, p1, p2⟩, p3⟩
      have cHe' : nj_cfg N ne T eb pd (nj_He N T eb ps e) := cHe
      have cutHe' : ∀ p, N.1 (T e) p = true → nj_cut N nc T eb pl pd (nj_He N T eb ps e) (eb e p) := cutHe
      have hee : nj_He N T eb ps e e = false := by
        cases z : nj_He N T eb ps e e
        · rfl
        · obtain ⟨p, p1, p2⟩ := (nj_H_6 hw).mp z
          have a := nj_ps_lt hX _ _ (y3 p p1).1 (Nat.le_refl _) e p2
          have b' := (y3 p p1).2.2
          omega
      generalize nj_He N T eb ps e = He at e2 e3 e4 hde cHe' cutHe' hee
      obtain ⟨base', Rb'⟩ := nj_re_ex hw hX hU hne cHe'
      have ci := nj_ins_cfg hX cHe' e1 cutHe'
      have Ri := nj_re_step hw hX hU hne Rb' cHe' hee ci
      have kb' : ∀ x, nj_kk N (T e :: base') x = nj_K T D He (T e) (D e) x := fun x => by rw [Ri.2.2.2.1 x, nj_ke_ins hee (by omega) y1 hde.1 x]
      have mob' : mo (nj_K T D He (T e) (D e)) = nj_cd (nj_mk N (T e :: base')) 6 := by
        refine hmo _ _ (fun p _ => ?_)
        rw [← nj_cn_word p (T e :: base') Ri.1]
        have : nj_kk N (T e :: base') = nj_K T D He (T e) (D e) := funext kb'
        rw [this]
      have z : nj_mk N (t :: base) = nj_mk N (T e :: base') := nj_mk_cd hM hP (by rw [← mob, ← mob', e2])
      have oB := nj_wr_ok (T := T) (E := E) (H := H) z Ri.1 ne oA
      have mB := nj_wr_mk (T := T) (E := E) (H := H) z ne
      have lB := nj_wr_len (T := T) (E := E) (H := H) (a := t :: base) (b := T e :: base') ne
      have hB := hmin _ oB (by rw [← mB, mA])
      have lb := Rb.2.2.2.2
      have lb' := Rb'.2.2.2.2
      simp only [List.length_cons] at lB hB
      have e3' : nj_ct He 64 = nj_ct H 64 := by omega
      have npl := e4 e3'
      have X : ∀ x, 8 * j + 8 * D e + 8 ≤ x → nj_K T D He (T e) (D e) x = nj_K T D H t j x := by
        intro x hx
        rw [nj_K_big y1 hde (by omega), nj_K_big ht8 hj (by omega)]
      rcases nj_pl_tot _ X with g | g | g
      · -- a lesser word
        have hpl : nj_pl (nj_kk N (T e :: base')) (nj_kk N (t :: base)) := by
          rw [funext kb', funext kb]
          exact g
        have lbb : (T e :: base').length = (t :: base).length := by simp only [List.length_cons]; omega
        have := nj_wr_pl hw hs (T := T) (E := E) (H := H) z Ri.1 lbb hpl ne oA (by omega)
        rw [funext kA] at this
        exact absurd this (hB.2 (by omega))
      · exact absurd g npl
      · -- the same event
        obtain ⟨q1, q2, q3⟩ := nj_K_eq y1 ht8 hde hj g
        have hHH := nj_uq hX hU hne cHe' cH q3
        have hHe : He = H := by
          funext f
          rw [Bool.eq_iff_iff]
          exact hHH (D f + 1) f (by omega)
        rw [hHe] at cutHe'
        have ebb : ∀ p, N.1 t p = true → eb e p = b p := by
          intro p hp
          have hp' : N.1 (T e) p = true := by rw [q1]; exact hp
          refine nj_cut_eq hX hU cH (cutHe' p hp') (cutH p hp) ?_
          rw [(y3 p hp').2.1, (hb p hp).2]
        have cutE : ∀ p, N.1 (T e) p = true → nj_cut N nc T eb pl pd E (eb e p) := by
          intro p hp
          rw [q1] at hp
          rw [ebb p hp]
          exact (hb p hp).1
        have Ee : E e = false := by
          cases zz : E e
          · rfl
          · obtain ⟨p, hp⟩ := hpr _ y1 y2
            have := (cutE p hp).2.2 e zz
            rw [(y3 p hp).2.1] at this
            exact absurd rfl (this hp)
        have cI := nj_ins_cfg hX cE e1 cutE
        have RI := nj_re_step hw hX hU hne R2 cE Ee cI
        rw [q1] at RI
        exact ⟨_, _, cI, RI, kT, mT, by rw [List.length_cons, List.length_cons, lD, hk']⟩
/-- every word has a configuration with its marking as the cut, as large as the word at most -/
theorem nj_complete (hw : nj_wf N) (hM : ∀ p, N.2.2.2 p = true → p < 6) (hP : ∀ t p, N.2.1 t p = true → p < 6) (hpr : ∀ t, t < 8 → N.2.2.1 t = true → ∃ p, N.1 t p = true)
    (hX : nj_X N ne nc T eb pl pd be ps D) (hU : ∀ c d, c < nc → d < nc → be c d = true → pl c ≠ pl d) (hne : ne ≤ 64)
    {mo : (Nat → Nat) → Nat} (hmo : ∀ k m, (∀ p, p < 6 → nj_cn N k p = nj_bi (m p)) → mo k = nj_cd m 6) (hO : nj_off N ne nc T eb pl be ps D mo)
    {n : Nat} (hs : nj_sf N n) {w : List Nat} (ho : nj_ok N w) (hl : w.length ≤ n) :
    ∃ E, nj_cfg N ne T eb pd E ∧ (∀ p, nj_mk N w p = true ↔ ∃ c, nj_cut N nc T eb pl pd E c ∧ pl c = p) ∧ nj_ct E 64 ≤ w.length := by
  obtain ⟨w0, m0, e0, l0⟩ := nj_mn_ex ho
  obtain ⟨E, v, cE, R, _, mv, lv⟩ := nj_real hw hM hP hpr hX hU hne hmo hO hs _ w0 rfl (by omega) m0
  refine ⟨E, cE, ?_, by rw [← R.2.2.2.2]; omega⟩
  rw [← e0, ← mv]
  exact R.2.1
end
end
section
/-! rows of laws/BITS.to-paste, renamed (a starting text): Int32 by its bits; one bit of a long; lN to 2^64 -/
def nj_bt (x : Int32) (i : Nat) : Bool := x.toBitVec.getLsbD i
theorem nj_b_ext {x y : Int32} (h : ∀ i, i < 32 → nj_bt x i = nj_bt y i) : x = y := Int32.toBitVec_inj.mp (BitVec.eq_of_getLsbD_eq (fun i hi => h i hi))
theorem nj_b_or (x y : Int32) (i : Nat) : nj_bt (x ||| y) i = (nj_bt x i || nj_bt y i) := by unfold nj_bt; rw [Int32.toBitVec_or, BitVec.getLsbD_or]
theorem nj_b_and (x y : Int32) (i : Nat) : nj_bt (x &&& y) i = (nj_bt x i && nj_bt y i) := by unfold nj_bt; rw [Int32.toBitVec_and, BitVec.getLsbD_and]
theorem nj_b_xor (x y : Int32) (i : Nat) : nj_bt (x ^^^ y) i = (nj_bt x i ^^ nj_bt y i) := by unfold nj_bt; rw [Int32.toBitVec_xor, BitVec.getLsbD_xor]
theorem nj_b_big {x : Int32} {i : Nat} (h : 32 ≤ i) : nj_bt x i = false := BitVec.getLsbD_of_ge _ _ h
theorem nj_b_255 (i : Nat) : nj_bt 255 i = decide (i < 8) := by
  rcases Nat.lt_or_ge i 32 with h | h
  · exact (by decide +kernel : ∀ i, i < 32 → nj_bt 255 i = decide (i < 8)) i h
  · rw [nj_b_big h, decide_eq_false (by omega)]
theorem nj_b_65535 (i : Nat) : nj_bt 65535 i = decide (i < 16) := by
  rcases Nat.lt_or_ge i 32 with h | h
  · exact (by decide +kernel : ∀ i, i < 32 → nj_bt 65535 i = decide (i < 16)) i h
  · rw [nj_b_big h, decide_eq_false (by omega)]
theorem nj_b_m1 : ∀ i, i < 32 → nj_bt (-1) i = true := by decide +kernel
theorem nj_b_0 (i : Nat) : nj_bt 0 i = false := BitVec.getLsbD_zero
theorem nj_s_l : ∀ n, n < 32 → ((nI n &&& 31).toBitVec.smod 32).toNat = n := by decide +kernel
theorem nj_s_u : ∀ n, n < 32 → (((nI n).toUInt32 &&& Int32.toUInt32 31).toBitVec % 32).toNat = n := by decide +kernel
theorem nj_b_shl (n : Nat) (hn : n < 32) (x : Int32) {i : Nat} (hi : i < 32) : nj_bt (x <<< (nI n &&& 31)) i = (decide (n ≤ i) && nj_bt x (i - n)) := by
  unfold nj_bt
  rw [Int32.toBitVec_shiftLeft]
  show (x.toBitVec <<< ((nI n &&& 31).toBitVec.smod 32).toNat).getLsbD i = _
  rw [nj_s_l n hn, BitVec.getLsbD_shiftLeft]
  rcases Nat.lt_or_ge i n with h | h
  · simp [h, Nat.not_le.mpr h]
  · simp [hi, h, Nat.not_lt.mpr h]
theorem nj_b_ushr (n : Nat) (hn : n < 32) (x : Int32) (i : Nat) : nj_bt ((x.toUInt32 >>> ((nI n).toUInt32 &&& Int32.toUInt32 31)).toInt32) i = nj_bt x (n + i) := by
  show (x.toUInt32 >>> ((nI n).toUInt32 &&& Int32.toUInt32 31)).toBitVec.getLsbD i = x.toUInt32.toBitVec.getLsbD (n + i)
  rw [UInt32.toBitVec_shiftRight]
  show (x.toUInt32.toBitVec >>> (((nI n).toUInt32 &&& Int32.toUInt32 31).toBitVec % 32).toNat).getLsbD i = _
  rw [nj_s_u n hn, BitVec.getLsbD_ushiftRight]
theorem nj_b_sshr (n : Nat) (hn : n < 32) (x : Int32) {i : Nat} (hi : i < 32) : nj_bt (x >>> (nI n &&& 31)) i = if n + i < 32 then nj_bt x (n + i) else nj_bt x 31 := by
  unfold nj_bt
  rw [Int32.toBitVec_shiftRight]
  show (x.toBitVec.sshiftRight ((nI n &&& 31).toBitVec.smod 32).toNat).getLsbD i = _
  rw [nj_s_l n hn, BitVec.getLsbD_sshiftRight, BitVec.msb_eq_getLsbD_last]
  simp [hi]
theorem nj_b_shl8 (x : Int32) {i : Nat} (hi : i < 32) : nj_bt (x <<< ((8 : Int32) &&& 31)) i = (decide (8 ≤ i) && nj_bt x (i - 8)) := nj_b_shl 8 (by omega) x hi
theorem nj_b_shl16 (x : Int32) {i : Nat} (hi : i < 32) : nj_bt (x <<< ((16 : Int32) &&& 31)) i = (decide (16 ≤ i) && nj_bt x (i - 16)) := nj_b_shl 16 (by omega) x hi
theorem nj_b_shl24 (x : Int32) {i : Nat} (hi : i < 32) : nj_bt (x <<< ((24 : Int32) &&& 31)) i = (decide (24 ≤ i) && nj_bt x (i - 24)) := nj_b_shl 24 (by omega) x hi
theorem nj_b_sshr8 (x : Int32) {i : Nat} (hi : i < 32) : nj_bt (x >>> ((8 : Int32) &&& 31)) i = if 8 + i < 32 then nj_bt x (8 + i) else nj_bt x 31 := nj_b_sshr 8 (by omega) x hi
theorem nj_ts_nf {x : Bool} (h : ¬ x = false) : x = true := by cases x <;> first | rfl | exact absurd rfl h
theorem nj_ts_nt {x : Bool} (h : ¬ x = true) : x = false := by cases x <;> first | rfl | exact absurd rfl h
theorem nj_ts_bit {w : Int64} {s : UInt64} {j : Nat} (hj : j < 64) (hs : s.toNat = j) : ((w.toUInt64 >>> s).toInt64 &&& 1) = 0 ↔ w.toBitVec.getLsbD j = false := by
  have e : (w.toUInt64 >>> s).toInt64.toBitVec = w.toBitVec >>> j := by
    apply BitVec.eq_of_toNat_eq
    show (w.toUInt64 >>> s).toNat = _
    rw [UInt64.toNat_shiftRight, hs, Nat.mod_eq_of_lt hj, BitVec.toNat_ushiftRight]
    rfl
  rw [← Int64.toBitVec_inj, Int64.toBitVec_and, e]
  show w.toBitVec >>> j &&& 1#64 = 0#64 ↔ _
  constructor
  · intro h
    have t := congrArg (fun x => x.getLsbD 0) h
    simpa using t
  · intro h
    apply BitVec.eq_of_getLsbD_eq
    intro i hi
    cases i with
    | zero => simp [h]
    | succ i => simp
theorem nj_wb_tb (n : Nat) : (lN n).toBitVec = BitVec.ofNat 64 n := rfl
theorem nj_wb_inj {a b : Int64} (h : a.toBitVec = b.toBitVec) : a = b := Int64.toBitVec_inj.mp h
theorem nj_wb_tn {n : Nat} (h : n < 2 ^ 64) : (lN n).toBitVec.toNat = n := by rw [nj_wb_tb, BitVec.toNat_ofNat, Nat.mod_eq_of_lt h]
theorem nj_wb_of (x : Int64) : ∃ n, n < 2 ^ 64 ∧ x = lN n := ⟨x.toBitVec.toNat, x.toBitVec.isLt, nj_wb_inj (by rw [nj_wb_tb]; simp)⟩
theorem nj_wb_of32 (x : Int32) : ∃ n, n < 2 ^ 32 ∧ x = nI n := ⟨x.toBitVec.toNat, x.toBitVec.isLt, Int32.toBitVec_inj.mp (by show _ = BitVec.ofNat 32 _; simp)⟩
theorem nj_wb_c : ∀ k, k < 64 → ((nI k).toInt64 &&& 63) = lN k := by decide +kernel
theorem nj_wb_cu : ∀ k, k < 64 → ((nI k).toInt64.toUInt64 &&& Int64.toUInt64 63) = UInt64.ofNat k := by decide +kernel
theorem nj_wb_sm : ∀ k, k < 64 → (BitVec.ofNat 64 k).smod 64 = BitVec.ofNat 64 k := by decide +kernel
theorem nj_wb_pw {a b : Nat} (h : a ≤ b) : 2 ^ b = 2 ^ a * 2 ^ (b - a) := by rw [← Nat.pow_add]; congr 1; omega
theorem nj_wb_lt2 {a b : Nat} (h : a < b) : 2 ^ a < 2 ^ b := Nat.pow_lt_pow_right (by decide) h
theorem nj_wb_mod (n : Nat) : lN n = lN (n % 2 ^ 64) := nj_wb_inj (by rw [nj_wb_tb, nj_wb_tb]; apply BitVec.eq_of_toNat_eq; rw [BitVec.toNat_ofNat, BitVec.toNat_ofNat, Nat.mod_mod])
theorem nj_wb_shr {n k : Nat} (hn : n < 2 ^ 64) (hk : k < 64) : ((lN n).toUInt64 >>> ((nI k).toInt64.toUInt64 &&& Int64.toUInt64 63)).toInt64 = lN (n / 2 ^ k) := by
  rw [nj_wb_cu k hk]
  apply nj_wb_inj
  apply BitVec.eq_of_toNat_eq
  show ((lN n).toUInt64 >>> UInt64.ofNat k).toNat = (BitVec.ofNat 64 _).toNat
  have h1 : (UInt64.ofNat k).toNat = k := by
    show (BitVec.ofNat 64 k).toNat = k
    rw [BitVec.toNat_ofNat, Nat.mod_eq_of_lt (by omega)]
  have h2 : (lN n).toUInt64.toNat = n := nj_wb_tn hn
  rw [UInt64.toNat_shiftRight, h1, h2, Nat.mod_eq_of_lt hk, Nat.shiftRight_eq_div_pow, BitVec.toNat_ofNat, Nat.mod_eq_of_lt (Nat.lt_of_le_of_lt (Nat.div_le_self _ _) hn)]
theorem nj_wb_shl (n : Nat) {k : Nat} (hk : k < 64) : lN n <<< ((nI k).toInt64 &&& 63) = lN (n * 2 ^ k) := by
  rw [nj_wb_c k hk]
  apply nj_wb_inj
  rw [Int64.toBitVec_shiftLeft, nj_wb_tb, nj_wb_tb, nj_wb_tb, nj_wb_sm k hk]
  apply BitVec.eq_of_toNat_eq
  rw [BitVec.shiftLeft_eq', BitVec.toNat_shiftLeft, BitVec.toNat_ofNat, BitVec.toNat_ofNat, BitVec.toNat_ofNat, Nat.mod_eq_of_lt (show k < 2 ^ 64 by omega), Nat.shiftLeft_eq, Nat.mul_mod, Nat.mod_mod, ← Nat.mul_mod]
theorem nj_wb_and {a b : Nat} (ha : a < 2 ^ 64) (hb : b < 2 ^ 64) : lN a &&& lN b = lN (a &&& b) := by
  apply nj_wb_inj
  rw [Int64.toBitVec_and, nj_wb_tb, nj_wb_tb, nj_wb_tb]
  apply BitVec.eq_of_toNat_eq
  rw [BitVec.toNat_and, BitVec.toNat_ofNat, BitVec.toNat_ofNat, BitVec.toNat_ofNat, Nat.mod_eq_of_lt ha, Nat.mod_eq_of_lt hb, Nat.mod_eq_of_lt (Nat.and_lt_two_pow _ hb)]
theorem nj_wb_or {a b : Nat} (ha : a < 2 ^ 64) (hb : b < 2 ^ 64) : lN a ||| lN b = lN (a ||| b) := by
  apply nj_wb_inj
  rw [Int64.toBitVec_or, nj_wb_tb, nj_wb_tb, nj_wb_tb]
  apply BitVec.eq_of_toNat_eq
  rw [BitVec.toNat_or, BitVec.toNat_ofNat, BitVec.toNat_ofNat, BitVec.toNat_ofNat, Nat.mod_eq_of_lt ha, Nat.mod_eq_of_lt hb, Nat.mod_eq_of_lt (Nat.or_lt_two_pow ha hb)]
theorem nj_wb_mask {n k : Nat} (hn : n < 2 ^ 64) (hk : k < 64) : lN n &&& lN (2 ^ k - 1) = lN (n % 2 ^ k) := by
  rw [nj_wb_and hn (by have := nj_wb_lt2 hk; omega), Nat.and_two_pow_sub_one_eq_mod]
theorem nj_wb_a1 {n : Nat} (hn : n < 2 ^ 64) : lN n &&& 1 = lN (n % 2) := nj_wb_mask (k := 1) hn (by decide)
theorem nj_wb_bit {n k : Nat} (hn : n < 2 ^ 64) (hk : k < 64) : ((lN n).toUInt64 >>> ((nI k).toInt64.toUInt64 &&& Int64.toUInt64 63)).toInt64 &&& 1 = lN (n / 2 ^ k % 2) := by
  rw [nj_wb_shr hn hk, nj_wb_a1 (Nat.lt_of_le_of_lt (Nat.div_le_self _ _) hn)]
/-! own rows: Int32 -/
theorem nj_nx_or (a b : Nat) : nI a ||| nI b = nI (a ||| b) := by
  apply Int32.toBitVec_inj.1
  show BitVec.ofNat 32 a ||| BitVec.ofNat 32 b = BitVec.ofNat 32 (a ||| b)
  apply BitVec.eq_of_getLsbD_eq
  intro i hi
  simp [hi]
theorem nj_nx_and (a b : Nat) : nI a &&& nI b = nI (a &&& b) := by
  apply Int32.toBitVec_inj.1
  show BitVec.ofNat 32 a &&& BitVec.ofNat 32 b = BitVec.ofNat 32 (a &&& b)
  apply BitVec.eq_of_getLsbD_eq
  intro i hi
  simp [hi]
theorem nj_bt_nI (n : Nat) {i : Nat} (hi : i < 32) : nj_bt (nI n) i = n.testBit i := by
  show (BitVec.ofNat 32 n).getLsbD i = _
  rw [BitVec.getLsbD_ofNat, decide_eq_true hi, Bool.true_and]
theorem nj_0_iff (x : Int32) : x = 0 ↔ ∀ i, i < 32 → nj_bt x i = false := by
  constructor
  · intro h i _
    rw [h]
    exact nj_b_0 i
  · intro h
    exact nj_b_ext (fun i hi => by rw [h i hi, nj_b_0])
theorem nj_sub0 (x y : Int32) : (x &&& (y ^^^ (-1))) = 0 ↔ ∀ i, i < 32 → nj_bt x i = true → nj_bt y i = true := by
  rw [nj_0_iff]
  constructor
  · intro h i hi hx
    have := h i hi
    rw [nj_b_and, nj_b_xor, nj_b_m1 i hi, hx] at this
    cases z : nj_bt y i
    · rw [z] at this; exact absurd this (by decide)
    · rfl
  · intro h i hi
    rw [nj_b_and, nj_b_xor, nj_b_m1 i hi]
    cases hx : nj_bt x i
    · rfl
    · rw [h i hi hx]; rfl
theorem nj_bt_1 : ∀ i, i < 32 → nj_bt 1 i = decide (i = 0) := by decide +kernel
/-- one bit -/
theorem nj_bit (x : Int32) (k : Nat) (hk : k < 32) : ((x >>> (nI k &&& 31)) &&& 1) = 0 ↔ nj_bt x k = false := by
  rw [nj_0_iff]
  constructor
  · intro h
    have := h 0 (by omega)
    rw [nj_b_and, nj_bt_1 0 (by omega), nj_b_sshr k hk x (by omega), if_pos (by omega)] at this
    simpa using this
  · intro h i hi
    rw [nj_b_and, nj_bt_1 i hi]
    by_cases e : i = 0
    · subst e
      rw [nj_b_sshr k hk x (by omega), if_pos (by omega)]
      simpa using h
    · rw [decide_eq_false e, Bool.and_false]
theorem nj_bit1 (x : Int32) (k : Nat) (hk : k < 32) : ((x >>> (nI k &&& 31)) &&& 1) = 1 ↔ nj_bt x k = true := by
  constructor
  · intro h
    cases z : nj_bt x k
    · have := (nj_bit x k hk).mpr z
      rw [h] at this
      exact absurd this (by decide)
    · rfl
  · intro h
    refine nj_b_ext (fun i hi => ?_)
    rw [nj_b_and, nj_bt_1 i hi]
    by_cases e : i = 0
    · subst e
      rw [nj_b_sshr k hk x (by omega), if_pos (by omega)]
      simpa using h
    · rw [decide_eq_false e, Bool.and_false]
theorem nj_shl1 : ∀ k, k < 31 → (1 : Int32) <<< (nI k &&& 31) = nI (2 ^ k) := by decide +kernel
theorem nj_bt_pw {k i : Nat} (hk : k < 31) (hi : i < 32) : nj_bt ((1 : Int32) <<< (nI k &&& 31)) i = decide (i = k) := by
  rw [nj_shl1 k hk, nj_bt_nI _ hi, Nat.testBit_two_pow]
  by_cases e : k = i
  · subst e; simp
  · rw [decide_eq_false e, decide_eq_false (fun h => e h.symm)]
theorem nj_i8 : ∀ n, n < 128 → (nI n).toInt8.toInt32 = nI n := by decide +kernel
theorem nj_i16 : ∀ n, n < 192 → (nI n).toInt16.toInt32 = nI n := by decide +kernel
theorem nj_i8m : (-1 : Int32).toInt8.toInt32 = -1 := by decide
theorem nj_i16m : (-1 : Int32).toInt16.toInt32 = -1 := by decide
/-! Int64 by its bits -/
def nj_bl (x : Int64) (i : Nat) : Bool := x.toBitVec.getLsbD i
theorem nj_bl_ext {x y : Int64} (h : ∀ i, i < 64 → nj_bl x i = nj_bl y i) : x = y := Int64.toBitVec_inj.mp (BitVec.eq_of_getLsbD_eq (fun i hi => h i hi))
theorem nj_bl_or (x y : Int64) (i : Nat) : nj_bl (x ||| y) i = (nj_bl x i || nj_bl y i) := by unfold nj_bl; rw [Int64.toBitVec_or, BitVec.getLsbD_or]
theorem nj_bl_and (x y : Int64) (i : Nat) : nj_bl (x &&& y) i = (nj_bl x i && nj_bl y i) := by unfold nj_bl; rw [Int64.toBitVec_and, BitVec.getLsbD_and]
theorem nj_bl_0 (i : Nat) : nj_bl 0 i = false := BitVec.getLsbD_zero
theorem nj_bl_m1 : ∀ i, i < 64 → nj_bl (-1) i = true := by decide +kernel
theorem nj_bl_big {x : Int64} {i : Nat} (h : 64 ≤ i) : nj_bl x i = false := BitVec.getLsbD_of_ge _ _ h
theorem nj_bl_lt {x : Int64} {i : Nat} (h : nj_bl x i = true) : i < 64 := by
  rcases Nat.lt_or_ge i 64 with z | z
  · exact z
  · rw [nj_bl_big z] at h
    exact absurd h (by decide)
theorem nj_l0_iff (x : Int64) : x = 0 ↔ ∀ i, i < 64 → nj_bl x i = false := by
  constructor
  · intro h i _
    rw [h]
    exact nj_bl_0 i
  · intro h
    exact nj_bl_ext (fun i hi => by rw [h i hi, nj_bl_0])
theorem nj_bl_lN {n i : Nat} (hi : i < 64) : nj_bl (lN n) i = n.testBit i := by
  show (BitVec.ofNat 64 n).getLsbD i = _
  rw [BitVec.getLsbD_ofNat, decide_eq_true hi, Bool.true_and]
theorem nj_bl_pw {k : Nat} (hk : k < 64) (i : Nat) : nj_bl ((1 : Int64) <<< ((nI k).toInt64 &&& 63)) i = decide (i = k) := by
  rcases Nat.lt_or_ge i 64 with hi | hi
  · have e : (1 : Int64) <<< ((nI k).toInt64 &&& 63) = lN (2 ^ k) := by
      have := nj_wb_shl 1 hk
      rw [Nat.one_mul] at this
      exact this
    rw [e, nj_bl_lN hi, Nat.testBit_two_pow]
    by_cases e : k = i
    · subst e; simp
    · rw [decide_eq_false e, decide_eq_false (fun h => e h.symm)]
  · rw [nj_bl_big hi, decide_eq_false (by omega)]
theorem nj_sw : ∀ d, d < 192 → ((nI d &&& 63).toInt64.toUInt64 &&& Int64.toUInt64 63).toNat = d % 64 := by decide +kernel
/-- one bit of a word, as inWords tests it -/
theorem nj_wbit {d : Nat} (hd : d < 192) (z : Int64) : (((z.toUInt64 >>> ((nI d &&& 63).toInt64.toUInt64 &&& Int64.toUInt64 63)).toInt64) &&& 1) = 0 ↔ nj_bl z (d % 64) = false :=
  nj_ts_bit (Nat.mod_lt _ (by decide)) (nj_sw d hd)
end
section
/-! how many bits of a long are set: byte by byte -/
def nj_mr (c : Nat) : Nat → Nat
  | 0 => 0
  | k + 1 => 2 ^ 8 * nj_mr c k + c
theorem nj_and_sp {a c x y : Nat} (ha : a < 2 ^ 8) (hc : c < 2 ^ 8) : (2 ^ 8 * x + a) &&& (2 ^ 8 * y + c) = 2 ^ 8 * (x &&& y) + (a &&& c) := by
  have hac : a &&& c < 2 ^ 8 := Nat.and_lt_two_pow a hc
  apply Nat.eq_of_testBit_eq
  intro j
  rw [Nat.testBit_and, Nat.testBit_two_pow_mul_add _ ha, Nat.testBit_two_pow_mul_add _ hc, Nat.testBit_two_pow_mul_add _ hac]
  by_cases h : j < 8
  · rw [if_pos h, if_pos h, if_pos h, Nat.testBit_and]
  · rw [if_neg h, if_neg h, if_neg h, Nat.testBit_and]
def nj_g1 (b : Nat) : Nat := b - ((b / 2) &&& 85)
def nj_g2 (c : Nat) : Nat := (c &&& 51) + ((c / 4) &&& 51)
def nj_g3 (d : Nat) : Nat := (d + d / 16) &&& 15
def nj_f1 (k n : Nat) : Nat := n - ((n / 2) &&& nj_mr 85 k)
def nj_f2 (k n : Nat) : Nat := (n &&& nj_mr 51 k) + ((n / 4) &&& nj_mr 51 k)
def nj_f3 (k n : Nat) : Nat := (n + n / 16) &&& nj_mr 15 k
theorem nj_d1 : ∀ b, b < 256 → ∀ e, e < 2 → (b / 2 + 128 * e) &&& 85 = (b / 2) &&& 85 ∧ (b / 2) &&& 85 ≤ b := by decide +kernel
theorem nj_d2 : ∀ b, b < 256 → ∀ e, e < 4 → (b / 4 + 64 * e) &&& 51 = (b / 4) &&& 51 := by decide +kernel
theorem nj_d3 : ∀ d, d < 69 → ∀ e, e < 5 → (d + d / 16 + 16 * e) &&& 15 = nj_g3 d := by decide +kernel
theorem nj_d4 : ∀ b, b < 256 → nj_g1 b < 256 ∧ nj_g2 (nj_g1 b) < 69 ∧ nj_g2 (nj_g1 b) % 16 < 5 ∧ nj_g3 (nj_g2 (nj_g1 b)) = nj_ct (fun i => b.testBit i) 8 := by decide +kernel
theorem nj_s1 {k b n : Nat} (hb : b < 256) : nj_f1 (k + 1) (2 ^ 8 * n + b) = 2 ^ 8 * nj_f1 k n + nj_g1 b := by
  unfold nj_f1 nj_g1
  rw [show nj_mr 85 (k + 1) = 2 ^ 8 * nj_mr 85 k + 85 from rfl]
  have e : (2 ^ 8 * n + b) / 2 = 2 ^ 8 * (n / 2) + (b / 2 + 128 * (n % 2)) := by omega
  obtain ⟨d1, d2⟩ := nj_d1 b hb (n % 2) (by omega)
  rw [e, nj_and_sp (by omega) (by decide), d1]
  have l : (n / 2) &&& nj_mr 85 k ≤ n / 2 := Nat.and_le_left
  omega
theorem nj_s2 {k b n : Nat} (hb : b < 256) : nj_f2 (k + 1) (2 ^ 8 * n + b) = 2 ^ 8 * nj_f2 k n + nj_g2 b := by
  unfold nj_f2 nj_g2
  rw [show nj_mr 51 (k + 1) = 2 ^ 8 * nj_mr 51 k + 51 from rfl]
  have e : (2 ^ 8 * n + b) / 4 = 2 ^ 8 * (n / 4) + (b / 4 + 64 * (n % 4)) := by omega
  have d1 := nj_d2 b hb (n % 4) (by omega)
  rw [e, nj_and_sp (by omega) (by decide), nj_and_sp (by omega) (by decide), d1]
  omega
theorem nj_s3 {k b n : Nat} (hb : b < 69) (hn : n % 16 < 5) : nj_f3 (k + 1) (2 ^ 8 * n + b) = 2 ^ 8 * nj_f3 k n + nj_g3 b := by
  unfold nj_f3
  rw [show nj_mr 15 (k + 1) = 2 ^ 8 * nj_mr 15 k + 15 from rfl]
  have e : (2 ^ 8 * n + b) + (2 ^ 8 * n + b) / 16 = 2 ^ 8 * (n + n / 16) + (b + b / 16 + 16 * (n % 16)) := by omega
  rw [e, nj_and_sp (by omega) (by decide), nj_d3 b hb _ hn]
def nj_f (k n : Nat) : Nat := nj_f3 k (nj_f2 k (nj_f1 k n))
theorem nj_f_lo (k n : Nat) : nj_f2 k (nj_f1 k n) % 16 < 5 := by
  cases k with
  | zero =>
    unfold nj_f2
    rw [show nj_mr 51 0 = 0 from rfl, Nat.and_zero, Nat.and_zero]
    omega
  | succ k =>
    have e : n = 2 ^ 8 * (n / 256) + n % 256 := by omega
    have d := nj_d4 (n % 256) (by omega)
    rw [e, nj_s1 (by omega), nj_s2 d.1]
    omega
theorem nj_f_s {k b n : Nat} (hb : b < 256) : nj_f (k + 1) (2 ^ 8 * n + b) = 2 ^ 8 * nj_f k n + nj_ct (fun i => b.testBit i) 8 := by
  unfold nj_f
  have d := nj_d4 b hb
  rw [nj_s1 hb, nj_s2 d.1, nj_s3 d.2.1 (nj_f_lo k n), d.2.2.2]
theorem nj_f_0 (n : Nat) : nj_f 0 n = 0 := by
  unfold nj_f nj_f3 nj_mr
  exact Nat.and_zero _
/-- the bytes' counts, added up -/
def nj_bs : Nat → Nat → Nat
  | 0, _ => 0
  | k + 1, n => nj_ct (fun i => (n % 256).testBit i) 8 + nj_bs k (n / 256)
theorem nj_ct_sp {b n : Nat} (hb : b < 2 ^ 8) : ∀ m, nj_ct (fun i => (2 ^ 8 * n + b).testBit i) (8 + m) = nj_ct (fun i => b.testBit i) 8 + nj_ct (fun i => n.testBit i) m := by
  intro m
  induction m with
  | zero =>
    show nj_ct _ 8 = _ + 0
    rw [Nat.add_zero]
    refine nj_ct_cg 8 (fun i hi => ?_)
    show (2 ^ 8 * n + b).testBit i = b.testBit i
    rw [Nat.testBit_two_pow_mul_add _ hb, if_pos hi]
  | succ m ih =>
    show nj_ct (fun i => (2 ^ 8 * n + b).testBit i) (8 + m) + (if (2 ^ 8 * n + b).testBit (8 + m) = true then 1 else 0) = _ + (nj_ct (fun i => n.testBit i) m + (if n.testBit m = true then 1 else 0))
    rw [ih, Nat.testBit_two_pow_mul_add _ hb, if_neg (show ¬ 8 + m < 8 by omega), Nat.add_sub_cancel_left]
    omega
theorem nj_ct_bs : ∀ k n, nj_ct (fun i => n.testBit i) (8 * k) = nj_bs k n := by
  intro k
  induction k with
  | zero => exact fun _ => rfl
  | succ k ih =>
    intro n
    have e : n = 2 ^ 8 * (n / 256) + n % 256 := by omega
    have := nj_ct_sp (b := n % 256) (n := n / 256) (by omega) (8 * k)
    rw [← e, ih] at this
    rw [show 8 * (k + 1) = 8 + 8 * k by omega]
    exact this
theorem nj_top {n : Nat} (hn : n < 2 ^ 64) : nj_f 8 n * 72340172838076673 % 2 ^ 64 / 2 ^ 56 = nj_ct (fun i => n.testBit i) 64 := by
  have E : ∀ m, m = 2 ^ 8 * (m / 256) + m % 256 := fun m => by omega
  have U : ∀ b : Nat, nj_ct (fun i => b.testBit i) 8 ≤ 8 := fun b => nj_ct_ub _ 8
  rw [nj_ct_bs 8 n]
  have S : ∀ k m, nj_f (k + 1) m = 2 ^ 8 * nj_f k (m / 256) + nj_ct (fun i => (m % 256).testBit i) 8 := by
    intro k m
    have := nj_f_s (k := k) (b := m % 256) (n := m / 256) (by omega)
    rw [← E m] at this
    exact this
  rw [S 7, S 6, S 5, S 4, S 3, S 2, S 1, S 0, nj_f_0]
  unfold nj_bs nj_bs nj_bs nj_bs nj_bs nj_bs nj_bs nj_bs nj_bs
  generalize n / 256 = n1
  have u0 := U (n % 256)
  have u1 := U (n1 % 256)
  have u2 := U (n1 / 256 % 256)
  have u3 := U (n1 / 256 / 256 % 256)
  have u4 := U (n1 / 256 / 256 / 256 % 256)
  have u5 := U (n1 / 256 / 256 / 256 / 256 % 256)
  have u6 := U (n1 / 256 / 256 / 256 / 256 / 256 % 256)
  have u7 := U (n1 / 256 / 256 / 256 / 256 / 256 / 256 % 256)
  revert u0 u1 u2 u3 u4 u5 u6 u7
  generalize nj_ct (fun i => (n % 256).testBit i) 8 = d0
  generalize nj_ct (fun i => (n1 % 256).testBit i) 8 = d1
  generalize nj_ct (fun i => (n1 / 256 % 256).testBit i) 8 = d2
  generalize nj_ct (fun i => (n1 / 256 / 256 % 256).testBit i) 8 = d3
  generalize nj_ct (fun i => (n1 / 256 / 256 / 256 % 256).testBit i) 8 = d4
  generalize nj_ct (fun i => (n1 / 256 / 256 / 256 / 256 % 256).testBit i) 8 = d5
  generalize nj_ct (fun i => (n1 / 256 / 256 / 256 / 256 / 256 % 256).testBit i) 8 = d6
  generalize nj_ct (fun i => (n1 / 256 / 256 / 256 / 256 / 256 / 256 % 256).testBit i) 8 = d7
  intro u0 u1 u2 u3 u4 u5 u6 u7
  have hL : 256 ^ 0 * (d0) + 256 ^ 1 * (d0 + d1) + 256 ^ 2 * (d0 + d1 + d2) + 256 ^ 3 * (d0 + d1 + d2 + d3) + 256 ^ 4 * (d0 + d1 + d2 + d3 + d4) + 256 ^ 5 * (d0 + d1 + d2 + d3 + d4 + d5) + 256 ^ 6 * (d0 + d1 + d2 + d3 + d4 + d5 + d6) < 2 ^ 56 := by omega
  have hX : (2 ^ 8 * (2 ^ 8 * (2 ^ 8 * (2 ^ 8 * (2 ^ 8 * (2 ^ 8 * (2 ^ 8 * (2 ^ 8 * 0 + d7) + d6) + d5) + d4) + d3) + d2) + d1) + d0) * 72340172838076673 = 2 ^ 64 * (256 ^ 0 * (d1 + d2 + d3 + d4 + d5 + d6 + d7) + 256 ^ 1 * (d2 + d3 + d4 + d5 + d6 + d7) + 256 ^ 2 * (d3 + d4 + d5 + d6 + d7) + 256 ^ 3 * (d4 + d5 + d6 + d7) + 256 ^ 4 * (d5 + d6 + d7) + 256 ^ 5 * (d6 + d7) + 256 ^ 6 * (d7)) + (2 ^ 56 * (d0 + d1 + d2 + d3 + d4 + d5 + d6 + d7) + (256 ^ 0 * (d0) + 256 ^ 1 * (d0 + d1) + 256 ^ 2 * (d0 + d1 + d2) + 256 ^ 3 * (d0 + d1 + d2 + d3) + 256 ^ 4 * (d0 + d1 + d2 + d3 + d4) + 256 ^ 5 * (d0 + d1 + d2 + d3 + d4 + d5) + 256 ^ 6 * (d0 + d1 + d2 + d3 + d4 + d5 + d6))) := by omega
  rw [hX, Nat.mul_add_mod, Nat.mod_eq_of_lt (by omega), Nat.mul_add_div (by decide), Nat.div_eq_of_lt hL]
  omega
theorem nj_mr8 : nj_mr 85 8 = 6148914691236517205 ∧ nj_mr 51 8 = 3689348814741910323 ∧ nj_mr 15 8 = 1085102592571150095 := by decide +kernel
theorem nj_ct_bl {n : Nat} : nj_ct (nj_bl (lN n)) 64 = nj_ct (fun i => n.testBit i) 64 := nj_ct_cg 64 (fun i hi => nj_bl_lN hi)
/-- the number of bits set -/
def nj_on (x : Int64) : Nat := nj_ct (nj_bl x) 64
theorem nj_on_le (x : Int64) : nj_on x ≤ 64 := nj_ct_ub _ 64
theorem nj_ones {post : Int32 → Prop} {x : Int64} (h : post (nI (nj_on x))) : wpX_ones post () x := by
  obtain ⟨n, hn, rfl⟩ := nj_wb_of x
  obtain ⟨m1, m2, m3⟩ := nj_mr8
  have l1 : (n / 2) &&& 6148914691236517205 ≤ n / 2 := Nat.and_le_left
  have e1 : lN n - ((((lN n).toUInt64 >>> ((1 : Int32).toInt64.toUInt64 &&& Int64.toUInt64 63)).toInt64) &&& 6148914691236517205) = lN (nj_f1 8 n) := by
    have := nj_wb_shr (k := 1) hn (by omega)
    rw [Nat.pow_one] at this
    rw [show ((1 : Int32)) = nI 1 from rfl, this, show (6148914691236517205 : Int64) = lN 6148914691236517205 from rfl, nj_wb_and (by omega) (by decide), lN_sub (by omega)]
    unfold nj_f1
    rw [m1]
  have h1 : nj_f1 8 n < 2 ^ 64 := by unfold nj_f1; omega
  have e2 : (lN (nj_f1 8 n) &&& 3689348814741910323) + ((((lN (nj_f1 8 n)).toUInt64 >>> ((2 : Int32).toInt64.toUInt64 &&& Int64.toUInt64 63)).toInt64) &&& 3689348814741910323) = lN (nj_f2 8 (nj_f1 8 n)) := by
    have := nj_wb_shr (k := 2) h1 (by omega)
    rw [show ((2 : Int32)) = nI 2 from rfl, this, show (3689348814741910323 : Int64) = lN 3689348814741910323 from rfl, nj_wb_and h1 (by decide), nj_wb_and (by omega) (by decide), lN_add]
    unfold nj_f2
    rw [m2]
  have h2 : nj_f2 8 (nj_f1 8 n) < 2 ^ 63 := by
    have a : nj_f1 8 n &&& nj_mr 51 8 ≤ nj_mr 51 8 := Nat.and_le_right
    have b : nj_f1 8 n / 4 &&& nj_mr 51 8 ≤ nj_mr 51 8 := Nat.and_le_right
    unfold nj_f2
    omega
  have e3 : (lN (nj_f2 8 (nj_f1 8 n)) + (((lN (nj_f2 8 (nj_f1 8 n))).toUInt64 >>> ((4 : Int32).toInt64.toUInt64 &&& Int64.toUInt64 63)).toInt64)) &&& 1085102592571150095 = lN (nj_f 8 n) := by
    have := nj_wb_shr (n := nj_f2 8 (nj_f1 8 n)) (k := 4) (by omega) (by omega)
    rw [show ((4 : Int32)) = nI 4 from rfl, this, lN_add, show (1085102592571150095 : Int64) = lN 1085102592571150095 from rfl, nj_wb_and (by omega) (by decide)]
    unfold nj_f nj_f3
    rw [m3]
  have e4 : ((((lN (nj_f 8 n) * 72340172838076673).toUInt64 >>> ((56 : Int32).toInt64.toUInt64 &&& Int64.toUInt64 63)).toInt64).toInt32) = nI (nj_on (lN n)) := by
    rw [show (72340172838076673 : Int64) = lN 72340172838076673 from rfl, lN_mul, nj_wb_mod, show ((56 : Int32)) = nI 56 from rfl, nj_wb_shr (Nat.mod_lt _ (by decide)) (by omega), lN_i, nj_top hn]
    unfold nj_on
    rw [nj_ct_bl]
  exact nm_r e1 (nm_r e2 (nm_r e3 (by rw [e4]; exact h)))
end
section
/-! the net of a state, and the small methods -/
def nj_N (fI fS : Int32) (a1 a2 : Nat → Int32) : nj_Net := (fun t p => decide (p < 6) && nj_bt (a1 t) p, fun t p => decide (p < 6) && nj_bt (a2 t) p, fun t => nj_bt fS t, fun p => decide (p < 6) && nj_bt fI p)
def nj_mb (m : Int32) : Nat → Bool := fun p => decide (p < 6) && nj_bt m p
def nj_S6 (x : Int32) : Prop := ∃ n, n < 64 ∧ x = nI n
theorem nj_g6 {p : Nat} {b : Bool} : (decide (p < 6) && b) = true ↔ p < 6 ∧ b = true := by rw [Bool.and_eq_true, decide_eq_true_iff]
theorem nj_S6_hi {x : Int32} (h : nj_S6 x) {i : Nat} (h6 : 6 ≤ i) : nj_bt x i = false := by
  rcases Nat.lt_or_ge i 32 with z | z
  · obtain ⟨n, hn, rfl⟩ := h
    rw [nj_bt_nI n z]
    exact Nat.testBit_lt_two_pow (Nat.lt_of_lt_of_le hn (Nat.pow_le_pow_right (n := 2) (by decide) h6))
  · exact nj_b_big z
theorem nj_S6_lt {x : Int32} (h : nj_S6 x) {i : Nat} (hi : nj_bt x i = true) : i < 6 := by
  rcases Nat.lt_or_ge i 6 with z | z
  · exact z
  · rw [nj_S6_hi h z] at hi
    exact absurd hi (by decide)
section
variable {fP fI fS fG fJ fU fC fE : Int32} {a1 a2 a3 a4 a11 a12 a13 a14 a16 a17 : Nat → Int32} {a5 a6 a7 a8 a9 a10 a15 a18 a19 a20 a21 : Nat → Int64}
theorem nj_has {post : Int32 → Prop} {t : Nat} (ht : t < 8) (h1 : nj_bt fS t = true → post 1) (h0 : nj_bt fS t = false → post 0) : wpX_has post (fP, fI, fS, fG, fJ, fU, fC, fE, a1, a2, a3, a4, a5, a6, a7, a8, a9, a10, a11, a12, a13, a14, a15, a16, a17, a18, a19, a20, a21) (nI t) := by
  refine br_f (nI_pos (by omega)) (br_f (nI_ge (b := 8) ht (by decide)) ?_)
  exact ek_if (nj_bit fS t (by omega)) h0 (fun h => h1 (nj_ts_nf h))
theorem nj_rdy_iff {t : Nat} {m : Int32} (s1 : nj_S6 (a1 t)) : (∀ i, i < 32 → nj_bt (a1 t) i = true → nj_bt m i = true) ↔ nj_rdy (nj_N fI fS a1 a2) t (nj_mb m) := by
  constructor
  · intro h p hp
    obtain ⟨p1, p2⟩ := nj_g6.mp hp
    exact nj_g6.mpr ⟨p1, h p (by omega) p2⟩
  · intro h i hi hb
    have := nj_S6_lt s1 hb
    exact (nj_g6.mp (h i (nj_g6.mpr ⟨this, hb⟩))).2
theorem nj_clr_iff {t : Nat} {m : Int32} (s2 : nj_S6 (a2 t)) : (((a2 t) &&& ((a1 t) ^^^ (-1))) &&& m) = 0 ↔ nj_clr (nj_N fI fS a1 a2) t (nj_mb m) := by
  rw [nj_0_iff]
  constructor
  · intro h p hp hq
    obtain ⟨p1, p2⟩ := nj_g6.mp hp
    have a := h p (by omega)
    have hq' : nj_bt (a1 t) p = false := by
      cases z : nj_bt (a1 t) p
      · rfl
      · have := nj_g6.mpr ⟨p1, z⟩
        exact absurd (this.symm.trans hq) (by decide)
    rw [nj_b_and, nj_b_and, nj_b_xor, nj_b_m1 p (by omega), p2, hq'] at a
    show (decide (p < 6) && nj_bt m p) = false
    rw [show nj_bt m p = false by simpa using a, Bool.and_false]
  · intro h i hi
    rw [nj_b_and, nj_b_and, nj_b_xor, nj_b_m1 i hi]
    cases z2 : nj_bt (a2 t) i
    · rfl
    · have i6 := nj_S6_lt s2 z2
      cases z1 : nj_bt (a1 t) i
      · have := h i (nj_g6.mpr ⟨i6, z2⟩) (by show (decide (i < 6) && nj_bt (a1 t) i) = false; rw [z1, Bool.and_false])
        have b : (decide (i < 6) && nj_bt m i) = false := this
        rw [decide_eq_true i6, Bool.true_and] at b
        rw [b]
        rfl
      · rfl
theorem nj_ready {post : Int32 → Prop} {t : Nat} {m : Int32} (ht : t < 8) (s1 : nj_S6 (a1 t)) (h1 : nj_rdy (nj_N fI fS a1 a2) t (nj_mb m) → post 1) (h0 : ¬ nj_rdy (nj_N fI fS a1 a2) t (nj_mb m) → post 0) : wpX_ready post (fP, fI, fS, fG, fJ, fU, fC, fE, a1, a2, a3, a4, a5, a6, a7, a8, a9, a10, a11, a12, a13, a14, a15, a16, a17, a18, a19, a20, a21) (nI t) m := by
  have e : (nI t).toNatClampNeg = t := nI_clamp (by omega)
  refine ⟨vp_in_nI ht (by decide), ?_⟩
  rw [e]
  exact ek_if ((nj_sub0 _ _).trans (nj_rdy_iff s1)) h1 h0
theorem nj_clear {post : Int32 → Prop} {t : Nat} {m : Int32} (ht : t < 8) (s1 : nj_S6 (a1 t)) (s2 : nj_S6 (a2 t)) (h1 : nj_rdy (nj_N fI fS a1 a2) t (nj_mb m) → nj_clr (nj_N fI fS a1 a2) t (nj_mb m) → post 1)
    (h0 : ¬ (nj_rdy (nj_N fI fS a1 a2) t (nj_mb m) ∧ nj_clr (nj_N fI fS a1 a2) t (nj_mb m)) → post 0) : wpX_clear post (fP, fI, fS, fG, fJ, fU, fC, fE, a1, a2, a3, a4, a5, a6, a7, a8, a9, a10, a11, a12, a13, a14, a15, a16, a17, a18, a19, a20, a21) (nI t) m := by
  have e : (nI t).toNatClampNeg = t := nI_clamp (by omega)
  unfold wpX_clear
  refine nj_ready ht s1 (fun hr => ?_) (fun hr => ?_)
  rotate_left 1
  · exact br_t rfl (h0 (fun z => hr z.1))
  refine br_f (by decide) ⟨vp_in_nI ht (by decide), vp_in_nI ht (by decide), ?_⟩
  rw [e]
  exact ek_if (nj_clr_iff s2) (fun hc => h1 hr hc) (fun hc => h0 (fun z => hc z.2))
def nj_w3 (a b c : Int64) (d : Nat) : Bool := if d < 64 then nj_bl a d else if d < 128 then nj_bl b (d - 64) else nj_bl c (d - 128)
theorem nj_inW {post : Int32 → Prop} {d : Nat} {x y z : Int64} (hd : d < 192) (h1 : nj_w3 x y z d = true → post 1) (h0 : nj_w3 x y z d = false → post 0) : wpX_inWords post () (nI d) x y z := by
  unfold nj_w3 at h1 h0
  refine pk_le 64 d (fun a => pk_le 128 d (fun b => ?_) (fun b => ?_)) (fun a => ?_)
  · rw [if_neg (by omega), if_neg (by omega)] at h1 h0
    have e := nj_wbit hd z
    rw [show d % 64 = d - 128 by omega] at e
    exact ek_if e h0 (fun h => h1 (nj_ts_nf h))
  · rw [if_neg (by omega), if_pos (by omega)] at h1 h0
    have e := nj_wbit hd y
    rw [show d % 64 = d - 64 by omega] at e
    exact ek_if e h0 (fun h => h1 (nj_ts_nf h))
  · rw [if_pos a] at h1 h0
    have e := nj_wbit hd x
    rw [show d % 64 = d by omega] at e
    exact ek_if e h0 (fun h => h1 (nj_ts_nf h))
/-! bytes of a long -/
def nj_sp (f : Nat → Bool) : Nat → Nat
  | 0 => 0
  | n + 1 => nj_sp f n + (if f n = true then 2 ^ (8 * n) else 0)
theorem nj_sp_lt (f : Nat → Bool) : ∀ n, nj_sp f n < 2 ^ (8 * n) := by
  intro n
  induction n with
  | zero => exact Nat.one_pos
  | succ n ih =>
    unfold nj_sp
    rw [show 8 * (n + 1) = 8 * n + 8 by omega, Nat.pow_add]
    by_cases e : f n = true
    · rw [if_pos e]; omega
    · rw [if_neg e]; omega
theorem nj_8i (i : Nat) : 8 * nI i = nI (8 * i) := pk_mul 8 i
theorem nj_spread {post : Int64 → Prop} {s : Int32} (h : post (lN (nj_sp (nj_bt s) 6))) : wpX_spread post () s :=
  pk_loop (σ := Int64) (fun n i x => wX_spread_4 post s n x (nI i)) (fun i x => x = lN (nj_sp (nj_bt s) i)) 6 0 0 (by omega) rfl
    (fun n x hx => pk_le 6 6 (fun _ => by rw [hx]; exact h) (fun z => absurd z (by omega)))
    (fun n i x hi hx hw => pk_le 6 i (fun z => absurd z (by omega)) (fun _ => ek_if (nj_bit s i (by omega))
      (fun hb => nm_r (nI_1 i) (hw _ (by
        rw [hx]
        show _ = lN (nj_sp (nj_bt s) i + (if nj_bt s i = true then 2 ^ (8 * i) else 0))
        rw [hb, if_neg (by decide)]
        rfl)))
      (fun hb => nm_e (nm_r (nI_1 i) (hw _ (by
        have l := nj_sp_lt (nj_bt s) i
        have l2 : 2 ^ (8 * i) < 2 ^ 64 := Nat.pow_lt_pow_right (by decide) (by omega)
        have e := nj_wb_shl 1 (k := 8 * i) (by omega)
        rw [Nat.one_mul] at e
        show x ||| ((1 : Int64) <<< ((8 * nI i).toInt64 &&& 63)) = lN (nj_sp (nj_bt s) i + (if nj_bt s i = true then 2 ^ (8 * i) else 0))
        rw [nj_8i, show (1 : Int64) = lN 1 from rfl, e, hx, nj_wb_or (by omega) l2, Nat.or_two_pow_eq_add_of_lt l, if_pos (nj_ts_nf hb)]))))))
theorem nj_effect {post : Int64 → Prop} {t : Nat} (ht : t < 8) (h : post (lN (nj_sp (nj_bt (a2 t)) 6) - lN (nj_sp (nj_bt (a1 t)) 6))) : wpX_effect post (fP, fI, fS, fG, fJ, fU, fC, fE, a1, a2, a3, a4, a5, a6, a7, a8, a9, a10, a11, a12, a13, a14, a15, a16, a17, a18, a19, a20, a21) (nI t) := by
  have e : (nI t).toNatClampNeg = t := nI_clamp (by omega)
  refine ⟨vp_in_nI ht (by decide), ?_⟩
  rw [e]
  exact nj_spread ⟨vp_in_nI ht (by decide), nj_spread h⟩
/-! the marking behind a past and one event more -/
def nj_ef (a1 a2 : Nat → Int32) (t : Nat) : Int := (nj_sp (nj_bt (a2 t)) 6 : Int) - (nj_sp (nj_bt (a1 t)) 6 : Int)
def nj_zz (fI : Int32) (a1 a2 : Nat → Int32) (K : Nat → Nat) : Int := (nj_sp (nj_bt fI) 6 : Int) + nj_is (fun v => (K v : Int) * nj_ef a1 a2 v) 8
def nj_by (x : Int64) (p : Nat) : Bool := decide (¬ ((x >>> ((8 * nI p).toInt64 &&& 63)) &&& 255) = 0)
def nj_mo (fI : Int32) (a1 a2 : Nat → Int32) (K : Nat → Nat) : Nat := nj_cd (nj_by (Int64.ofInt (nj_zz fI a1 a2 K))) 6
theorem nj_mo_lt (fI : Int32) (a1 a2 : Nat → Int32) (K : Nat → Nat) : nj_mo fI a1 a2 K < 64 := nj_cd_lt _ 6
theorem nj_mo_cg {fI : Int32} {a1 a2 : Nat → Int32} {K K' : Nat → Nat} (h : ∀ v, v < 8 → K v = K' v) : nj_mo fI a1 a2 K = nj_mo fI a1 a2 K' := by
  unfold nj_mo nj_zz
  rw [nj_is_cg (g := fun v => (K' v : Int) * nj_ef a1 a2 v) 8 (fun v hv => by show (K v : Int) * _ = (K' v : Int) * _; rw [h v hv])]
theorem nj_lN_ofInt (n : Nat) : lN n = Int64.ofInt (n : Int) := Int64.ofInt_eq_ofNat.symm
theorem nj_m66 {post : Int32 → Prop} {x : Int64} (h : post (nI (nj_cd (nj_by x) 6))) : ∃ n, wX_markingOf_66 post x fP fI fS fG fJ fU fC fE a1 a2 a3 a4 a5 a6 a7 a8 a9 a10 a11 a12 a13 a14 a15 a16 a17 a18 a19 a20 a21 n 0 0 :=
  pk_loop (σ := Int32) (fun n i r => wX_markingOf_66 post x fP fI fS fG fJ fU fC fE a1 a2 a3 a4 a5 a6 a7 a8 a9 a10 a11 a12 a13 a14 a15 a16 a17 a18 a19 a20 a21 n r (nI i)) (fun i r => r = nI (nj_cd (nj_by x) i)) 6 0 0 (by omega) rfl
    (fun n r hr => pk_le 6 6 (fun _ => by rw [hr]; exact h) (fun z => absurd z (by omega)))
    (fun n i r hi hr hw => pk_le 6 i (fun z => absurd z (by omega)) (fun _ => br_c
      (fun hb => nm_r (nI_1 i) (hw _ (by
        rw [hr]
        show _ = nI (nj_cd (nj_by x) i + (if nj_by x i = true then 2 ^ i else 0))
        have : nj_by x i = false := decide_eq_false (fun z => z hb)
        rw [this, if_neg (by decide)]
        rfl)))
      (fun hb => nm_e (nm_r (nI_1 i) (hw _ (by
        have l := nj_cd_lt (nj_by x) i
        have : nj_by x i = true := decide_eq_true hb
        show r ||| ((1 : Int32) <<< (nI i &&& 31)) = nI (nj_cd (nj_by x) i + (if nj_by x i = true then 2 ^ i else 0))
        rw [nj_shl1 i (by omega), hr, nj_nx_or, Nat.or_two_pow_eq_add_of_lt l, if_pos this]))))))
theorem nj_markingOf {post : Int32 → Prop} {past : Int64} {t : Nat} (ht : t < 8) (K : Nat → Nat) (hK : ∀ v, v < 8 → K v = nj_on (past &&& a9 v) + (if v = t then 1 else 0)) (h : post (nI (nj_mo fI a1 a2 K))) : wpX_markingOf post (fP, fI, fS, fG, fJ, fU, fC, fE, a1, a2, a3, a4, a5, a6, a7, a8, a9, a10, a11, a12, a13, a14, a15, a16, a17, a18, a19, a20, a21) past (nI t) := by
  refine nj_spread (nj_effect ht (nm_e ?_))
  refine pk_loop (σ := Int64) (fun n i x => wX_markingOf_18 post past fP fI fS fG fJ fU fC fE a1 a2 a3 a4 a5 a6 a7 a8 a9 a10 a11 a12 a13 a14 a15 a16 a17 a18 a19 a20 a21 n x (nI i)) (fun i x => x = Int64.ofInt ((nj_sp (nj_bt fI) 6 : Int) + nj_ef a1 a2 t + nj_is (fun v => (nj_on (past &&& a9 v) : Int) * nj_ef a1 a2 v) i)) 8 0 _ (by omega) ?_ ?_ ?_
  · show lN _ + (lN _ - lN _) = _
    unfold nj_is nj_ef
    rw [Int.add_zero, Int64.ofInt_add, Int64.ofInt_sub, nj_lN_ofInt, nj_lN_ofInt, nj_lN_ofInt]
  · intro n x hx
    refine pk_le 8 8 (fun _ => nj_m66 ?_) (fun z => absurd z (by omega))
    have e : (nj_sp (nj_bt fI) 6 : Int) + nj_ef a1 a2 t + nj_is (fun v => (nj_on (past &&& a9 v) : Int) * nj_ef a1 a2 v) 8 = nj_zz fI a1 a2 K := by
      unfold nj_zz
      rw [nj_is_add (f := fun v => (nj_on (past &&& a9 v) : Int) * nj_ef a1 a2 v) (g := fun v => (K v : Int) * nj_ef a1 a2 v) (t := t) (x := nj_ef a1 a2 t) 8 (by
        intro v hv hn
        show (K v : Int) * _ = (nj_on (past &&& a9 v) : Int) * _
        rw [hK v hv, if_neg hn, Nat.add_zero]) (by
        show (K t : Int) * _ = (nj_on (past &&& a9 t) : Int) * _ + _
        rw [hK t ht, if_pos rfl, Int.natCast_add, Int.add_mul]
        simp), if_pos ht]
      omega
    rw [e] at hx
    rw [hx]
    exact h
  · intro n i x hi hx hw
    have ec : (nI i).toNatClampNeg = i := nI_clamp (by omega)
    refine pk_le 8 i (fun z => absurd z (by omega)) (fun _ => ⟨vp_in_nI hi (by decide), ?_⟩)
    rw [ec]
    refine nj_ones (nj_effect hi (nm_e (nm_r (nI_1 i) (hw _ ?_))))
    have o := nj_on_le (past &&& a9 i)
    show x + (lN _ - lN _) * (nI _).toInt64 = _
    rw [hx, nI_l (by omega)]
    show _ = Int64.ofInt (_ + (nj_is _ i + _))
    rw [← Int.add_assoc, Int64.ofInt_add (_ + _) (_ * _), Int64.ofInt_mul]
    unfold nj_ef
    rw [Int64.ofInt_sub, nj_lN_ofInt, nj_lN_ofInt, nj_lN_ofInt, Int64.mul_comm]
end
end
section
/-! what the marking's number says -/
theorem nj_cd_tb {m : Nat → Bool} : ∀ n p, p < n → (nj_cd m n).testBit p = m p := by
  intro n
  induction n with
  | zero => intro p hp; omega
  | succ n ih =>
    intro p hp
    have l := nj_cd_lt m n
    have e : nj_cd m (n + 1) = 2 ^ n * (if m n = true then 1 else 0) + nj_cd m n := by
      unfold nj_cd
      by_cases z : m n = true
      · rw [if_pos z, if_pos z]
        cases n <;> simp [nj_cd, Nat.add_comm]
      · rw [if_neg z, if_neg z]
        cases n <;> simp [nj_cd]
    rw [e, Nat.testBit_two_pow_mul_add _ l]
    by_cases z : p < n
    · rw [if_pos z, ih p z]
    · rw [if_neg z]
      have : p = n := by omega
      subst this
      rw [Nat.sub_self]
      cases z : m p
      · rfl
      · rfl
theorem nj_cd_cg {m m' : Nat → Bool} : ∀ n, (∀ p, p < n → m p = m' p) → nj_cd m n = nj_cd m' n := by
  intro n
  induction n with
  | zero => exact fun _ => rfl
  | succ n ih =>
    intro h
    unfold nj_cd
    rw [ih (fun p hp => h p (by omega)), h n (by omega)]
theorem nj_sp_cg {m m' : Nat → Bool} : ∀ n, (∀ p, p < n → m p = m' p) → nj_sp m n = nj_sp m' n := by
  intro n
  induction n with
  | zero => exact fun _ => rfl
  | succ n ih =>
    intro h
    unfold nj_sp
    rw [ih (fun p hp => h p (by omega)), h n (by omega)]
theorem nj_by_tab : ∀ c, c < 64 → ∀ p, p < 6 → nj_by (lN (nj_sp (fun i => c.testBit i) 6)) p = c.testBit p := by decide +kernel
theorem nj_sp_is {f : Nat → Bool} : ∀ n, (nj_sp f n : Int) = nj_is (fun p => (2 : Int) ^ (8 * p) * nj_bi (f p)) n := by
  intro n
  induction n with
  | zero => rfl
  | succ n ih =>
    unfold nj_sp nj_is
    rw [← ih]
    unfold nj_bi
    by_cases z : f n = true
    · rw [if_pos z, if_pos z, Int.mul_one, Int.natCast_add, Int.natCast_pow]
      rfl
    · rw [if_neg z, if_neg z, Int.mul_zero, Nat.add_zero, Int.add_zero]
theorem nj_is_lin {w c d : Nat → Int} {k : Int} : ∀ n, nj_is (fun p => w p * (c p + k * d p)) n = nj_is (fun p => w p * c p) n + k * nj_is (fun p => w p * d p) n := by
  intro n
  induction n with
  | zero => show (0 : Int) = 0 + k * 0; omega
  | succ n ih =>
    unfold nj_is
    rw [ih, Int.mul_add, Int.mul_add, Int.mul_left_comm]
    omega
theorem nj_zz_cn {fI fS : Int32} {a1 a2 : Nat → Int32} {K : Nat → Nat} : nj_zz fI a1 a2 K = nj_is (fun p => (2 : Int) ^ (8 * p) * nj_cn (nj_N fI fS a1 a2) K p) 6 := by
  have D : ∀ (b : Bool) (p : Nat), p < 6 → nj_bi (decide (p < 6) && b) = nj_bi b := by
    intro b p hp
    rw [decide_eq_true hp, Bool.true_and]
  have E : ∀ v, nj_is (fun p => (2 : Int) ^ (8 * p) * (nj_bi ((nj_N fI fS a1 a2).2.1 v p) - nj_bi ((nj_N fI fS a1 a2).1 v p))) 6 = nj_ef a1 a2 v := by
    intro v
    rw [nj_is_cg (g := fun p => (2 : Int) ^ (8 * p) * (nj_bi (nj_bt (a2 v) p) + (-1) * nj_bi (nj_bt (a1 v) p))) 6 (fun p hp => by
      show (2 : Int) ^ (8 * p) * (nj_bi (decide (p < 6) && nj_bt (a2 v) p) - nj_bi (decide (p < 6) && nj_bt (a1 v) p)) = (2 : Int) ^ (8 * p) * _
      rw [D _ p hp, D _ p hp]
      congr 1
      omega), nj_is_lin, ← nj_sp_is, ← nj_sp_is]
    unfold nj_ef
    omega
  have main : ∀ n, (nj_sp (nj_bt fI) 6 : Int) + nj_is (fun v => (K v : Int) * nj_ef a1 a2 v) n = nj_is (fun p => (2 : Int) ^ (8 * p) * (nj_bi ((nj_N fI fS a1 a2).2.2.2 p) + nj_is (fun v => (K v : Int) * (nj_bi ((nj_N fI fS a1 a2).2.1 v p) - nj_bi ((nj_N fI fS a1 a2).1 v p))) n)) 6 := by
    intro n
    induction n with
    | zero =>
      rw [nj_sp_is]
      show _ + (0 : Int) = _
      rw [Int.add_zero]
      refine nj_is_cg 6 (fun p hp => ?_)
      show (2 : Int) ^ (8 * p) * nj_bi (nj_bt fI p) = (2 : Int) ^ (8 * p) * (nj_bi (decide (p < 6) && nj_bt fI p) + 0)
      rw [D _ p hp, Int.add_zero]
    | succ n ih =>
      have e := nj_is_lin (w := fun p => (2 : Int) ^ (8 * p)) (c := fun p => nj_bi ((nj_N fI fS a1 a2).2.2.2 p) + nj_is (fun v => (K v : Int) * (nj_bi ((nj_N fI fS a1 a2).2.1 v p) - nj_bi ((nj_N fI fS a1 a2).1 v p))) n) (d := fun p => nj_bi ((nj_N fI fS a1 a2).2.1 n p) - nj_bi ((nj_N fI fS a1 a2).1 n p)) (k := (K n : Int)) 6
      rw [E n, ← ih] at e
      have l : nj_is (fun v => (K v : Int) * nj_ef a1 a2 v) (n + 1) = nj_is (fun v => (K v : Int) * nj_ef a1 a2 v) n + (K n : Int) * nj_ef a1 a2 n := rfl
      rw [l, ← Int.add_assoc, ← e]
      refine nj_is_cg 6 (fun p hp => ?_)
      show (2 : Int) ^ (8 * p) * ((_ + _) + _) = (2 : Int) ^ (8 * p) * (_ + (_ + _))
      rw [Int.add_assoc]
  exact main 8
/-- counts that are 0 or 1 are the marking -/
theorem nj_hmo {fI fS : Int32} {a1 a2 : Nat → Int32} (K : Nat → Nat) (m : Nat → Bool) (h : ∀ p, p < 6 → nj_cn (nj_N fI fS a1 a2) K p = nj_bi (m p)) : nj_mo fI a1 a2 K = nj_cd m 6 := by
  have e : nj_zz fI a1 a2 K = (nj_sp m 6 : Int) := by
    rw [nj_zz_cn (fS := fS), nj_sp_is]
    exact nj_is_cg 6 (fun p hp => by show (2 : Int) ^ (8 * p) * _ = (2 : Int) ^ (8 * p) * _; rw [h p hp])
  unfold nj_mo
  rw [e, ← nj_lN_ofInt]
  refine nj_cd_cg 6 (fun p hp => ?_)
  have t := nj_by_tab (nj_cd m 6) (nj_cd_lt m 6) p hp
  rw [nj_cd_tb 6 p hp, nj_sp_cg (m' := m) 6 (fun i hi => nj_cd_tb 6 i hi)] at t
  exact t
/-! the order of events -/
/-- events by transition and by depth, as the words hold them -/
def nj_L (a9 a10 : Nat → Int64) (ne : Nat) (T D : Nat → Nat) : Prop :=
  (∀ v, v < 8 → ∀ f, nj_bl (a9 v) f = true ↔ f < ne ∧ T f = v) ∧ (∀ d, d < 66 → ∀ f, nj_bl (a10 d) f = true ↔ f < ne ∧ D f = d) ∧ (∀ f, f < ne → 0 < D f ∧ D f ≤ 64) ∧ ne ≤ 64
theorem nj_dj_uq {D : Nat → Nat} {H : Nat → Bool} {i j : Nat} (hi : nj_dj D H i) (hj : nj_dj D H j) : i = j := by
  obtain ⟨i1, i2, i3⟩ := hi
  obtain ⟨j1, j2, j3⟩ := hj
  have a : i ≤ j := by
    rcases i3 with i3 | ⟨f, f1, f2⟩
    · omega
    · have := j2 f f1; omega
  have b : j ≤ i := by
    rcases j3 with j3 | ⟨f, f1, f2⟩
    · omega
    · have := i2 f f1; omega
  omega
theorem nj_on_lo {a9 a10 : Nat → Int64} {ne : Nat} {T D : Nat → Nat} (hL : nj_L a9 a10 ne T D) {h : Int64} (hp : ∀ f, nj_bl h f = true → f < ne) {v : Nat} (hv : v < 8) : nj_on (h &&& a9 v) = nj_ke T D (nj_bl h) v := by
  refine nj_ct_cg 64 (fun f _ => ?_)
  show nj_bl (h &&& a9 v) f = (nj_bl h f && nj_q T D v f)
  rw [nj_bl_and]
  cases z : nj_bl h f
  · rfl
  · rw [Bool.true_and, Bool.true_and, Bool.eq_iff_iff, hL.1 v hv f]
    unfold nj_q
    rw [if_pos hv, decide_eq_true_iff]
    exact ⟨fun a => a.2, fun a => ⟨hp f z, a⟩⟩
theorem nj_on_hi {a9 a10 : Nat → Int64} {ne : Nat} {T D : Nat → Nat} (hL : nj_L a9 a10 ne T D) {h : Int64} (hp : ∀ f, nj_bl h f = true → f < ne) {v d : Nat} (hv : v < 8) (h0 : 0 < d) (hd : d < 66) : nj_on (h &&& (a10 d &&& a9 v)) = nj_ke T D (nj_bl h) (8 * d + v) := by
  refine nj_ct_cg 64 (fun f _ => ?_)
  show nj_bl (h &&& (a10 d &&& a9 v)) f = (nj_bl h f && nj_q T D (8 * d + v) f)
  rw [nj_bl_and, nj_bl_and]
  cases z : nj_bl h f
  · rfl
  · rw [Bool.true_and, Bool.true_and, Bool.eq_iff_iff, Bool.and_eq_true, hL.1 v hv f, hL.2.1 d hd f]
    unfold nj_q
    rw [if_neg (by omega), decide_eq_true_iff]
    exact ⟨fun a => ⟨by omega, by omega⟩, fun a => ⟨⟨hp f z, by omega⟩, hp f z, by omega⟩⟩
theorem nj_ke_le {T D : Nat → Nat} {E : Nat → Bool} {x : Nat} : nj_ke T D E x ≤ 64 := nj_ct_ub _ 64
section
variable {fP fI fS fG fJ fU fC fE : Int32} {a1 a2 a3 a4 a11 a12 a13 a14 a16 a17 : Nat → Int32} {a5 a6 a7 a8 a9 a10 a15 a18 a19 a20 a21 : Nat → Int64}
theorem nj_depth {post : Int32 → Prop} {past : Int64} {ne : Nat} {T D : Nat → Nat} (hL : nj_L a9 a10 ne T D) (hp : ∀ f, nj_bl past f = true → f < ne) (h : ∀ j, j ≤ 65 → nj_dj D (nj_bl past) j → post (nI j)) : wpX_depthAfter post (fP, fI, fS, fG, fJ, fU, fC, fE, a1, a2, a3, a4, a5, a6, a7, a8, a9, a10, a11, a12, a13, a14, a15, a16, a17, a18, a19, a20, a21) past := by
  refine pk_loop (σ := Int32) (fun n i s => wX_depthAfter_5 post past fP fI fS fG fJ fU fC fE a1 a2 a3 a4 a5 a6 a7 a8 a9 a10 a11 a12 a13 a14 a15 a16 a17 a18 a19 a20 a21 n s (nI i)) (fun i s => ∃ x, s = nI x ∧ 0 < x ∧ x ≤ i ∧ (∀ f, nj_bl past f = true → D f < i → D f < x) ∧ (x = 1 ∨ ∃ f, nj_bl past f = true ∧ x = D f + 1)) 65 1 1 (by omega) ⟨1, rfl, by omega, by omega, fun f _ z => z, Or.inl rfl⟩ ?_ ?_
  · intro n s ⟨x, e, x0, x1, x2, x3⟩
    refine pk_le 65 65 (fun _ => ?_) (fun z => absurd z (by omega))
    rw [e]
    exact h x x1 ⟨x0, fun f hf => x2 f hf (by have := (hL.2.2.1 f (hp f hf)).2; omega), x3⟩
  · intro n i s hi ⟨x, e, x0, x1, x2, x3⟩ hw
    have ec : (nI i).toNatClampNeg = i := nI_clamp (by omega)
    refine pk_le 65 i (fun z => absurd z (by omega)) (fun _ => ⟨vp_in_nI (by omega) (by decide), ?_⟩)
    rw [ec]
    have key : ∀ f, nj_bl ((a10 i) &&& past) f = true ↔ D f = i ∧ nj_bl past f = true := by
      intro f
      rw [nj_bl_and, Bool.and_eq_true, hL.2.1 i (by omega) f]
      exact ⟨fun a => ⟨a.1.2, a.2⟩, fun a => ⟨⟨hp f a.2, a.1⟩, a.2⟩⟩
    refine br_c (fun hz => nm_r (nI_1 i) (hw _ ⟨x, e, x0, by omega, fun f hf hd => ?_, x3⟩)) (fun hz => nm_r (nI_1 i) (nm_r (nI_1 i) (hw _ ⟨i + 1, rfl, by omega, by omega, fun f _ z => z, Or.inr ?_⟩)))
    · by_cases g : D f = i
      · have a := (key f).mpr ⟨g, hf⟩
        rw [hz, nj_bl_0] at a
        exact absurd a (by decide)
      · exact x2 f hf (by omega)
    · apply Classical.byContradiction
      intro g
      refine hz ((nj_l0_iff _).mpr (fun f _ => ?_))
      cases z : nj_bl ((a10 i) &&& past) f
      · rfl
      · obtain ⟨b1, b2⟩ := (key f).mp z
        exact absurd ⟨f, b2, by omega⟩ g
theorem nj_sh107 {post J18 J28 : Int32 → Prop} {h k : Int64} {x3 x6 x7 x8 x9 z0 z1 : Int32} {i k1 k2 : Nat} (b1 : k1 ≤ 1000) (b2 : k2 ≤ 1000) (hx : z1 + z0 = nI k2) (HJ : k1 = k2 → J28 (nI (i + 1))) (P1 : k2 < k1 → post 1) (P0 : k1 < k2 → post 0) :
    wX_shallower_107 post J18 J28 h x3 k x6 x7 x8 x9 (nI i) (nI k1) z0 z1 fP fI fS fG fJ fU fC fE a1 a2 a3 a4 a5 a6 a7 a8 a9 a10 a11 a12 a13 a14 a15 a16 a17 a18 a19 a20 a21 :=
  nm_r hx (pk_eq k1 k2 (fun e => nm_r (nI_1 i) (HJ e)) (fun ne => pk_le k1 k2 (fun l => P0 (by omega)) (fun l => P1 l)))
theorem nj_sh77 {post J18 J28 : Int32 → Prop} {h k lv : Int64} {x3 x7 z0 z1 : Int32} {u j2 d i k1 k2 : Nat} (hi : i < 8) (hu : u < 8) (hd : d < 66) (hj : j2 ≤ 65) (b1 : k1 ≤ 1000) (b2 : k2 ≤ 1000) (hx : z1 + z0 = nI k1) (h2 : k2 = nj_on (k &&& lv) + (if i = u ∧ d = j2 then 1 else 0))
    (HJ : k1 = k2 → J28 (nI (i + 1))) (P1 : k2 < k1 → post 1) (P0 : k1 < k2 → post 0) :
    wX_shallower_77 post J18 J28 h x3 k (nI u) x7 (nI j2) (nI d) (nI i) lv z0 z1 fP fI fS fG fJ fU fC fE a1 a2 a3 a4 a5 a6 a7 a8 a9 a10 a11 a12 a13 a14 a15 a16 a17 a18 a19 a20 a21 := by
  refine nm_r hx (nj_ones ?_)
  have o := nj_on_le (k &&& lv)
  refine pk_eq i u (fun e => pk_eq d j2 (fun e2 => ?_) (fun e2 => ?_)) (fun e => ?_)
  · rw [if_pos ⟨e, e2⟩] at h2
    exact nj_sh107 b1 b2 (by rw [h2]; exact nI_1 _) HJ P1 P0
  · rw [if_neg (fun z => e2 z.2)] at h2
    exact nj_sh107 b1 b2 (by rw [h2]; exact nI_add _ 0) HJ P1 P0
  · rw [if_neg (fun z => e z.1)] at h2
    exact nj_sh107 b1 b2 (by rw [h2]; exact nI_add _ 0) HJ P1 P0
theorem nj_K_hi {T D : Nat → Nat} {H : Nat → Bool} {t j d v : Nat} (hv : v < 8) (ht : t < 8) (hd : 0 < d) : nj_K T D H t j (8 * d + v) = nj_ke T D H (8 * d + v) + (if v = t ∧ d = j then 1 else 0) := by
  unfold nj_K
  rw [if_neg (show ¬ 8 * d + v = t by omega), Nat.add_zero]
  by_cases e : v = t ∧ d = j
  · rw [if_pos e, if_pos (by omega)]
  · rw [if_neg e, if_neg (by omega)]
theorem nj_K_lo {T D : Nat → Nat} {H : Nat → Bool} {t j v : Nat} (hv : v < 8) (hj : 0 < j) : nj_K T D H t j v = nj_ke T D H v + (if v = t then 1 else 0) := by
  unfold nj_K
  rw [if_neg (show ¬ v = 8 * j + t by omega), Nat.add_zero]
theorem nj_K_le {T D : Nat → Nat} {H : Nat → Bool} {t j x : Nat} : nj_K T D H t j x ≤ 66 := by
  have := nj_ke_le (T := T) (D := D) (E := H) (x := x)
  unfold nj_K
  by_cases e : x = t
  · rw [if_pos e]
    by_cases f : x = 8 * j + t
    · rw [if_pos f]; omega
    · rw [if_neg f]; omega
  · rw [if_neg e]
    by_cases f : x = 8 * j + t
    · rw [if_pos f]; omega
    · rw [if_neg f]; omega
theorem nj_pl_as {f g : Nat → Nat} (h : nj_pl f g) : ¬ nj_pl g f := fun z => nj_pl_ir f (nj_pl_tr h z)
theorem nj_sh28 {post J : Int32 → Prop} {h k : Int64} {ne : Nat} {T D : Nat → Nat} {t u j1 j2 d : Nat} (hL : nj_L a9 a10 ne T D) (hph : ∀ f, nj_bl h f = true → f < ne) (hpk : ∀ f, nj_bl k f = true → f < ne) (ht : t < 8) (hu : u < 8) (hj1 : j1 ≤ 65) (hj2 : j2 ≤ 65) (h0 : 0 < d) (hd : d < 66)
    (HL : ∀ y, y < 8 * d → nj_K T D (nj_bl h) t j1 y = nj_K T D (nj_bl k) u j2 y) (P1 : nj_pl (nj_K T D (nj_bl h) t j1) (nj_K T D (nj_bl k) u j2) → post 1) (P0 : ¬ nj_pl (nj_K T D (nj_bl h) t j1) (nj_K T D (nj_bl k) u j2) → post 0)
    (HJ : (∀ y, y < 8 * (d + 1) → nj_K T D (nj_bl h) t j1 y = nj_K T D (nj_bl k) u j2 y) → J (nI (d + 1))) : ∃ n, wX_shallower_28 post J h (nI t) k (nI u) (nI j1) (nI j2) (nI d) fP fI fS fG fJ fU fC fE a1 a2 a3 a4 a5 a6 a7 a8 a9 a10 a11 a12 a13 a14 a15 a16 a17 a18 a19 a20 a21 n 0 := by
  refine pk_loop (σ := Unit) (fun n i _ => wX_shallower_28 post J h (nI t) k (nI u) (nI j1) (nI j2) (nI d) fP fI fS fG fJ fU fC fE a1 a2 a3 a4 a5 a6 a7 a8 a9 a10 a11 a12 a13 a14 a15 a16 a17 a18 a19 a20 a21 n (nI i)) (fun i _ => ∀ y, y < 8 * d + i → nj_K T D (nj_bl h) t j1 y = nj_K T D (nj_bl k) u j2 y) 8 0 () (by omega) (fun y hy => HL y (by omega)) ?_ ?_
  · intro n _ I
    exact pk_le 8 8 (fun _ => nm_r (nI_1 d) (HJ (fun y hy => I y (by omega)))) (fun z => absurd z (by omega))
  · intro n i _ hi I hw
    have ei : (nI i).toNatClampNeg = i := nI_clamp (by omega)
    have ed : (nI d).toNatClampNeg = d := nI_clamp (by omega)
    refine pk_le 8 i (fun z => absurd z (by omega)) (fun _ => ⟨vp_in_nI hd (by decide), vp_in_nI hi (by decide), nm_e ?_⟩)
    rw [ei, ed]
    refine nj_ones ?_
    have e1 := nj_on_hi hL hph hi h0 hd
    have e2 := nj_on_hi hL hpk hi h0 hd
    have k1 := nj_K_hi (T := T) (D := D) (H := nj_bl h) (t := t) (j := j1) hi ht h0
    have k2 := nj_K_hi (T := T) (D := D) (H := nj_bl k) (t := u) (j := j2) hi hu h0
    rw [← e1] at k1
    rw [← e2] at k2
    have l1 := nj_K_le (T := T) (D := D) (H := nj_bl h) (t := t) (j := j1) (x := 8 * d + i)
    have l2 := nj_K_le (T := T) (D := D) (H := nj_bl k) (t := u) (j := j2) (x := 8 * d + i)
    have G : ∀ z0, nI (nj_on (h &&& (a10 d &&& a9 i))) + z0 = nI (nj_K T D (nj_bl h) t j1 (8 * d + i)) → wX_shallower_77 post J (wX_shallower_28 post J h (nI t) k (nI u) (nI j1) (nI j2) (nI d) fP fI fS fG fJ fU fC fE a1 a2 a3 a4 a5 a6 a7 a8 a9 a10 a11 a12 a13 a14 a15 a16 a17 a18 a19 a20 a21 n) h (nI t) k (nI u) (nI j1) (nI j2) (nI d) (nI i) (a10 d &&& a9 i) z0 (nI (nj_on (h &&& (a10 d &&& a9 i)))) fP fI fS fG fJ fU fC fE a1 a2 a3 a4 a5 a6 a7 a8 a9 a10 a11 a12 a13 a14 a15 a16 a17 a18 a19 a20 a21 := by
      intro z0 hz
      refine nj_sh77 hi hu hd hj2 (by omega) (by omega) hz k2 (fun e => hw () (fun y hy => ?_)) (fun l => P1 ⟨_, I, l⟩) (fun l => P0 (nj_pl_as ⟨_, fun y hy => (I y hy).symm, l⟩))
      by_cases z : y = 8 * d + i
      · rw [z]; exact e
      · exact I y (by omega)
    refine pk_eq i t (fun e => pk_eq d j1 (fun e2 => ?_) (fun e2 => ?_)) (fun e => ?_)
    · rw [if_pos ⟨e, e2⟩] at k1
      exact G _ (by rw [k1]; exact nI_1 _)
    · rw [if_neg (fun z => e2 z.2)] at k1
      exact G _ (by rw [k1]; exact nI_add _ 0)
    · rw [if_neg (fun z => e z.1)] at k1
      exact G _ (by rw [k1]; exact nI_add _ 0)
theorem nj_shallower {post : Int32 → Prop} {h k : Int64} {ne : Nat} {T D : Nat → Nat} {t u j1 j2 : Nat} (hL : nj_L a9 a10 ne T D) (hph : ∀ f, nj_bl h f = true → f < ne) (hpk : ∀ f, nj_bl k f = true → f < ne) (ht : t < 8) (hu : u < 8) (hj1 : nj_dj D (nj_bl h) j1) (hj2 : nj_dj D (nj_bl k) j2)
    (HL : ∀ y, y < 8 → nj_K T D (nj_bl h) t j1 y = nj_K T D (nj_bl k) u j2 y) (P1 : nj_pl (nj_K T D (nj_bl h) t j1) (nj_K T D (nj_bl k) u j2) → post 1) (P0 : ¬ nj_pl (nj_K T D (nj_bl h) t j1) (nj_K T D (nj_bl k) u j2) → post 0) : wpX_shallower post (fP, fI, fS, fG, fJ, fU, fC, fE, a1, a2, a3, a4, a5, a6, a7, a8, a9, a10, a11, a12, a13, a14, a15, a16, a17, a18, a19, a20, a21) h (nI t) k (nI u) := by
  unfold wpX_shallower
  refine nj_depth hL hph (fun j l1 d1 => nj_depth hL hpk (fun j' l2 d2 => ?_))
  have e1 := nj_dj_uq d1 hj1
  have e2 := nj_dj_uq d2 hj2
  subst e1
  subst e2
  refine pk_loop (σ := Unit) (fun n i _ => wX_shallower_18 post h (nI t) k (nI u) (nI j) (nI j') fP fI fS fG fJ fU fC fE a1 a2 a3 a4 a5 a6 a7 a8 a9 a10 a11 a12 a13 a14 a15 a16 a17 a18 a19 a20 a21 n (nI i)) (fun i _ => 0 < i ∧ ∀ y, y < 8 * i → nj_K T D (nj_bl h) t j y = nj_K T D (nj_bl k) u j' y) 66 1 () (by omega) ⟨by omega, HL⟩ ?_ ?_
  · intro n _ ⟨_, I⟩
    refine pk_le 66 66 (fun _ => P0 (fun ⟨x, x1, x2⟩ => ?_)) (fun z => absurd z (by omega))
    rcases Nat.lt_or_ge x (8 * 66) with z | z
    · have := I x z
      omega
    · rw [nj_K_big ht d1 (by omega), nj_K_big hu d2 (by omega)] at x2
      omega
  · intro n i _ hi ⟨i0, I⟩ hw
    exact pk_le 66 i (fun z => absurd z (by omega)) (fun _ => nj_sh28 hL hph hpk ht hu l1 l2 i0 hi I P1 P0 (fun H => hw () ⟨by omega, H⟩))
/-- one event goes before another -/
def nj_Lt (s1 : Nat) (K1 : Nat → Nat) (s2 : Nat) (K2 : Nat → Nat) : Prop := s1 < s2 ∨ (s1 = s2 ∧ nj_pl K1 K2)
theorem nj_Lt_tr {s1 s2 s3 : Nat} {K1 K2 K3 : Nat → Nat} (a : nj_Lt s1 K1 s2 K2) (b : nj_Lt s2 K2 s3 K3) : nj_Lt s1 K1 s3 K3 := by
  rcases a with a | ⟨a, a'⟩
  · rcases b with b | ⟨b, _⟩
    · exact Or.inl (by omega)
    · exact Or.inl (by omega)
  · rcases b with b | ⟨b, b'⟩
    · exact Or.inl (by omega)
    · exact Or.inr ⟨by omega, nj_pl_tr a' b'⟩
theorem nj_bf94 {post J : Int32 → Prop} {h k : Int64} {x3 x6 z0 z1 : Int32} {i k1 k2 : Nat} (b1 : k1 ≤ 1000) (b2 : k2 ≤ 1000) (hx : z1 + z0 = nI k2) (HJ : k1 = k2 → J (nI (i + 1))) (P1 : k2 < k1 → post 1) (P0 : k1 < k2 → post 0) :
    wX_before_94 post J h x3 k x6 (nI i) (nI k1) z0 z1 fP fI fS fG fJ fU fC fE a1 a2 a3 a4 a5 a6 a7 a8 a9 a10 a11 a12 a13 a14 a15 a16 a17 a18 a19 a20 a21 :=
  nm_r hx (pk_eq k1 k2 (fun e => nm_r (nI_1 i) (HJ e)) (fun ne => pk_le k1 k2 (fun l => P0 (by omega)) (fun l => P1 l)))
theorem nj_bf66 {post J : Int32 → Prop} {h k : Int64} {x3 z0 z1 : Int32} {u i k1 k2 : Nat} (hi : i < 8) (hu : u < 8) (b1 : k1 ≤ 1000) (b2 : k2 ≤ 1000) (hx : z1 + z0 = nI k1) (h2 : k2 = nj_on (k &&& a9 i) + (if i = u then 1 else 0))
    (HJ : k1 = k2 → J (nI (i + 1))) (P1 : k2 < k1 → post 1) (P0 : k1 < k2 → post 0) : wX_before_66 post J h x3 k (nI u) (nI i) z0 z1 fP fI fS fG fJ fU fC fE a1 a2 a3 a4 a5 a6 a7 a8 a9 a10 a11 a12 a13 a14 a15 a16 a17 a18 a19 a20 a21 := by
  have ei : (nI i).toNatClampNeg = i := nI_clamp (by omega)
  refine nm_r hx ⟨vp_in_nI hi (by decide), ?_⟩
  rw [ei]
  refine nj_ones (pk_eq i u (fun e => ?_) (fun e => ?_))
  · rw [if_pos e] at h2
    exact nj_bf94 b1 b2 (by rw [h2]; exact nI_1 _) HJ P1 P0
  · rw [if_neg e] at h2
    exact nj_bf94 b1 b2 (by rw [h2]; exact nI_add _ 0) HJ P1 P0
theorem nj_before {post : Int32 → Prop} {h k : Int64} {ne : Nat} {T D : Nat → Nat} {t u j1 j2 : Nat} (hL : nj_L a9 a10 ne T D) (hph : ∀ f, nj_bl h f = true → f < ne) (hpk : ∀ f, nj_bl k f = true → f < ne) (ht : t < 8) (hu : u < 8) (hj1 : nj_dj D (nj_bl h) j1) (hj2 : nj_dj D (nj_bl k) j2)
    (P1 : nj_Lt (nj_on h) (nj_K T D (nj_bl h) t j1) (nj_on k) (nj_K T D (nj_bl k) u j2) → post 1) (P0 : ¬ nj_Lt (nj_on h) (nj_K T D (nj_bl h) t j1) (nj_on k) (nj_K T D (nj_bl k) u j2) → post 0) : wpX_before post (fP, fI, fS, fG, fJ, fU, fC, fE, a1, a2, a3, a4, a5, a6, a7, a8, a9, a10, a11, a12, a13, a14, a15, a16, a17, a18, a19, a20, a21) h (nI t) k (nI u) := by
  have o1 := nj_on_le h
  have o2 := nj_on_le k
  unfold wpX_before
  refine nj_ones ?_
  refine nj_ones ?_
  refine pk_eq (nj_on h) (nj_on k) (fun e => ?_) (fun e => pk_le (nj_on k) (nj_on h) (fun l => P0 (fun z => ?_)) (fun l => P1 (Or.inl l)))
  rotate_left 1
  · rcases z with z | z
    · omega
    · exact e z.1
  have Q1 : nj_pl (nj_K T D (nj_bl h) t j1) (nj_K T D (nj_bl k) u j2) → post 1 := fun z => P1 (Or.inr ⟨e, z⟩)
  have Q0 : ¬ nj_pl (nj_K T D (nj_bl h) t j1) (nj_K T D (nj_bl k) u j2) → post 0 := fun z => P0 (fun y => by
    rcases y with y | y
    · omega
    · exact z y.2)
  refine pk_loop (σ := Unit) (fun n i _ => wX_before_36 post h (nI t) k (nI u) fP fI fS fG fJ fU fC fE a1 a2 a3 a4 a5 a6 a7 a8 a9 a10 a11 a12 a13 a14 a15 a16 a17 a18 a19 a20 a21 n (nI i)) (fun i _ => ∀ y, y < i → nj_K T D (nj_bl h) t j1 y = nj_K T D (nj_bl k) u j2 y) 8 0 () (by omega) (fun y hy => absurd hy (by omega)) ?_ ?_
  · intro n _ I
    exact pk_le 8 8 (fun _ => nj_shallower hL hph hpk ht hu hj1 hj2 I (fun z => ⟨rfl, Q1 z⟩) (fun z => ⟨rfl, Q0 z⟩)) (fun z => absurd z (by omega))
  · intro n i _ hi I hw
    have ei : (nI i).toNatClampNeg = i := nI_clamp (by omega)
    refine pk_le 8 i (fun z => absurd z (by omega)) (fun _ => ⟨vp_in_nI hi (by decide), ?_⟩)
    rw [ei]
    refine nj_ones ?_
    have k1 := nj_K_lo (T := T) (D := D) (H := nj_bl h) (t := t) (j := j1) hi hj1.1
    have k2 := nj_K_lo (T := T) (D := D) (H := nj_bl k) (t := u) (j := j2) hi hj2.1
    rw [← nj_on_lo hL hph hi] at k1
    rw [← nj_on_lo hL hpk hi] at k2
    have l1 := nj_K_le (T := T) (D := D) (H := nj_bl h) (t := t) (j := j1) (x := i)
    have l2 := nj_K_le (T := T) (D := D) (H := nj_bl k) (t := u) (j := j2) (x := i)
    have G : ∀ z0, nI (nj_on (h &&& a9 i)) + z0 = nI (nj_K T D (nj_bl h) t j1 i) → wX_before_66 post (wX_before_36 post h (nI t) k (nI u) fP fI fS fG fJ fU fC fE a1 a2 a3 a4 a5 a6 a7 a8 a9 a10 a11 a12 a13 a14 a15 a16 a17 a18 a19 a20 a21 n) h (nI t) k (nI u) (nI i) z0 (nI (nj_on (h &&& a9 i))) fP fI fS fG fJ fU fC fE a1 a2 a3 a4 a5 a6 a7 a8 a9 a10 a11 a12 a13 a14 a15 a16 a17 a18 a19 a20 a21 := by
      intro z0 hz
      refine nj_bf66 hi hu (by omega) (by omega) hz k2 (fun e => hw () (fun y hy => ?_)) (fun l => Q1 ⟨_, I, l⟩) (fun l => Q0 (nj_pl_as ⟨_, fun y hy => (I y hy).symm, l⟩))
      by_cases z : y = i
      · rw [z]; exact e
      · exact I y (by omega)
    refine pk_eq i t (fun e => ?_) (fun e => ?_)
    · rw [if_pos e] at k1
      exact G _ (by rw [k1]; exact nI_1 _)
    · rw [if_neg e] at k1
      exact G _ (by rw [k1]; exact nI_add _ 0)
end
end
section
/-! the prefix grows: X with k0 places planted, and k places of the last event settled -/
def nj_Xk (N : nj_Net) (ne nc : Nat) (T : Nat → Nat) (eb : Nat → Nat → Nat) (pl pd : Nat → Nat) (be ps : Nat → Nat → Bool) (D : Nat → Nat) (k0 k : Nat) : Prop :=
  (∀ e, e < ne → T e < 8 ∧ N.2.2.1 (T e) = true ∧ ∀ p, N.1 (T e) p = true → eb e p < nc ∧ pl (eb e p) = p ∧ pd (eb e p) ≤ e) ∧
  (∀ c, c < nc → pd c ≤ ne ∧ (pd c = 0 → N.2.2.2 (pl c) = true) ∧ (0 < pd c → N.2.1 (T (pd c - 1)) (pl c) = true)) ∧
  (∀ p, p < k0 → N.2.2.2 p = true → ∃ c, c < nc ∧ pd c = 0 ∧ pl c = p) ∧
  (∀ e p, e < ne → (e + 1 < ne ∨ p < k) → N.2.1 (T e) p = true → ∃ c, c < nc ∧ pd c = e + 1 ∧ pl c = p) ∧
  (∀ c d, c < nc → d < nc → pd c = pd d → pl c = pl d → c = d) ∧
  (∀ e f, e < ne → f < ne → T e = T f → (∀ p, N.1 (T e) p = true → eb e p = eb f p) → e = f) ∧
  (∀ c f, c < nc → (ps c f = true ↔ 0 < pd c ∧ (f = pd c - 1 ∨ ∃ p, N.1 (T (pd c - 1)) p = true ∧ ps (eb (pd c - 1) p) f = true))) ∧
  (∀ c d, c < nc → d < nc → pd c = pd d → c ≠ d → be c d = true) ∧
  (∀ c, c < nc → be c c = false) ∧
  (∀ c d, c < nc → d < nc → be c d = true → be d c = true) ∧
  (∀ c d, c < nc → d < nc → pd d < pd c → (be c d = true ↔ ∀ p, N.1 (T (pd c - 1)) p = true → be (eb (pd c - 1) p) d = true)) ∧
  (∀ e p q, e < ne → N.1 (T e) p = true → N.1 (T e) q = true → p ≠ q → be (eb e p) (eb e q) = true) ∧
  (∀ e, e < ne → 0 < D e ∧ (∀ p f, N.1 (T e) p = true → ps (eb e p) f = true → D f < D e) ∧ (D e = 1 ∨ ∃ p f, N.1 (T e) p = true ∧ ps (eb e p) f = true ∧ D e = D f + 1)) ∧
  (∀ c, c < nc → (pd c = 0 → pl c < k0) ∧ (0 < ne → pd c = ne → pl c < k))
section
variable {N : nj_Net} {ne nc : Nat} {T : Nat → Nat} {eb : Nat → Nat → Nat} {pl pd : Nat → Nat} {be ps : Nat → Nat → Bool} {D : Nat → Nat} {k0 k : Nat}
theorem nj_Xk_X (hM : ∀ p, N.2.2.2 p = true → p < 6) (hP : ∀ t p, N.2.1 t p = true → p < 6) (h : nj_Xk N ne nc T eb pl pd be ps D 6 6) : nj_X N ne nc T eb pl pd be ps D := by
  obtain ⟨x1, x2, x3, x4, x5, x6, x7, x8, x9, x10, x11, x12, x13, x14⟩ := h
  exact ⟨x1, x2, fun p hp => x3 p (hM p hp) hp, fun e p he hp => x4 e p he (Or.inr (hP _ p hp)) hp, x5, x6, x7, x8, x9, x10, x11, x12, x13⟩
/-- f with x at k -/
def nj_up {α : Type} (f : Nat → α) (k : Nat) (x : α) : Nat → α := fun i => if i = k then x else f i
theorem nj_up_s {α : Type} {f : Nat → α} {k : Nat} {x : α} : nj_up f k x k = x := if_pos rfl
theorem nj_up_n {α : Type} {f : Nat → α} {k i : Nat} {x : α} (h : i ≠ k) : nj_up f k x i = f i := if_neg h
/-- the place is done without a condition -/
theorem nj_Xk_skip (h : nj_Xk N ne nc T eb pl pd be ps D k0 k) (hp : 0 < ne → N.2.1 (T (ne - 1)) k = false) : nj_Xk N ne nc T eb pl pd be ps D k0 (k + 1) := by
  obtain ⟨x1, x2, x3, x4, x5, x6, x7, x8, x9, x10, x11, x12, x13, x14⟩ := h
  refine ⟨x1, x2, x3, fun e p he hk hpo => ?_, x5, x6, x7, x8, x9, x10, x11, x12, x13, fun c hc => ⟨(x14 c hc).1, fun a b => by have := (x14 c hc).2 a b; omega⟩⟩
  by_cases z : e + 1 < ne ∨ p < k
  · exact x4 e p he z hpo
  · have e1 : p = k := by omega
    have e2 : ne - 1 = e := by omega
    have := hp (by omega)
    rw [e2, ← e1, hpo] at this
    exact absurd this (by decide)
theorem nj_Xk_skip0 (h : nj_Xk N 0 nc T eb pl pd be ps D k0 k) (hp : N.2.2.2 k0 = false) : nj_Xk N 0 nc T eb pl pd be ps D (k0 + 1) k := by
  obtain ⟨x1, x2, x3, x4, x5, x6, x7, x8, x9, x10, x11, x12, x13, x14⟩ := h
  refine ⟨x1, x2, fun p p1 p2 => ?_, x4, x5, x6, x7, x8, x9, x10, x11, x12, x13, fun c hc => ⟨fun a => by have := (x14 c hc).1 a; omega, (x14 c hc).2⟩⟩
  by_cases z : p < k0
  · exact x3 p z p2
  · have e1 : p = k0 := by omega
    rw [e1, hp] at p2
    exact absurd p2 (by decide)
/-- one more event, as yet without conditions -/
theorem nj_Xk_ev (hM : ∀ p, N.2.2.2 p = true → p < 6) (hP : ∀ t p, N.2.1 t p = true → p < 6) (hw : nj_wf N) (h : nj_Xk N ne nc T eb pl pd be ps D 6 6) {t j : Nat} {b : Nat → Nat} (hpos : nj_pos N nc pl be t b) (hj : nj_dj D (nj_H N t b ps 6) j)
    (hnew : ∀ e, e < ne → T e = t → ¬ ∀ p, N.1 t p = true → eb e p = b p) : nj_Xk N (ne + 1) nc (nj_up T ne t) (nj_up eb ne b) pl pd be ps (nj_up D ne j) 6 0 := by
  have hX := nj_Xk_X hM hP h
  obtain ⟨x1, x2, x3, x4, x5, x6, x7, x8, x9, x10, x11, x12, x13, x14⟩ := h
  obtain ⟨p1, p2, p3, p4⟩ := hpos
  have psne : ∀ c f, c < nc → ps c f = true → f < ne := by
    intro c f hc hf
    have := nj_ps_lt hX _ c hc (Nat.le_refl _) f hf
    have := (x2 c hc).1
    omega
  refine ⟨fun e he => ?_, fun c hc => ?_, x3, fun e p he hk hpo => ?_, x5, fun e f he hf hT hb => ?_, fun c f hc => ?_, x8, x9, x10, fun c d hc hd hlt => ?_, fun e p q he hp hq hn => ?_, fun e he => ?_, fun c hc => ⟨(x14 c hc).1, fun _ a => ?_⟩⟩
  · by_cases z : e = ne
    · subst z
      rw [nj_up_s, nj_up_s]
      exact ⟨p1, p2, fun p hp => ⟨(p3 p hp).1, (p3 p hp).2, (x2 _ (p3 p hp).1).1⟩⟩
    · rw [nj_up_n z, nj_up_n z]
      exact x1 e (by omega)
  · obtain ⟨y1, y2, y3⟩ := x2 c hc
    refine ⟨by omega, y2, fun h0 => ?_⟩
    rw [nj_up_n (show pd c - 1 ≠ ne by omega)]
    exact y3 h0
  · have z : e ≠ ne := by omega
    rw [nj_up_n z] at hpo
    exact x4 e p (by omega) (Or.inr (hP _ p hpo)) hpo
  · by_cases z : e = ne
    · by_cases z2 : f = ne
      · omega
      · subst z
        rw [nj_up_s, nj_up_n z2] at hT
        rw [nj_up_s, nj_up_s, nj_up_n z2] at hb
        exact absurd (fun p hp => (hb p hp).symm) (hnew f (by omega) hT.symm)
    · by_cases z2 : f = ne
      · subst z2
        rw [nj_up_s, nj_up_n z] at hT
        rw [nj_up_s, nj_up_n z, nj_up_n z, hT] at hb
        exact absurd hb (hnew e (by omega) hT)
      · rw [nj_up_n z, nj_up_n z2] at hT
        rw [nj_up_n z, nj_up_n z, nj_up_n z2] at hb
        exact x6 e f (by omega) (by omega) hT hb
  · have := x7 c f hc
    have y := (x2 c hc).1
    by_cases z : 0 < pd c
    · rw [nj_up_n (show pd c - 1 ≠ ne by omega), nj_up_n (show pd c - 1 ≠ ne by omega)]
      exact this
    · exact ⟨fun g => absurd (this.mp g).1 z, fun g => absurd g.1 z⟩
  · have := x11 c d hc hd hlt
    have y := (x2 c hc).1
    rw [nj_up_n (show pd c - 1 ≠ ne by omega), nj_up_n (show pd c - 1 ≠ ne by omega)]
    exact this
  · by_cases z : e = ne
    · subst z
      rw [nj_up_s] at hp hq
      rw [nj_up_s]
      exact p4 p q hp hq hn
    · rw [nj_up_n z] at hp hq
      rw [nj_up_n z]
      exact x12 e p q (by omega) hp hq hn
  · by_cases z : e = ne
    · subst z
      rw [nj_up_s, nj_up_s, nj_up_s]
      obtain ⟨j1, j2, j3⟩ := hj
      refine ⟨j1, fun p f hp hf => ?_, ?_⟩
      · have := psne _ f (p3 p hp).1 hf
        rw [nj_up_n (show f ≠ e by omega)]
        exact j2 f ((nj_H_6 hw).mpr ⟨p, hp, hf⟩)
      · rcases j3 with j3 | ⟨f, f1, f2⟩
        · exact Or.inl j3
        · obtain ⟨p, hp, hf⟩ := (nj_H_6 hw).mp f1
          have := psne _ f (p3 p hp).1 hf
          refine Or.inr ⟨p, f, hp, hf, ?_⟩
          rw [nj_up_n (show f ≠ e by omega)]
          exact f2
    · have y := x1 e (by omega)
      rw [nj_up_n z, nj_up_n z, nj_up_n z]
      obtain ⟨j1, j2, j3⟩ := x13 e (by omega)
      refine ⟨j1, fun p f hp hf => ?_, ?_⟩
      · have := psne _ f (y.2.2 p hp).1 hf
        rw [nj_up_n (show f ≠ ne by omega)]
        exact j2 p f hp hf
      · rcases j3 with j3 | ⟨p, f, hp, hf, f2⟩
        · exact Or.inl j3
        · have := psne _ f (y.2.2 p hp).1 hf
          refine Or.inr ⟨p, f, hp, hf, ?_⟩
          rw [nj_up_n (show f ≠ ne by omega)]
          exact f2
  · have := (x2 c hc).1
    omega
/-- one more condition of the last event -/
theorem nj_Xk_cond (h : nj_Xk N ne nc T eb pl pd be ps D k0 k) (hne : 0 < ne) (hpo : N.2.1 (T (ne - 1)) k = true) {be' ps' : Nat → Nat → Bool}
    (hps : ∀ c f, c < nc → ps' c f = ps c f) (hpn : ∀ f, ps' nc f = true ↔ (f = ne - 1 ∨ ∃ p, N.1 (T (ne - 1)) p = true ∧ ps (eb (ne - 1) p) f = true))
    (hbe : ∀ c d, c < nc → d < nc → be' c d = be c d) (hb0 : be' nc nc = false) (hb1 : ∀ d, d < nc → be' nc d = be' d nc) (hb2 : ∀ d, d < nc → (be' nc d = true ↔ pd d = ne ∨ ∀ p, N.1 (T (ne - 1)) p = true → be (eb (ne - 1) p) d = true)) :
    nj_Xk N ne (nc + 1) T eb (nj_up pl nc k) (nj_up pd nc ne) be' ps' D k0 (k + 1) := by
  obtain ⟨x1, x2, x3, x4, x5, x6, x7, x8, x9, x10, x11, x12, x13, x14⟩ := h
  have up : ∀ {α : Type} (f : Nat → α) (x : α) (c : Nat), c < nc → nj_up f nc x c = f c := fun f x c hc => nj_up_n (by omega)
  refine ⟨fun e he => ?_, fun c hc => ?_, fun p p1 p2 => ?_, fun e p he hk hp => ?_, fun c d hc hd h1 h2 => ?_, x6, fun c f hc => ?_, fun c d hc hd h1 hn => ?_, fun c hc => ?_, fun c d hc hd hb => ?_, fun c d hc hd hlt => ?_, fun e p q he hp hq hn => ?_, fun e he => ?_, fun c hc => ?_⟩
  · obtain ⟨y1, y2, y3⟩ := x1 e he
    refine ⟨y1, y2, fun p hp => ?_⟩
    obtain ⟨z1, z2, z3⟩ := y3 p hp
    rw [up pl k _ z1, up pd ne _ z1]
    exact ⟨by omega, z2, z3⟩
  · by_cases z : c = nc
    · subst z
      rw [nj_up_s, nj_up_s]
      exact ⟨Nat.le_refl _, fun a => by omega, fun _ => hpo⟩
    · have hc' : c < nc := by omega
      rw [up pl k _ hc', up pd ne _ hc']
      exact x2 c hc'
  · obtain ⟨c, c1, c2, c3⟩ := x3 p p1 p2
    exact ⟨c, by omega, by rw [up pd ne _ c1]; exact c2, by rw [up pl k _ c1]; exact c3⟩
  · by_cases z : e + 1 < ne ∨ p < k
    · obtain ⟨c, c1, c2, c3⟩ := x4 e p he z hp
      exact ⟨c, by omega, by rw [up pd ne _ c1]; exact c2, by rw [up pl k _ c1]; exact c3⟩
    · exact ⟨nc, by omega, by rw [nj_up_s]; omega, by rw [nj_up_s]; omega⟩
  · by_cases z : c = nc
    · by_cases z2 : d = nc
      · omega
      · have hd' : d < nc := by omega
        rw [z, nj_up_s, up pd ne _ hd'] at h1
        rw [z, nj_up_s, up pl k _ hd'] at h2
        have := (x14 d hd').2 hne h1.symm
        omega
    · have hc' : c < nc := by omega
      by_cases z2 : d = nc
      · rw [z2, nj_up_s, up pd ne _ hc'] at h1
        rw [z2, nj_up_s, up pl k _ hc'] at h2
        have := (x14 c hc').2 hne h1
        omega
      · have hd' : d < nc := by omega
        rw [up pd ne _ hc', up pd ne _ hd'] at h1
        rw [up pl k _ hc', up pl k _ hd'] at h2
        exact x5 c d hc' hd' h1 h2
  · by_cases z : c = nc
    · subst z
      rw [nj_up_s, hpn]
      constructor
      · intro g
        refine ⟨hne, ?_⟩
        rcases g with g | ⟨p, g1, g2⟩
        · exact Or.inl g
        · exact Or.inr ⟨p, g1, by rw [hps _ _ ((x1 (ne - 1) (by omega)).2.2 p g1).1]; exact g2⟩
      · intro ⟨_, g⟩
        rcases g with g | ⟨p, g1, g2⟩
        · exact Or.inl g
        · exact Or.inr ⟨p, g1, by rw [hps _ _ ((x1 (ne - 1) (by omega)).2.2 p g1).1] at g2; exact g2⟩
    · have hc' : c < nc := by omega
      have y := (x2 c hc').1
      rw [up pd ne _ hc', hps c f hc', x7 c f hc']
      constructor
      · intro ⟨g0, g⟩
        refine ⟨g0, ?_⟩
        rcases g with g | ⟨p, g1, g2⟩
        · exact Or.inl g
        · exact Or.inr ⟨p, g1, by rw [hps _ _ ((x1 (pd c - 1) (by omega)).2.2 p g1).1]; exact g2⟩
      · intro ⟨g0, g⟩
        refine ⟨g0, ?_⟩
        rcases g with g | ⟨p, g1, g2⟩
        · exact Or.inl g
        · exact Or.inr ⟨p, g1, by rw [hps _ _ ((x1 (pd c - 1) (by omega)).2.2 p g1).1] at g2; exact g2⟩
  · by_cases z : c = nc
    · by_cases z2 : d = nc
      · omega
      · have hd' : d < nc := by omega
        rw [z, nj_up_s, up pd ne _ hd'] at h1
        rw [z]
        exact (hb2 d hd').mpr (Or.inl h1.symm)
    · have hc' : c < nc := by omega
      by_cases z2 : d = nc
      · rw [z2, nj_up_s, up pd ne _ hc'] at h1
        rw [z2, ← hb1 c hc']
        exact (hb2 c hc').mpr (Or.inl h1)
      · have hd' : d < nc := by omega
        rw [up pd ne _ hc', up pd ne _ hd'] at h1
        rw [hbe c d hc' hd']
        exact x8 c d hc' hd' h1 hn
  · by_cases z : c = nc
    · rw [z]; exact hb0
    · rw [hbe c c (by omega) (by omega)]
      exact x9 c (by omega)
  · by_cases z : c = nc
    · by_cases z2 : d = nc
      · rw [z, z2] at hb ⊢; exact hb
      · rw [z] at hb ⊢
        rw [← hb1 d (by omega)]
        exact hb
    · by_cases z2 : d = nc
      · rw [z2] at hb ⊢
        rw [hb1 c (by omega)]
        exact hb
      · rw [hbe c d (by omega) (by omega)] at hb
        rw [hbe d c (by omega) (by omega)]
        exact x10 c d (by omega) (by omega) hb
  · by_cases z : c = nc
    · by_cases z2 : d = nc
      · rw [z, z2] at hlt; omega
      · have hd' : d < nc := by omega
        rw [z, nj_up_s, up pd ne _ hd'] at hlt
        rw [z, nj_up_s, hb2 d hd']
        constructor
        · intro g p hp
          rw [hbe _ d ((x1 (ne - 1) (by omega)).2.2 p hp).1 hd']
          rcases g with g | g
          · omega
          · exact g p hp
        · intro g
          refine Or.inr (fun p hp => ?_)
          have := g p hp
          rw [hbe _ d ((x1 (ne - 1) (by omega)).2.2 p hp).1 hd'] at this
          exact this
    · have hc' : c < nc := by omega
      have y := (x2 c hc').1
      by_cases z2 : d = nc
      · rw [z2, nj_up_s, up pd ne _ hc'] at hlt
        omega
      · have hd' : d < nc := by omega
        rw [up pd ne _ hc', up pd ne _ hd'] at hlt
        rw [up pd ne _ hc', hbe c d hc' hd', x11 c d hc' hd' hlt]
        constructor
        · intro g p hp
          rw [hbe _ d ((x1 (pd c - 1) (by omega)).2.2 p hp).1 hd']
          exact g p hp
        · intro g p hp
          have := g p hp
          rw [hbe _ d ((x1 (pd c - 1) (by omega)).2.2 p hp).1 hd'] at this
          exact this
  · rw [hbe _ _ ((x1 e he).2.2 p hp).1 ((x1 e he).2.2 q hq).1]
    exact x12 e p q he hp hq hn
  · obtain ⟨j1, j2, j3⟩ := x13 e he
    refine ⟨j1, fun p f hp hf => ?_, ?_⟩
    · rw [hps _ _ ((x1 e he).2.2 p hp).1] at hf
      exact j2 p f hp hf
    · rcases j3 with j3 | ⟨p, f, hp, hf, f2⟩
      · exact Or.inl j3
      · exact Or.inr ⟨p, f, hp, by rw [hps _ _ ((x1 e he).2.2 p hp).1]; exact hf, f2⟩
  · by_cases z : c = nc
    · subst z
      rw [nj_up_s, nj_up_s]
      exact ⟨fun a => by omega, fun _ _ => by omega⟩
    · have hc' : c < nc := by omega
      rw [up pd ne _ hc', up pl k _ hc']
      exact ⟨(x14 c hc').1, fun a b => by have := (x14 c hc').2 a b; omega⟩
/-- one more condition of the first marking -/
theorem nj_Xk_cond0 (h : nj_Xk N 0 nc T eb pl pd be ps D k0 k) (hpo : N.2.2.2 k0 = true) {be' ps' : Nat → Nat → Bool}
    (hps : ∀ c f, c < nc → ps' c f = ps c f) (hpn : ∀ f, ps' nc f = false) (hbe : ∀ c d, c < nc → d < nc → be' c d = be c d) (hb0 : be' nc nc = false) (hb1 : ∀ d, d < nc → be' nc d = true ∧ be' d nc = true) :
    nj_Xk N 0 (nc + 1) T eb (nj_up pl nc k0) (nj_up pd nc 0) be' ps' D (k0 + 1) k := by
  obtain ⟨x1, x2, x3, x4, x5, x6, x7, x8, x9, x10, x11, x12, x13, x14⟩ := h
  have up : ∀ {α : Type} (f : Nat → α) (x : α) (c : Nat), c < nc → nj_up f nc x c = f c := fun f x c hc => nj_up_n (by omega)
  have pd0 : ∀ c, c < nc + 1 → nj_up pd nc 0 c = 0 := by
    intro c hc
    by_cases z : c = nc
    · rw [z, nj_up_s]
    · have := (x2 c (by omega)).1
      rw [up pd 0 c (by omega)]
      omega
  refine ⟨fun e he => by omega, fun c hc => ?_, fun p p1 p2 => ?_, fun e p he => by omega, fun c d hc hd _ h2 => ?_, fun e f he => by omega, fun c f hc => ?_, fun c d hc hd _ hn => ?_, fun c hc => ?_, fun c d hc hd hb => ?_, fun c d hc hd hlt => ?_, fun e p q he => by omega, fun e he => by omega, fun c hc => ⟨fun _ => ?_, fun a => by omega⟩⟩
  · rw [pd0 c hc]
    refine ⟨by omega, fun _ => ?_, fun a => by omega⟩
    by_cases z : c = nc
    · rw [z, nj_up_s]; exact hpo
    · have hc' : c < nc := by omega
      have := (x2 c hc').1
      rw [up pl k0 _ hc']
      exact (x2 c hc').2.1 (by omega)
  · by_cases z : p < k0
    · obtain ⟨c, c1, c2, c3⟩ := x3 p z p2
      exact ⟨c, by omega, pd0 c (by omega), by rw [up pl k0 _ c1]; exact c3⟩
    · exact ⟨nc, by omega, pd0 nc (by omega), by rw [nj_up_s]; omega⟩
  · by_cases z : c = nc
    · by_cases z2 : d = nc
      · omega
      · have hd' : d < nc := by omega
        rw [z, nj_up_s, up pl k0 _ hd'] at h2
        have := (x14 d hd').1 (by have := (x2 d hd').1; omega)
        omega
    · have hc' : c < nc := by omega
      by_cases z2 : d = nc
      · rw [z2, nj_up_s, up pl k0 _ hc'] at h2
        have := (x14 c hc').1 (by have := (x2 c hc').1; omega)
        omega
      · have hd' : d < nc := by omega
        rw [up pl k0 _ hc', up pl k0 _ hd'] at h2
        exact x5 c d hc' hd' (by have := (x2 c hc').1; have := (x2 d hd').1; omega) h2
  · rw [pd0 c hc]
    refine ⟨fun g => ?_, fun g => absurd g.1 (by omega)⟩
    by_cases z : c = nc
    · rw [z, hpn] at g
      exact absurd g (by decide)
    · rw [hps c f (by omega)] at g
      have := ((x7 c f (by omega)).mp g).1
      have := (x2 c (by omega)).1
      omega
  · by_cases z : c = nc
    · rw [z]; exact (hb1 d (by omega)).1
    · by_cases z2 : d = nc
      · rw [z2]; exact (hb1 c (by omega)).2
      · rw [hbe c d (by omega) (by omega)]
        exact x8 c d (by omega) (by omega) (by have := (x2 c (by omega)).1; have := (x2 d (by omega)).1; omega) hn
  · by_cases z : c = nc
    · rw [z]; exact hb0
    · rw [hbe c c (by omega) (by omega)]
      exact x9 c (by omega)
  · by_cases z : c = nc
    · by_cases z2 : d = nc
      · rw [z, z2] at hb ⊢; exact hb
      · rw [z]; exact (hb1 d (by omega)).2
    · by_cases z2 : d = nc
      · rw [z2]; exact (hb1 c (by omega)).1
      · rw [hbe c d (by omega) (by omega)] at hb
        rw [hbe d c (by omega) (by omega)]
        exact x10 c d (by omega) (by omega) hb
  · rw [pd0 c hc, pd0 d hd] at hlt
    omega
  · by_cases z : c = nc
    · rw [z, nj_up_s]; omega
    · rw [up pl k0 _ (by omega)]
      have := (x14 c (by omega)).1 (by have := (x2 c (by omega)).1; omega)
      omega
end
end
section
/-! what has been offered -/
def nj_be (a6 a7 a8 : Nat → Int64) (c d : Nat) : Bool := nj_w3 (a6 c) (a7 c) (a8 c) d
def nj_ps (a5 : Nat → Int64) (c f : Nat) : Bool := nj_bl (a5 c) f
def nj_Ke (N : nj_Net) (T : Nat → Nat) (eb : Nat → Nat → Nat) (ps : Nat → Nat → Bool) (D : Nat → Nat) (e : Nat) : Nat → Nat := nj_K T D (nj_He N T eb ps e) (T e) (D e)
/-- x and y name the conditions that (t, b) takes -/
def nj_ot (N : nj_Net) (t : Nat) (b : Nat → Nat) (x y : Int32) : Prop := ∃ p, N.1 t p = true ∧ x = nI (b p) ∧ ((y = -1 ∧ ∀ q, N.1 t q = true → q = p) ∨ ∃ q, q ≠ p ∧ N.1 t q = true ∧ y = nI (b q) ∧ ∀ r, N.1 t r = true → r = p ∨ r = q)
def nj_cand (N : nj_Net) (nc : Nat) (T : Nat → Nat) (pl : Nat → Nat) (be ps : Nat → Nat → Bool) (D : Nat → Nat) (mo : (Nat → Nat) → Nat) (a12 a13 a14 : Nat → Int32) (a15 : Nat → Int64) (m t : Nat) (b : Nat → Nat) (j : Nat) : Prop :=
  a12 m = nI t ∧ nj_pos N nc pl be t b ∧ nj_bl (a15 m) = nj_H N t b ps 6 ∧ nj_ot N t b (a13 m) (a14 m) ∧ nj_dj D (nj_bl (a15 m)) j ∧ mo (nj_K T D (nj_bl (a15 m)) t j) = m
def nj_CV (N : nj_Net) (nc : Nat) (T : Nat → Nat) (pl : Nat → Nat) (be ps : Nat → Nat → Bool) (D : Nat → Nat) (mo : (Nat → Nat) → Nat) (a12 a13 a14 : Nat → Int32) (a15 : Nat → Int64) : Prop :=
  ∀ m, m < 64 → a12 m = -1 ∨ ∃ t b j, nj_cand N nc T pl be ps D mo a12 a13 a14 a15 m t b j
def nj_CL (N : nj_Net) (ne : Nat) (T : Nat → Nat) (eb : Nat → Nat → Nat) (ps : Nat → Nat → Bool) (D : Nat → Nat) (mo : (Nat → Nat) → Nat) (m s : Nat) (K : Nat → Nat) : Prop :=
  m = nj_cd N.2.2.2 6 ∨ ∃ e, e < ne ∧ mo (nj_Ke N T eb ps D e) = m ∧ ¬ nj_Lt s K (nj_ct (nj_He N T eb ps e) 64) (nj_Ke N T eb ps D e)
def nj_OF (N : nj_Net) (ne nc : Nat) (T : Nat → Nat) (eb : Nat → Nat → Nat) (pl : Nat → Nat) (be ps : Nat → Nat → Bool) (D : Nat → Nat) (mo : (Nat → Nat) → Nat) (a11 a12 a13 a14 : Nat → Int32) (a15 : Nat → Int64) (t : Nat) (H : Nat → Bool) : Prop :=
  ∃ j, nj_dj D H j ∧ (a11 (mo (nj_K T D H t j)) = 0 → ∃ u b j', nj_cand N nc T pl be ps D mo a12 a13 a14 a15 (mo (nj_K T D H t j)) u b j' ∧ ¬ nj_Lt (nj_ct H 64) (nj_K T D H t j) (nj_on (a15 (mo (nj_K T D H t j)))) (nj_K T D (nj_bl (a15 (mo (nj_K T D H t j)))) u j')) ∧
    (¬ a11 (mo (nj_K T D H t j)) = 0 → nj_CL N ne T eb ps D mo (mo (nj_K T D H t j)) (nj_ct H 64) (nj_K T D H t j))
def nj_SZ (N : nj_Net) (ne : Nat) (T : Nat → Nat) (eb : Nat → Nat → Nat) (ps : Nat → Nat → Bool) (a11 a12 : Nat → Int32) (a15 : Nat → Int64) : Prop :=
  ∀ m, m < 64 → a11 m = 0 → ¬ a12 m = -1 → ∀ e, e < ne → nj_ct (nj_He N T eb ps e) 64 ≤ nj_on (a15 m)
def nj_OI (N : nj_Net) (ne nc : Nat) (T : Nat → Nat) (eb : Nat → Nat → Nat) (pl : Nat → Nat) (be ps : Nat → Nat → Bool) (D : Nat → Nat) (mo : (Nat → Nat) → Nat) (a11 a12 a13 a14 : Nat → Int32) (a15 : Nat → Int64) (S : Nat → (Nat → Nat) → Prop) : Prop :=
  nj_CV N nc T pl be ps D mo a12 a13 a14 a15 ∧ nj_SZ N ne T eb ps a11 a12 a15 ∧ ∀ t b, nj_pos N nc pl be t b → S t b → nj_OF N ne nc T eb pl be ps D mo a11 a12 a13 a14 a15 t (nj_H N t b ps 6)
theorem nj_Lt_ir {s : Nat} {K : Nat → Nat} : ¬ nj_Lt s K s K := by
  intro h
  rcases h with h | h
  · omega
  · exact nj_pl_ir K h.2
theorem nj_nI_m1 {n : Nat} (h : n < 2 ^ 31) : ¬ nI n = -1 := by
  intro e
  have := nI_pos h
  rw [e] at this
  exact this (by decide)
section
variable {N : nj_Net} {ne nc : Nat} {T : Nat → Nat} {eb : Nat → Nat → Nat} {pl pd : Nat → Nat} {be ps : Nat → Nat → Bool} {D : Nat → Nat} {mo : (Nat → Nat) → Nat} {a11 a12 a13 a14 : Nat → Int32} {a15 : Nat → Int64} {S S' : Nat → (Nat → Nat) → Prop}
theorem nj_H_cg {t : Nat} {b b' : Nat → Nat} (h : ∀ p, N.1 t p = true → b p = b' p) : ∀ n, nj_H N t b ps n = nj_H N t b' ps n := by
  intro n
  induction n with
  | zero => rfl
  | succ n ih =>
    funext f
    show (nj_H N t b ps n f || (N.1 t n && ps (b n) f)) = (nj_H N t b' ps n f || (N.1 t n && ps (b' n) f))
    rw [ih]
    cases z : N.1 t n
    · rfl
    · rw [h n z]
theorem nj_OI_mono (h : nj_OI N ne nc T eb pl be ps D mo a11 a12 a13 a14 a15 S) (hs : ∀ t b, nj_pos N nc pl be t b → S' t b → S t b) : nj_OI N ne nc T eb pl be ps D mo a11 a12 a13 a14 a15 S' :=
  ⟨h.1, h.2.1, fun t b hp hS => h.2.2 t b hp (hs t b hp hS)⟩
/-- two candidates of one place are one -/
theorem nj_cand_uq {m t u j j' : Nat} {b b' : Nat → Nat} (h : nj_cand N nc T pl be ps D mo a12 a13 a14 a15 m t b j) (h' : nj_cand N nc T pl be ps D mo a12 a13 a14 a15 m u b' j') : t = u ∧ j = j' := by
  obtain ⟨h1, h2, h3, h4, h5, h6⟩ := h
  obtain ⟨g1, g2, g3, g4, g5, g6⟩ := h'
  refine ⟨?_, nj_dj_uq h5 g5⟩
  rw [h1] at g1
  exact (nI_eq (by have := h2.1; omega) (by have := g2.1; omega)).mp g1
/-- the offer is kept out: its marking is closed -/
theorem nj_OI_K (h : nj_OI N ne nc T eb pl be ps D mo a11 a12 a13 a14 a15 S) {t j : Nat} {b : Nat → Nat} (hj : nj_dj D (nj_H N t b ps 6) j) (hc : ¬ a11 (mo (nj_K T D (nj_H N t b ps 6) t j)) = 0)
    (hC : nj_CL N ne T eb ps D mo (mo (nj_K T D (nj_H N t b ps 6) t j)) (nj_ct (nj_H N t b ps 6) 64) (nj_K T D (nj_H N t b ps 6) t j)) :
    nj_OI N ne nc T eb pl be ps D mo a11 a12 a13 a14 a15 (fun t' b' => S t' b' ∨ (t' = t ∧ ∀ p, N.1 t p = true → b' p = b p)) := by
  refine ⟨h.1, h.2.1, fun t' b' hp hS => ?_⟩
  rcases hS with hS | ⟨e, hb⟩
  · exact h.2.2 t' b' hp hS
  · subst e
    rw [nj_H_cg hb]
    exact ⟨j, hj, fun z => absurd z hc, fun _ => hC⟩
/-- the offer is kept out: the candidate doesn't go behind it -/
theorem nj_OI_N (h : nj_OI N ne nc T eb pl be ps D mo a11 a12 a13 a14 a15 S) {t j : Nat} {b : Nat → Nat} (hj : nj_dj D (nj_H N t b ps 6) j) (hc : a11 (mo (nj_K T D (nj_H N t b ps 6) t j)) = 0)
    {u j' : Nat} {b' : Nat → Nat} (hca : nj_cand N nc T pl be ps D mo a12 a13 a14 a15 (mo (nj_K T D (nj_H N t b ps 6) t j)) u b' j')
    (hl : ¬ nj_Lt (nj_ct (nj_H N t b ps 6) 64) (nj_K T D (nj_H N t b ps 6) t j) (nj_on (a15 (mo (nj_K T D (nj_H N t b ps 6) t j)))) (nj_K T D (nj_bl (a15 (mo (nj_K T D (nj_H N t b ps 6) t j)))) u j')) :
    nj_OI N ne nc T eb pl be ps D mo a11 a12 a13 a14 a15 (fun t' b' => S t' b' ∨ (t' = t ∧ ∀ p, N.1 t p = true → b' p = b p)) := by
  refine ⟨h.1, h.2.1, fun t' b'' hp hS => ?_⟩
  rcases hS with hS | ⟨e, hb⟩
  · exact h.2.2 t' b'' hp hS
  · subst e
    rw [nj_H_cg hb]
    exact ⟨j, hj, fun _ => ⟨u, b', j', hca, hl⟩, fun z => absurd hc z⟩
/-- the offer is taken -/
theorem nj_OI_U (hm6 : ∀ K, mo K < 64) (h : nj_OI N ne nc T eb pl be ps D mo a11 a12 a13 a14 a15 S) {t j : Nat} {b : Nat → Nat} (hpos : nj_pos N nc pl be t b) (hj : nj_dj D (nj_H N t b ps 6) j) {x y : Int32} {w : Int64} (hw : nj_bl w = nj_H N t b ps 6) (hot : nj_ot N t b x y)
    (hsz : ∀ e, e < ne → nj_ct (nj_He N T eb ps e) 64 ≤ nj_on w) {m : Nat} (em : m = mo (nj_K T D (nj_H N t b ps 6) t j)) (hc : a11 m = 0)
    (hl : a12 m = -1 ∨ ∃ u b' j', nj_cand N nc T pl be ps D mo a12 a13 a14 a15 m u b' j' ∧ nj_Lt (nj_ct (nj_H N t b ps 6) 64) (nj_K T D (nj_H N t b ps 6) t j) (nj_on (a15 m)) (nj_K T D (nj_bl (a15 m)) u j')) :
    nj_OI N ne nc T eb pl be ps D mo a11 (upd a12 m (nI t)) (upd a13 m x) (upd a14 m y) (vp_updL a15 m w) (fun t' b' => S t' b' ∨ (t' = t ∧ ∀ p, N.1 t p = true → b' p = b p)) := by
  have hon : nj_on w = nj_ct (nj_H N t b ps 6) 64 := by unfold nj_on; rw [hw]
  have new : nj_cand N nc T pl be ps D mo (upd a12 m (nI t)) (upd a13 m x) (upd a14 m y) (vp_updL a15 m w) m t b j := by
    refine ⟨pk_us, hpos, ?_, ?_, ?_, ?_⟩
    · rw [pk_uLs]; exact hw
    · rw [pk_us, pk_us]; exact hot
    · rw [pk_uLs, hw]; exact hj
    · rw [pk_uLs, hw]; exact em.symm
  have old : ∀ m', m' ≠ m → ∀ u b' j', nj_cand N nc T pl be ps D mo a12 a13 a14 a15 m' u b' j' → nj_cand N nc T pl be ps D mo (upd a12 m (nI t)) (upd a13 m x) (upd a14 m y) (vp_updL a15 m w) m' u b' j' := by
    intro m' hn u b' j' ⟨c1, c2, c3, c4, c5, c6⟩
    refine ⟨by rw [pk_un hn]; exact c1, c2, by rw [pk_uLn hn]; exact c3, by rw [pk_un hn, pk_un hn]; exact c4, by rw [pk_uLn hn]; exact c5, by rw [pk_uLn hn]; exact c6⟩
  obtain ⟨o1, o2, o3⟩ := h
  refine ⟨fun m' hm' => ?_, fun m' hm' hc' hn e he => ?_, fun t' b' hp hS => ?_⟩
  · by_cases z : m' = m
    · rw [z]
      exact Or.inr ⟨t, b, j, new⟩
    · rcases o1 m' hm' with g | ⟨u, b', j', g⟩
      · exact Or.inl (by rw [pk_un z]; exact g)
      · exact Or.inr ⟨u, b', j', old m' z u b' j' g⟩
  · by_cases z : m' = m
    · rw [z, pk_uLs]
      exact hsz e he
    · rw [pk_uLn z]
      rw [pk_un z] at hn
      exact o2 m' hm' hc' hn e he
  · rcases hS with hS | ⟨e, hb⟩
    · obtain ⟨i, i1, i2, i3⟩ := o3 t' b' hp hS
      refine ⟨i, i1, fun hc' => ?_, i3⟩
      obtain ⟨u, b2, j2, c1, c2⟩ := i2 hc'
      generalize hm' : mo (nj_K T D (nj_H N t' b' ps 6) t' i) = m' at *
      by_cases z : m' = m
      · subst z
        refine ⟨t, b, j, new, fun hlt => c2 ?_⟩
        rw [pk_uLs, hw, hon] at hlt
        rcases hl with hl | ⟨u3, b3, j3, d1, d2⟩
        · have := c1.1
          rw [hl] at this
          exact absurd this.symm (nj_nI_m1 (by have := c1.2.1.1; omega))
        · obtain ⟨e1, e2⟩ := nj_cand_uq c1 d1
          rw [e1, e2]
          exact nj_Lt_tr hlt d2
      · refine ⟨u, b2, j2, old m' z u b2 j2 c1, ?_⟩
        rw [pk_uLn z]
        exact c2
    · subst e
      rw [nj_H_cg hb]
      refine ⟨j, hj, fun _ => ⟨t', b, j, ?_, ?_⟩, fun z => absurd (by rw [← em]; exact hc) z⟩
      · rw [← em]; exact new
      · rw [← em, pk_uLs, hw, hon]
        exact nj_Lt_ir
end
section
variable {fP fI fS fG fJ fU fC fE : Int32} {a1 a2 a3 a4 a11 a12 a13 a14 a16 a17 : Nat → Int32} {a5 a6 a7 a8 a9 a10 a15 a18 a19 a20 a21 : Nat → Int64} {ne nc : Nat} {T : Nat → Nat} {eb : Nat → Nat → Nat} {pl pd D : Nat → Nat}
theorem nj_of76 {post : St1 → Prop} {t c1 m : Nat} {x2 : Int32} {h : Int64} (ht : t < 8) (hc1 : c1 < 136) (hm : m < 64) (hx2 : x2 = -1 ∨ ∃ c2, c2 < 136 ∧ x2 = nI c2) (H : post (fP, fI, fS, fG, fJ, fU, fC, fE, a1, a2, a3, a4, a5, a6, a7, a8, a9, a10, a11, upd a12 m (nI t), upd a13 m (nI c1), upd a14 m x2, vp_updL a15 m h, a16, a17, a18, a19, a20, a21)) :
    wX_offer_76 post (nI t) (nI c1) x2 h (nI m) fP fI fS fG fJ fU fC fE a1 a2 a3 a4 a5 a6 a7 a8 a9 a10 a11 a12 a13 a14 a15 a16 a17 a18 a19 a20 a21 := by
  have em : (nI m).toNatClampNeg = m := nI_clamp (by omega)
  have e2 : x2.toInt16.toInt32 = x2 := by
    rcases hx2 with e | ⟨c2, h2, e⟩
    · rw [e]; exact nj_i16m
    · rw [e]; exact nj_i16 c2 (by omega)
  unfold wX_offer_76
  rw [em, nj_i8 t (by omega), nj_i16 c1 (by omega), e2]
  exact ⟨vp_in_nI hm (by decide), nm_e ⟨vp_in_nI hm (by decide), nm_e ⟨vp_in_nI hm (by decide), nm_e ⟨vp_in_nI hm (by decide), nm_e H⟩⟩⟩⟩
theorem nj_of23 {post : St1 → Prop} {t c1 j m : Nat} {x2 : Int32} {h : Int64} (hL : nj_L a9 a10 ne T D) (hHn : ∀ t b, nj_pos (nj_N fI fS a1 a2) nc pl (nj_be a6 a7 a8) t b → ∀ f, nj_H (nj_N fI fS a1 a2) t b (nj_ps a5) 6 f = true → f < ne)
    (hc1 : c1 < 136) (hx2 : x2 = -1 ∨ ∃ c2, c2 < 136 ∧ x2 = nI c2) (hp : ∀ f, nj_bl h f = true → f < ne) (ht : t < 8) (hj : nj_dj D (nj_bl h) j) (hCV : nj_CV (nj_N fI fS a1 a2) nc T pl (nj_be a6 a7 a8) (nj_ps a5) D (nj_mo fI a1 a2) a12 a13 a14 a15)
    (em : m = nj_mo fI a1 a2 (nj_K T D (nj_bl h) t j))
    (HK : ¬ a11 m = 0 → post (fP, fI, fS, fG, fJ, fU, fC, fE, a1, a2, a3, a4, a5, a6, a7, a8, a9, a10, a11, a12, a13, a14, a15, a16, a17, a18, a19, a20, a21))
    (HN : a11 m = 0 → ∀ u b' j', nj_cand (nj_N fI fS a1 a2) nc T pl (nj_be a6 a7 a8) (nj_ps a5) D (nj_mo fI a1 a2) a12 a13 a14 a15 m u b' j' → ¬ nj_Lt (nj_on h) (nj_K T D (nj_bl h) t j) (nj_on (a15 m)) (nj_K T D (nj_bl (a15 m)) u j') → post (fP, fI, fS, fG, fJ, fU, fC, fE, a1, a2, a3, a4, a5, a6, a7, a8, a9, a10, a11, a12, a13, a14, a15, a16, a17, a18, a19, a20, a21))
    (HU : a11 m = 0 → (a12 m = -1 ∨ ∃ u b' j', nj_cand (nj_N fI fS a1 a2) nc T pl (nj_be a6 a7 a8) (nj_ps a5) D (nj_mo fI a1 a2) a12 a13 a14 a15 m u b' j' ∧ nj_Lt (nj_on h) (nj_K T D (nj_bl h) t j) (nj_on (a15 m)) (nj_K T D (nj_bl (a15 m)) u j')) → post (fP, fI, fS, fG, fJ, fU, fC, fE, a1, a2, a3, a4, a5, a6, a7, a8, a9, a10, a11, upd a12 m (nI t), upd a13 m (nI c1), upd a14 m x2, vp_updL a15 m h, a16, a17, a18, a19, a20, a21)) :
    wX_offer_23 post (nI t) (nI c1) x2 h fP fI fS fG fJ fU fC fE a1 a2 a3 a4 a5 a6 a7 a8 a9 a10 a11 a12 a13 a14 a15 a16 a17 a18 a19 a20 a21 := by
  have hm : m < 64 := by rw [em]; exact nj_mo_lt _ _ _ _
  unfold wX_offer_23
  refine nj_markingOf ht (nj_K T D (nj_bl h) t j) (fun v hv => ?_) ?_
  · rw [nj_on_lo hL hp hv, nj_K_lo hv hj.1]
  · rw [← em]
    have ec : (nI m).toNatClampNeg = m := nI_clamp (by omega)
    refine ⟨vp_in_nI hm (by decide), ?_⟩
    rw [ec]
    refine br_c (fun hc => ⟨vp_in_nI hm (by decide), nm_e ?_⟩) (fun hc => HK hc)
    rcases hCV m hm with g | ⟨u, b', j', g⟩
    · exact br_t (by rw [g]; decide) (nj_of76 ht hc1 hm hx2 (HU hc (Or.inl g)))
    · have hu := g.2.1.1
      have hau := g.1
      refine br_f (by rw [hau]; exact nI_pos (by omega)) ⟨vp_in_nI hm (by decide), ?_⟩
      have hpk : ∀ f, nj_bl (a15 m) f = true → f < ne := by
        intro f hf
        rw [g.2.2.1] at hf
        exact hHn u b' g.2.1 f hf
      rw [hau]
      refine nj_before hL hp hpk ht hu hj g.2.2.2.2.1 (fun l => br_f (by decide) (nj_of76 ht hc1 hm hx2 (HU hc (Or.inr ⟨u, b', j', g, l⟩)))) (fun l => br_t rfl (HN hc u b' j' g l))
end
end
section
/-! offer, pairUp, extend -/
theorem nj_dj_ex {D : Nat → Nat} {H : Nat → Bool} : ∀ n, (∀ f, H f = true → f < n) → ∃ j, nj_dj D H j := by
  have key : ∀ n, ∃ j, 0 < j ∧ (∀ f, H f = true → f < n → D f < j) ∧ (j = 1 ∨ ∃ f, H f = true ∧ j = D f + 1) := by
    intro n
    induction n with
    | zero => exact ⟨1, by omega, fun f _ h => absurd h (by omega), Or.inl rfl⟩
    | succ n ih =>
      obtain ⟨j, j1, j2, j3⟩ := ih
      by_cases z : H n = true ∧ j ≤ D n
      · refine ⟨D n + 1, by omega, fun f hf hl => ?_, Or.inr ⟨n, z.1, rfl⟩⟩
        by_cases e : f = n
        · rw [e]; omega
        · have := j2 f hf (by omega)
          omega
      · refine ⟨j, j1, fun f hf hl => ?_, j3⟩
        by_cases e : f = n
        · rw [e] at hf ⊢
          rcases Nat.lt_or_ge (D n) j with y | y
          · exact y
          · exact absurd ⟨hf, y⟩ z
        · exact j2 f hf (by omega)
  intro n h
  obtain ⟨j, j1, j2, j3⟩ := key n
  exact ⟨j, j1, fun f hf => j2 f hf (h f hf), j3⟩
/-- the frame in which offers are made -/
def nj_Fr (fI fS : Int32) (a1 a2 a4 : Nat → Int32) (a5 a6 a7 a8 a9 a10 : Nat → Int64) (a11 : Nat → Int32) (ne nc : Nat) (T : Nat → Nat) (eb : Nat → Nat → Nat) (pl pd D : Nat → Nat) : Prop :=
  nj_X (nj_N fI fS a1 a2) ne nc T eb pl pd (nj_be a6 a7 a8) (nj_ps a5) D ∧ nj_L a9 a10 ne T D ∧ (∀ c, c < nc → a4 c = nI (pl c) ∧ pl c < 6) ∧ nc ≤ 136 ∧
  (∀ t, t < 8 → nj_bt fS t = true → ∃ p q, p < 6 ∧ q < 6 ∧ a1 t = nI (2 ^ p ||| 2 ^ q)) ∧
  (∀ m, m < 64 → ¬ a11 m = 0 → m = nj_cd ((nj_N fI fS a1 a2)).2.2.2 6 ∨ ∃ e, e < ne ∧ (nj_mo fI a1 a2) (nj_Ke (nj_N fI fS a1 a2) T eb (nj_ps a5) D e) = m)
theorem nj_N_wf (fI fS : Int32) (a1 a2 : Nat → Int32) : nj_wf (nj_N fI fS a1 a2) := fun t p h => (nj_g6.mp h).1
section
variable {fP fI fS fG fJ fU fC fE : Int32} {a1 a2 a3 a4 a11 a12 a13 a14 a16 a17 : Nat → Int32} {a5 a6 a7 a8 a9 a10 a15 a18 a19 a20 a21 : Nat → Int64} {ne nc : Nat} {T : Nat → Nat} {eb : Nat → Nat → Nat} {pl pd D : Nat → Nat} {S : Nat → (Nat → Nat) → Prop}
theorem nj_Hn (hX : nj_X (nj_N fI fS a1 a2) ne nc T eb pl pd (nj_be a6 a7 a8) (nj_ps a5) D) : ∀ t b, nj_pos (nj_N fI fS a1 a2) nc pl (nj_be a6 a7 a8) t b → ∀ f, nj_H (nj_N fI fS a1 a2) t b (nj_ps a5) 6 f = true → f < ne :=
  fun t b hp f hf => (nj_pos_cfg (nj_N_wf fI fS a1 a2) hX hp).1.1 f hf
theorem nj_offer {post : St1 → Prop} {t c1 : Nat} {b : Nat → Nat} {x2 : Int32} (hF : nj_Fr fI fS a1 a2 a4 a5 a6 a7 a8 a9 a10 a11 ne nc T eb pl pd D) (hpos : nj_pos (nj_N fI fS a1 a2) nc pl (nj_be a6 a7 a8) t b) (hc1 : c1 < nc) (hot : nj_ot (nj_N fI fS a1 a2) t b (nI c1) x2) (hsz : ∀ e, e < ne → nj_ct (nj_He (nj_N fI fS a1 a2) T eb (nj_ps a5) e) 64 < nj_on (a5 c1))
    (hO : nj_OI (nj_N fI fS a1 a2) ne nc T eb pl (nj_be a6 a7 a8) (nj_ps a5) D (nj_mo fI a1 a2) a11 a12 a13 a14 a15 S) (HP : ∀ b12 b13 b14 b15, nj_OI (nj_N fI fS a1 a2) ne nc T eb pl (nj_be a6 a7 a8) (nj_ps a5) D (nj_mo fI a1 a2) a11 b12 b13 b14 b15 (fun t' b' => S t' b' ∨ (t' = t ∧ ∀ p, ((nj_N fI fS a1 a2)).1 t p = true → b' p = b p)) → post (fP, fI, fS, fG, fJ, fU, fC, fE, a1, a2, a3, a4, a5, a6, a7, a8, a9, a10, a11, b12, b13, b14, b15, a16, a17, a18, a19, a20, a21)) :
    wpX_offer post (fP, fI, fS, fG, fJ, fU, fC, fE, a1, a2, a3, a4, a5, a6, a7, a8, a9, a10, a11, a12, a13, a14, a15, a16, a17, a18, a19, a20, a21) (nI t) (nI c1) x2 := by
  obtain ⟨hX, hL, h4, hnc, h2, hCl⟩ := hF
  have hw := nj_N_wf fI fS a1 a2
  have hH := nj_Hn hX
  have hot' := hot
  obtain ⟨p, hp, ep, hor⟩ := hot
  have bp := (hpos.2.2.1 p hp).1
  have ec1 : c1 = b p := (nI_eq (by omega) (by omega)).mp ep
  obtain ⟨j, hj⟩ := nj_dj_ex (D := D) ne (hH t b hpos)
  have ht := hpos.1
  have cl1 : (nI c1).toNatClampNeg = c1 := nI_clamp (by omega)
  have main : ∀ w : Int64, nj_bl w = nj_H (nj_N fI fS a1 a2) t b (nj_ps a5) 6 → (x2 = -1 ∨ ∃ c2, c2 < 136 ∧ x2 = nI c2) → wX_offer_23 post (nI t) (nI c1) x2 w fP fI fS fG fJ fU fC fE a1 a2 a3 a4 a5 a6 a7 a8 a9 a10 a11 a12 a13 a14 a15 a16 a17 a18 a19 a20 a21 := by
    intro w ew hx2
    have hon : nj_on w = nj_ct (nj_H (nj_N fI fS a1 a2) t b (nj_ps a5) 6) 64 := by unfold nj_on; rw [ew]
    have hbig : nj_on (a5 c1) ≤ nj_on w := by
      rw [hon]
      refine nj_ct_le 64 (fun f _ hf => (nj_H_6 hw).mpr ⟨p, hp, ?_⟩)
      rw [← ec1]
      exact hf
    refine nj_of23 (j := j) hL hH (by omega) hx2 (fun f hf => hH t b hpos f (by rw [← ew]; exact hf)) ht (by rw [ew]; exact hj) hO.1 rfl ?_ ?_ ?_
    · intro hc
      rw [ew] at hc
      refine HP _ _ _ _ (nj_OI_K hO hj hc ?_)
      rcases hCl _ (nj_mo_lt _ _ _ _) hc with g | ⟨e, e1, e2⟩
      · exact Or.inl g
      · refine Or.inr ⟨e, e1, e2, fun z => ?_⟩
        have := hsz e e1
        rcases z with z | z
        · omega
        · omega
    · intro hc u b' j' g l
      rw [ew] at hc g l
      rw [hon] at l
      exact HP _ _ _ _ (nj_OI_N hO hj hc g l)
    · intro hc g
      rw [ew] at hc g
      rw [hon] at g
      rw [ew]
      exact HP _ _ _ _ (nj_OI_U (nj_mo_lt fI a1 a2) hO hpos hj ew hot' (fun e he => by have := hsz e he; omega) rfl hc g)
  unfold wpX_offer
  refine ⟨vp_in_nI (by omega) (by decide), nm_e ?_⟩
  rw [cl1]
  rcases hor with ⟨e2, hq⟩ | ⟨q, qn, hq, e2, hr⟩
  · refine br_t (by rw [e2]; decide) (main _ ?_ (Or.inl e2))
    funext f
    rw [Bool.eq_iff_iff, nj_H_6 hw]
    constructor
    · intro g
      exact ⟨p, hp, by rw [← ec1]; exact g⟩
    · intro ⟨r, r1, r2⟩
      rw [hq r r1, ← ec1] at r2
      exact r2
  · have bq := (hpos.2.2.1 q hq).1
    have cl2 : (nI (b q)).toNatClampNeg = b q := nI_clamp (by omega)
    refine br_f (by rw [e2]; exact nI_pos (by omega)) ⟨by rw [e2]; exact vp_in_nI (by omega) (by decide), nm_e ?_⟩
    rw [e2, cl2]
    rw [e2] at main
    refine main _ ?_ (Or.inr ⟨b q, by omega, rfl⟩)
    funext f
    rw [Bool.eq_iff_iff, nj_H_6 hw, nj_bl_or, Bool.or_eq_true]
    constructor
    · intro g
      rcases g with g | g
      · exact ⟨p, hp, by rw [← ec1]; exact g⟩
      · exact ⟨q, hq, g⟩
    · intro ⟨r, r1, r2⟩
      rcases hr r r1 with g | g
      · rw [g, ← ec1] at r2
        exact Or.inl r2
      · rw [g] at r2
        exact Or.inr r2
/-- the bits of a set of one or two places -/
theorem nj_two {x : Int32} {p q i : Nat} (h : x = nI (2 ^ p ||| 2 ^ q)) (hi : i < 32) : nj_bt x i = true ↔ i = p ∨ i = q := by
  rw [h, nj_bt_nI _ hi, Nat.testBit_or, Nat.testBit_two_pow, Nat.testBit_two_pow, Bool.or_eq_true, decide_eq_true_iff, decide_eq_true_iff]
  exact ⟨fun a => a.imp Eq.symm Eq.symm, fun a => a.imp Eq.symm Eq.symm⟩
theorem nj_pw6 : ∀ x, x < 6 → ∀ y, y < 6 → 2 ^ x = 2 ^ y → x = y := by decide
theorem nj_pairUp {post : St1 → Prop} {t c q : Nat} {x3 : Int32} (hF : nj_Fr fI fS a1 a2 a4 a5 a6 a7 a8 a9 a10 a11 ne nc T eb pl pd D) (hc : c < nc) (ht : t < 8) (hht : nj_bt fS t = true) (hq : q ≠ pl c) (hq6 : q < 6) (hpre : ∀ p, ((nj_N fI fS a1 a2)).1 t p = true ↔ p = pl c ∨ p = q) (hx3 : x3 = nI (2 ^ q))
    (hsz : ∀ e, e < ne → nj_ct (nj_He (nj_N fI fS a1 a2) T eb (nj_ps a5) e) 64 < nj_on (a5 c)) (hO : nj_OI (nj_N fI fS a1 a2) ne nc T eb pl (nj_be a6 a7 a8) (nj_ps a5) D (nj_mo fI a1 a2) a11 a12 a13 a14 a15 S)
    (HP : ∀ b12 b13 b14 b15, nj_OI (nj_N fI fS a1 a2) ne nc T eb pl (nj_be a6 a7 a8) (nj_ps a5) D (nj_mo fI a1 a2) a11 b12 b13 b14 b15 (fun t' b' => S t' b' ∨ (t' = t ∧ b' (pl c) = c ∧ b' q < c)) → post (fP, fI, fS, fG, fJ, fU, fC, fE, a1, a2, a3, a4, a5, a6, a7, a8, a9, a10, a11, b12, b13, b14, b15, a16, a17, a18, a19, a20, a21)) : wpX_pairUp post (fP, fI, fS, fG, fJ, fU, fC, fE, a1, a2, a3, a4, a5, a6, a7, a8, a9, a10, a11, a12, a13, a14, a15, a16, a17, a18, a19, a20, a21) (nI t) (nI c) x3 := by
  have hF' := hF
  obtain ⟨hX, hL, h4, hnc, h2, hCl⟩ := hF
  have clc : (nI c).toNatClampNeg = c := nI_clamp (by omega)
  refine pk_loop (σ := (Nat → Int32) × (Nat → Int32) × (Nat → Int32) × (Nat → Int64)) (fun n i s => wX_pairUp_3 post (nI t) (nI c) x3 n (nI i) fP fI fS fG fJ fU fC fE a1 a2 a3 a4 a5 a6 a7 a8 a9 a10 a11 s.1 s.2.1 s.2.2.1 s.2.2.2 a16 a17 a18 a19 a20 a21)
    (fun i s => nj_OI (nj_N fI fS a1 a2) ne nc T eb pl (nj_be a6 a7 a8) (nj_ps a5) D (nj_mo fI a1 a2) a11 s.1 s.2.1 s.2.2.1 s.2.2.2 (fun t' b' => S t' b' ∨ (t' = t ∧ b' (pl c) = c ∧ b' q < i))) c 0 (a12, a13, a14, a15) (by omega) (nj_OI_mono hO (fun t' b' _ h => h.elim id (fun g => absurd g.2.2 (by omega)))) ?_ ?_
  · intro n s I
    exact pk_le c c (fun _ => HP _ _ _ _ I) (fun z => absurd z (by omega))
  · intro n i s hi I hw
    have cli : (nI i).toNatClampNeg = i := nI_clamp (by omega)
    refine pk_le c i (fun z => absurd z (by omega)) (fun _ => ⟨vp_in_nI (by omega) (by decide), ?_⟩)
    rw [cli, clc]
    obtain ⟨p1, p2⟩ := h4 i (by omega)
    have test : ((1 : Int32) <<< ((a4 i) &&& 31)) = x3 ↔ pl i = q := by
      rw [p1, nj_shl1 _ (by omega), hx3]
      constructor
      · intro e
        have := (nI_eq (Nat.lt_of_lt_of_le (Nat.pow_lt_pow_right (a := 2) (by decide) p2) (by decide)) (Nat.lt_of_lt_of_le (Nat.pow_lt_pow_right (a := 2) (by decide) hq6) (by decide))).mp e
        exact nj_pw6 _ p2 _ hq6 this
      · intro e
        rw [e]
    refine ek_if test (fun eq => ?_) (fun nq => nm_r (nI_1 i) (hw s (nj_OI_mono I (fun t' b' hp' h => ?_))))
    · refine ⟨vp_in_nI (by omega) (by decide), vp_in_nI (by omega) (by decide), vp_in_nI (by omega) (by decide), nj_inW (by omega) (fun hb => br_f (by decide) ?_) (fun hb => br_t rfl (nm_r (nI_1 i) (hw s (nj_OI_mono I (fun t' b' hp' h => ?_)))))⟩
      · -- the pair is offered
        obtain ⟨b0, hb1, hb2⟩ : ∃ b0 : Nat → Nat, b0 (pl c) = c ∧ b0 q = i := ⟨fun p => if p = pl c then c else i, if_pos rfl, if_neg hq⟩
        have hpos : nj_pos (nj_N fI fS a1 a2) nc pl (nj_be a6 a7 a8) t b0 := by
          refine ⟨ht, hht, fun p hp => ?_, fun p r hp hr hn => ?_⟩
          · rcases (hpre p).mp hp with g | g
            · rw [g, hb1]; exact ⟨hc, rfl⟩
            · rw [g, hb2]; exact ⟨by omega, eq⟩
          · rcases (hpre p).mp hp with g | g
            · rcases (hpre r).mp hr with g' | g'
              · omega
              · rw [g, g', hb1, hb2]; exact hb
            · rcases (hpre r).mp hr with g' | g'
              · rw [g, g', hb1, hb2]
                exact hX.2.2.2.2.2.2.2.2.2.1 c i hc (by omega) hb
              · omega
        refine nj_offer hF' hpos hc ⟨pl c, (hpre _).mpr (Or.inl rfl), by rw [hb1], Or.inr ⟨q, hq, (hpre _).mpr (Or.inr rfl), by rw [hb2], fun r hr => (hpre r).mp hr⟩⟩ hsz I (fun b12 b13 b14 b15 I' => ?_)
        refine nm_r (nI_1 i) (hw (b12, b13, b14, b15) (nj_OI_mono I' (fun t' b' hp' h => ?_)))
        rcases h with h | ⟨h1, h2', h3⟩
        · exact Or.inl (Or.inl h)
        · by_cases z : b' q = i
          · refine Or.inr ⟨h1, fun p hp => ?_⟩
            rcases (hpre p).mp hp with g | g
            · rw [g, hb1]; exact h2'
            · rw [g, hb2]; exact z
          · exact Or.inl (Or.inr ⟨h1, h2', by omega⟩)
      · rcases h with h | ⟨h1, h2', h3⟩
        · exact Or.inl h
        · by_cases z : b' q = i
          · subst h1
            have := hp'.2.2.2 (pl c) q ((hpre _).mpr (Or.inl rfl)) ((hpre _).mpr (Or.inr rfl)) (fun e => hq e.symm)
            rw [h2', z] at this
            exact absurd (hb.symm.trans this) (by decide)
          · exact Or.inr ⟨h1, h2', by omega⟩
    · rcases h with h | ⟨h1, h2', h3⟩
      · exact Or.inl h
      · by_cases z : b' q = i
        · subst h1
          have := (hp'.2.2.1 q ((hpre _).mpr (Or.inr rfl))).2
          rw [z] at this
          exact absurd this nq
        · exact Or.inr ⟨h1, h2', by omega⟩
/-- everything that takes condition c and none behind it is offered -/
theorem nj_extend {post : St1 → Prop} {c : Nat} (hF : nj_Fr fI fS a1 a2 a4 a5 a6 a7 a8 a9 a10 a11 ne nc T eb pl pd D) (hc : c < nc) (hsz : ∀ e, e < ne → nj_ct (nj_He (nj_N fI fS a1 a2) T eb (nj_ps a5) e) 64 < nj_on (a5 c)) (hO : nj_OI (nj_N fI fS a1 a2) ne nc T eb pl (nj_be a6 a7 a8) (nj_ps a5) D (nj_mo fI a1 a2) a11 a12 a13 a14 a15 (fun t b => ∀ p, ((nj_N fI fS a1 a2)).1 t p = true → b p < c))
    (HP : ∀ b12 b13 b14 b15, nj_OI (nj_N fI fS a1 a2) ne nc T eb pl (nj_be a6 a7 a8) (nj_ps a5) D (nj_mo fI a1 a2) a11 b12 b13 b14 b15 (fun t b => ∀ p, ((nj_N fI fS a1 a2)).1 t p = true → b p < c + 1) → post (fP, fI, fS, fG, fJ, fU, fC, fE, a1, a2, a3, a4, a5, a6, a7, a8, a9, a10, a11, b12, b13, b14, b15, a16, a17, a18, a19, a20, a21)) : wpX_extend post (fP, fI, fS, fG, fJ, fU, fC, fE, a1, a2, a3, a4, a5, a6, a7, a8, a9, a10, a11, a12, a13, a14, a15, a16, a17, a18, a19, a20, a21) (nI c) := by
  have hF' := hF
  obtain ⟨hX, hL, h4, hnc, h2, hCl⟩ := hF
  have clc : (nI c).toNatClampNeg = c := nI_clamp (by omega)
  obtain ⟨pc1, pc2⟩ := h4 c hc
  refine ⟨vp_in_nI (by omega) (by decide), nm_r (e' := nI (pl c)) (by rw [clc]; exact pc1) ?_⟩
  refine pk_loop (σ := (Nat → Int32) × (Nat → Int32) × (Nat → Int32) × (Nat → Int64)) (fun n i s => wX_extend_9 post (nI c) (nI (pl c)) n (nI i) fP fI fS fG fJ fU fC fE a1 a2 a3 a4 a5 a6 a7 a8 a9 a10 a11 s.1 s.2.1 s.2.2.1 s.2.2.2 a16 a17 a18 a19 a20 a21)
    (fun i s => nj_OI (nj_N fI fS a1 a2) ne nc T eb pl (nj_be a6 a7 a8) (nj_ps a5) D (nj_mo fI a1 a2) a11 s.1 s.2.1 s.2.2.1 s.2.2.2 (fun t b => (∀ p, ((nj_N fI fS a1 a2)).1 t p = true → b p < c) ∨ (t < i ∧ ∀ p, ((nj_N fI fS a1 a2)).1 t p = true → b p < c + 1))) 8 0 (a12, a13, a14, a15) (by omega) (nj_OI_mono hO (fun t b _ h => h.elim id (fun g => absurd g.1 (by omega)))) ?_ ?_
  · intro n s I
    exact pk_le 8 8 (fun _ => HP _ _ _ _ (nj_OI_mono I (fun t b hp h => Or.inr ⟨hp.1, h⟩))) (fun z => absurd z (by omega))
  · intro n i s hi I hw
    have cli : (nI i).toNatClampNeg = i := nI_clamp (by omega)
    -- if no event of transition i takes c, nothing is to do
    have skip : (∀ b, nj_pos (nj_N fI fS a1 a2) nc pl (nj_be a6 a7 a8) i b → (∀ p, ((nj_N fI fS a1 a2)).1 i p = true → b p < c + 1) → ∀ p, ((nj_N fI fS a1 a2)).1 i p = true → b p < c) → nj_OI (nj_N fI fS a1 a2) ne nc T eb pl (nj_be a6 a7 a8) (nj_ps a5) D (nj_mo fI a1 a2) a11 s.1 s.2.1 s.2.2.1 s.2.2.2 (fun t b => (∀ p, ((nj_N fI fS a1 a2)).1 t p = true → b p < c) ∨ (t < i + 1 ∧ ∀ p, ((nj_N fI fS a1 a2)).1 t p = true → b p < c + 1)) := by
      intro g
      refine nj_OI_mono I (fun t b hp h => ?_)
      rcases h with h | ⟨h1, h2'⟩
      · exact Or.inl h
      · by_cases z : t = i
        · subst z
          exact Or.inl (g b hp h2')
        · exact Or.inr ⟨by omega, h2'⟩
    refine pk_le 8 i (fun z => absurd z (by omega)) (fun _ => nj_has hi (fun hh => br_f (by decide) ⟨vp_in_nI hi (by decide), ?_⟩) (fun hh => br_t rfl (nm_r (nI_1 i) (hw s (skip (fun b hp => ?_))))))
    rotate_left 1
    · have := hp.2.1
      exact absurd (hh.symm.trans this) (by decide)
    rw [cli]
    refine ek_if (nj_bit (a1 i) (pl c) (by omega)) (fun hb => nm_r (nI_1 i) (hw s (skip (fun b hp hlt p hp1 => ?_)))) (fun hb => ⟨vp_in_nI hi (by decide), nm_e ?_⟩)
    · by_cases z : b p = c
      · have := (hp.2.2.1 p hp1).2
        rw [z] at this
        rw [← this] at hp1
        have := (nj_g6.mp hp1).2
        exact absurd (hb.symm.trans this) (by decide)
      · have := hlt p hp1
        omega
    have hb' := nj_ts_nf hb
    obtain ⟨p, q, hp6, hq6, ha⟩ := h2 i hi hh
    have pre : ∀ r, ((nj_N fI fS a1 a2)).1 i r = true ↔ r = p ∨ r = q := by
      intro r
      constructor
      · intro g
        obtain ⟨g1, g2⟩ := nj_g6.mp g
        exact (nj_two ha (by omega)).mp g2
      · intro g
        have : r < 6 := by omega
        exact nj_g6.mpr ⟨this, (nj_two ha (by omega)).mpr g⟩
    -- the other place
    obtain ⟨q', hq', hq6', pre'⟩ : ∃ q', (q' = p ∨ q' = q) ∧ q' < 6 ∧ ∀ r, ((nj_N fI fS a1 a2)).1 i r = true ↔ r = pl c ∨ r = q' := by
      rcases (nj_two ha (by omega)).mp hb' with g | g
      · exact ⟨q, Or.inr rfl, hq6, fun r => by rw [pre r, g]⟩
      · exact ⟨p, Or.inl rfl, hp6, fun r => by rw [pre r, g]; exact Or.comm⟩
    have bits : ∀ r, r < 32 → (nj_bt ((a1 i) &&& (((1 : Int32) <<< (nI (pl c) &&& 31)) ^^^ (-1))) r = true ↔ r = q' ∧ r ≠ pl c) := by
      intro r hr
      rw [nj_b_and, nj_b_xor, nj_b_m1 r hr, nj_bt_pw (by omega) hr, Bool.xor_true, Bool.and_eq_true]
      have e : nj_bt (a1 i) r = true ↔ r = pl c ∨ r = q' := by
        rw [← pre' r]
        constructor
        · intro g
          have := (nj_two ha hr).mp g
          exact nj_g6.mpr ⟨by omega, g⟩
        · intro g
          exact (nj_g6.mp g).2
      rw [e]
      by_cases z : r = pl c
      · simp [z]
      · simp [z]
    by_cases ez : q' = pl c
    · -- one place alone
      have e0 : (a1 i) &&& (((1 : Int32) <<< (nI (pl c) &&& 31)) ^^^ (-1)) = 0 := by
        refine (nj_0_iff _).mpr (fun r hr => ?_)
        cases z : nj_bt ((a1 i) &&& (((1 : Int32) <<< (nI (pl c) &&& 31)) ^^^ (-1))) r
        · rfl
        · have := (bits r hr).mp z
          omega
      have hpos : nj_pos (nj_N fI fS a1 a2) nc pl (nj_be a6 a7 a8) i (fun _ => c) := by
        refine ⟨hi, hh, fun r hr => ⟨hc, ?_⟩, fun r r' hr hr' hn => ?_⟩
        · have := (pre' r).mp hr
          show pl c = r
          omega
        · have := (pre' r).mp hr
          have := (pre' r').mp hr'
          omega
      refine br_t e0 (nj_offer hF' hpos hc ⟨pl c, (pre' _).mpr (Or.inl rfl), rfl, Or.inl ⟨rfl, fun r hr => by have := (pre' r).mp hr; omega⟩⟩ hsz I (fun b12 b13 b14 b15 I' => nm_r (nI_1 i) (hw (b12, b13, b14, b15) (nj_OI_mono I' (fun t b hp h => ?_)))))
      rcases h with h | ⟨h1, h2'⟩
      · exact Or.inl (Or.inl h)
      · by_cases z : t = i
        · subst z
          by_cases zc : b (pl c) = c
          · refine Or.inr ⟨rfl, fun r hr => ?_⟩
            have : r = pl c := by have := (pre' r).mp hr; omega
            rw [this]; exact zc
          · refine Or.inl (Or.inl (fun r hr => ?_))
            have e1 : r = pl c := by have := (pre' r).mp hr; omega
            have := h2' r hr
            rw [e1] at this ⊢
            omega
        · exact Or.inl (Or.inr ⟨by omega, h2'⟩)
    · -- two places
      have e1 : (a1 i) &&& (((1 : Int32) <<< (nI (pl c) &&& 31)) ^^^ (-1)) = nI (2 ^ q') := by
        refine nj_b_ext (fun r hr => ?_)
        rw [nj_bt_nI _ hr, Nat.testBit_two_pow, Bool.eq_iff_iff, bits r hr, decide_eq_true_iff]
        constructor
        · intro g; exact g.1.symm
        · intro g; exact ⟨g.symm, by omega⟩
      have n0 : ¬ (a1 i) &&& (((1 : Int32) <<< (nI (pl c) &&& 31)) ^^^ (-1)) = 0 := by
        rw [e1]
        exact nI_ne0 (Nat.two_pow_pos _) (Nat.lt_of_lt_of_le (Nat.pow_lt_pow_right (a := 2) (by decide) hq6') (by decide))
      refine br_f n0 (nj_pairUp hF' hc hi hh ez hq6' pre' e1 hsz I (fun b12 b13 b14 b15 I' => nm_r (nI_1 i) (hw (b12, b13, b14, b15) (nj_OI_mono I' (fun t b hp h => ?_)))))
      rcases h with h | ⟨h1, h2'⟩
      · exact Or.inl (Or.inl h)
      · by_cases z : t = i
        · subst z
          have pq := (hp.2.2.1 q' ((pre' _).mpr (Or.inr rfl))).2
          have bq : b q' ≠ c := fun e => by rw [e] at pq; exact ez pq.symm
          have bq' := h2' q' ((pre' _).mpr (Or.inr rfl))
          have bc' := h2' (pl c) ((pre' _).mpr (Or.inl rfl))
          by_cases zc : b (pl c) = c
          · exact Or.inr ⟨rfl, zc, by omega⟩
          · refine Or.inl (Or.inl (fun r hr => ?_))
            rcases (pre' r).mp hr with g | g
            · rw [g]; omega
            · rw [g]; omega
        · exact Or.inl (Or.inr ⟨by omega, h2'⟩)
end
end
section
/-! new conditions, and who stands beside whom -/
section
variable {fP fI fS fG fJ fU fC fE : Int32} {a1 a2 a3 a4 a11 a12 a13 a14 a16 a17 : Nat → Int32} {a5 a6 a7 a8 a9 a10 a15 a18 a19 a20 a21 : Nat → Int64}
theorem nj_newCondition {post : Int32 → St1 → Prop} {nc : Nat} {x1 : Nat} {x2 : Int64} (hC : fC = nI nc) (hnc : nc < 136) (hx1 : x1 < 128) (H : post (nI nc) (fP, fI, fS, fG, fJ, fU, nI (nc + 1), fE, a1, a2, a3, upd a4 nc (nI x1), vp_updL a5 nc x2, vp_updL a6 nc 0, vp_updL a7 nc 0, vp_updL a8 nc 0, a9, a10, a11, a12, a13, a14, a15, a16, a17, a18, a19, a20, a21)) : wpX_newCondition post (fP, fI, fS, fG, fJ, fU, fC, fE, a1, a2, a3, a4, a5, a6, a7, a8, a9, a10, a11, a12, a13, a14, a15, a16, a17, a18, a19, a20, a21) (nI x1) x2 := by
  subst hC
  have e : (nI nc).toNatClampNeg = nc := nI_clamp (by omega)
  unfold wpX_newCondition
  refine pk_le 136 nc (fun z => absurd z (by omega)) (fun _ => ?_)
  unfold wX_newCondition_20
  rw [e, nj_i8 x1 hx1]
  exact ⟨vp_in_nI hnc (by decide), nm_e ⟨vp_in_nI hnc (by decide), nm_e ⟨vp_in_nI hnc (by decide), nm_e ⟨vp_in_nI hnc (by decide), nm_e ⟨vp_in_nI hnc (by decide), nm_e (nm_r (nI_1 nc) H)⟩⟩⟩⟩⟩
theorem nj_mark {post : St1 → Prop} {c d : Nat} (hc : c < 136) (hd : d < 136) (H : ∀ b6 b7 b8, (∀ x y, nj_be b6 b7 b8 x y = ((nj_be a6 a7 a8) x y || (decide (x = c) && decide (y = d)))) → post (fP, fI, fS, fG, fJ, fU, fC, fE, a1, a2, a3, a4, a5, b6, b7, b8, a9, a10, a11, a12, a13, a14, a15, a16, a17, a18, a19, a20, a21)) : wpX_mark post (fP, fI, fS, fG, fJ, fU, fC, fE, a1, a2, a3, a4, a5, a6, a7, a8, a9, a10, a11, a12, a13, a14, a15, a16, a17, a18, a19, a20, a21) (nI c) (nI d) := by
  have e : (nI c).toNatClampNeg = c := nI_clamp (by omega)
  have pw : ∀ k, k < 64 → ∀ (f : Nat → Int64) (x i : Nat), nj_bl (vp_updL f c (f c ||| ((1 : Int64) <<< ((nI k).toInt64 &&& 63))) x) i = (nj_bl (f x) i || (decide (x = c) && decide (i = k))) := by
    intro k hk f x i
    by_cases z : x = c
    · rw [z, pk_uLs, nj_bl_or, nj_bl_pw hk, decide_eq_true rfl, Bool.true_and]
    · rw [pk_uLn z, decide_eq_false z, Bool.false_and, Bool.or_false]
  unfold wpX_mark
  dsimp only
  rw [e]
  refine pk_le 64 d (fun l => pk_le 128 d (fun l2 => ?_) (fun l2 => ?_)) (fun l => ?_)
  · refine ⟨vp_in_nI hc (by decide), vp_in_nI hc (by decide), nm_e (H _ _ _ (fun x y => ?_))⟩
    have e2 : nI d - 128 = nI (d - 128) := pk_sub (b := 128) l2
    unfold nj_be nj_w3
    rw [e2]
    by_cases y1 : y < 64
    · rw [if_pos y1, if_pos y1, decide_eq_false (show ¬ y = d by omega), Bool.and_false, Bool.or_false]
    · by_cases y2 : y < 128
      · rw [if_neg y1, if_pos y2, if_neg y1, if_pos y2, decide_eq_false (show ¬ y = d by omega), Bool.and_false, Bool.or_false]
      · rw [if_neg y1, if_neg y2, if_neg y1, if_neg y2, pw (d - 128) (by omega)]
        by_cases z : y = d
        · rw [decide_eq_true z, decide_eq_true (show y - 128 = d - 128 by omega)]
        · rw [decide_eq_false z, decide_eq_false (show ¬ y - 128 = d - 128 by omega)]
  · refine ⟨vp_in_nI hc (by decide), vp_in_nI hc (by decide), nm_e (H _ _ _ (fun x y => ?_))⟩
    have e2 : nI d - 64 = nI (d - 64) := pk_sub (b := 64) l
    unfold nj_be nj_w3
    rw [e2]
    by_cases y1 : y < 64
    · rw [if_pos y1, if_pos y1, decide_eq_false (show ¬ y = d by omega), Bool.and_false, Bool.or_false]
    · by_cases y2 : y < 128
      · rw [if_neg y1, if_pos y2, if_neg y1, if_pos y2, pw (d - 64) (by omega)]
        by_cases z : y = d
        · rw [decide_eq_true z, decide_eq_true (show y - 64 = d - 64 by omega)]
        · rw [decide_eq_false z, decide_eq_false (show ¬ y - 64 = d - 64 by omega)]
      · rw [if_neg y1, if_neg y2, if_neg y1, if_neg y2, decide_eq_false (show ¬ y = d by omega), Bool.and_false, Bool.or_false]
  · refine ⟨vp_in_nI hc (by decide), vp_in_nI hc (by decide), nm_e (H _ _ _ (fun x y => ?_))⟩
    unfold nj_be nj_w3
    by_cases y1 : y < 64
    · rw [if_pos y1, if_pos y1, pw d l]
    · by_cases y2 : y < 128
      · rw [if_neg y1, if_pos y2, decide_eq_false (show ¬ y = d by omega), Bool.and_false, Bool.or_false, if_neg y1]
      · rw [if_neg y1, if_neg y2, decide_eq_false (show ¬ y = d by omega), Bool.and_false, Bool.or_false, if_neg y1]
theorem nj_putBeside {post : St1 → Prop} {c d : Nat} (hc : c < 136) (hd : d < 136) (H : ∀ b6 b7 b8, (∀ x y, nj_be b6 b7 b8 x y = true ↔ (nj_be a6 a7 a8) x y = true ∨ (x = c ∧ y = d) ∨ (x = d ∧ y = c)) → post (fP, fI, fS, fG, fJ, fU, fC, fE, a1, a2, a3, a4, a5, b6, b7, b8, a9, a10, a11, a12, a13, a14, a15, a16, a17, a18, a19, a20, a21)) : wpX_putBeside post (fP, fI, fS, fG, fJ, fU, fC, fE, a1, a2, a3, a4, a5, a6, a7, a8, a9, a10, a11, a12, a13, a14, a15, a16, a17, a18, a19, a20, a21) (nI c) (nI d) := by
  unfold wpX_putBeside
  refine nj_mark hc hd (fun b6 b7 b8 h => ?_)
  refine nj_mark hd hc (fun d6 d7 d8 g => H d6 d7 d8 (fun x y => ?_))
  rw [g, h, Bool.or_eq_true, Bool.or_eq_true, Bool.and_eq_true, Bool.and_eq_true, decide_eq_true_iff, decide_eq_true_iff, decide_eq_true_iff, decide_eq_true_iff]
  exact or_assoc
/-- who is to stand beside the fresh one -/
def nj_B (f0 : Nat) (x y z : Int64) (k : Nat) : Prop := f0 ≤ k ∨ nj_w3 x y z k = true
theorem nj_settle {post : St1 → Prop} {c f0 : Nat} {x3 x5 x7 : Int64} (hc : c < 136) (hf : f0 < 1000)
    (H : ∀ gU b6 b7 b8, (gU = 0 → fU = 0 ∧ ∀ k, k < c → nj_B f0 x3 x5 x7 k → ¬ a4 k = a4 c) → (∀ x y, nj_be b6 b7 b8 x y = true ↔ (nj_be a6 a7 a8) x y = true ∨ (x = c ∧ y < c ∧ nj_B f0 x3 x5 x7 y) ∨ (y = c ∧ x < c ∧ nj_B f0 x3 x5 x7 x)) → post (fP, fI, fS, fG, fJ, gU, fC, fE, a1, a2, a3, a4, a5, b6, b7, b8, a9, a10, a11, a12, a13, a14, a15, a16, a17, a18, a19, a20, a21)) : wpX_settle post (fP, fI, fS, fG, fJ, fU, fC, fE, a1, a2, a3, a4, a5, a6, a7, a8, a9, a10, a11, a12, a13, a14, a15, a16, a17, a18, a19, a20, a21) (nI c) (nI f0) x3 x5 x7 := by
  have ec : (nI c).toNatClampNeg = c := nI_clamp (by omega)
  refine pk_loop (σ := Int32 × (Nat → Int64) × (Nat → Int64) × (Nat → Int64)) (fun n i s => wX_settle_3 post (nI c) (nI f0) x3 x5 x7 n (nI i) fP fI fS fG fJ s.1 fC fE a1 a2 a3 a4 a5 s.2.1 s.2.2.1 s.2.2.2 a9 a10 a11 a12 a13 a14 a15 a16 a17 a18 a19 a20 a21)
    (fun i s => (s.1 = 0 → fU = 0 ∧ ∀ k, k < i → nj_B f0 x3 x5 x7 k → ¬ a4 k = a4 c) ∧ ∀ x y, nj_be s.2.1 s.2.2.1 s.2.2.2 x y = true ↔ (nj_be a6 a7 a8) x y = true ∨ (x = c ∧ y < i ∧ nj_B f0 x3 x5 x7 y) ∨ (y = c ∧ x < i ∧ nj_B f0 x3 x5 x7 x)) c 0 (fU, a6, a7, a8) (by omega) ?_ ?_ ?_
  · refine ⟨fun h => ⟨h, fun k hk => absurd hk (by omega)⟩, fun x y => ⟨fun h => Or.inl h, fun h => ?_⟩⟩
    rcases h with h | ⟨_, h, _⟩ | ⟨_, h, _⟩
    · exact h
    · omega
    · omega
  · intro n s ⟨I1, I2⟩
    exact pk_le c c (fun _ => H _ _ _ _ I1 I2) (fun z => absurd z (by omega))
  · intro n i s hi ⟨I1, I2⟩ hw
    have ei : (nI i).toNatClampNeg = i := nI_clamp (by omega)
    have yes : nj_B f0 x3 x5 x7 i → wX_settle_33 post (wX_settle_3 post (nI c) (nI f0) x3 x5 x7 n) (nI c) (nI f0) x3 x5 x7 (nI i) 1 fP fI fS fG fJ s.1 fC fE a1 a2 a3 a4 a5 s.2.1 s.2.2.1 s.2.2.2 a9 a10 a11 a12 a13 a14 a15 a16 a17 a18 a19 a20 a21 := by
      intro hB
      unfold wX_settle_33
      refine br_f (by decide) (nj_putBeside (by omega) hc (fun b6 b7 b8 h => ⟨vp_in_nI (by omega) (by decide), vp_in_nI hc (by decide), ?_⟩))
      rw [ei, ec]
      have hbe : ∀ x y, nj_be b6 b7 b8 x y = true ↔ (nj_be a6 a7 a8) x y = true ∨ (x = c ∧ y < i + 1 ∧ nj_B f0 x3 x5 x7 y) ∨ (y = c ∧ x < i + 1 ∧ nj_B f0 x3 x5 x7 x) := by
        intro x y
        rw [h x y, I2 x y]
        constructor
        · intro g
          rcases g with (g | ⟨g1, g2, g3⟩ | ⟨g1, g2, g3⟩) | ⟨g1, g2⟩ | ⟨g1, g2⟩
          · exact Or.inl g
          · exact Or.inr (Or.inl ⟨g1, by omega, g3⟩)
          · exact Or.inr (Or.inr ⟨g1, by omega, g3⟩)
          · exact Or.inr (Or.inr ⟨g2, by omega, by rw [g1]; exact hB⟩)
          · exact Or.inr (Or.inl ⟨g1, by omega, by rw [g2]; exact hB⟩)
        · intro g
          rcases g with g | ⟨g1, g2, g3⟩ | ⟨g1, g2, g3⟩
          · exact Or.inl (Or.inl g)
          · by_cases z : y = i
            · exact Or.inr (Or.inr ⟨g1, z⟩)
            · exact Or.inl (Or.inr (Or.inl ⟨g1, by omega, g3⟩))
          · by_cases z : x = i
            · exact Or.inr (Or.inl ⟨z, g1⟩)
            · exact Or.inl (Or.inr (Or.inr ⟨g1, by omega, g3⟩))
      refine br_c (fun e => nm_r (nI_1 i) (hw (1, b6, b7, b8) ⟨fun z => absurd (show (1 : Int32) = 0 from z) (by decide), hbe⟩)) (fun e => nm_r (nI_1 i) (hw (s.1, b6, b7, b8) ⟨fun z => ⟨(I1 z).1, fun k hk hBk => ?_⟩, hbe⟩))
      by_cases y : k = i
      · rw [y]; exact e
      · exact (I1 z).2 k (by omega) hBk
    have no : ¬ nj_B f0 x3 x5 x7 i → wX_settle_33 post (wX_settle_3 post (nI c) (nI f0) x3 x5 x7 n) (nI c) (nI f0) x3 x5 x7 (nI i) 0 fP fI fS fG fJ s.1 fC fE a1 a2 a3 a4 a5 s.2.1 s.2.2.1 s.2.2.2 a9 a10 a11 a12 a13 a14 a15 a16 a17 a18 a19 a20 a21 := by
      intro hB
      refine br_t rfl (nm_r (nI_1 i) (hw s ⟨fun z => ⟨(I1 z).1, fun k hk hBk => ?_⟩, fun x y => ?_⟩))
      · by_cases y : k = i
        · rw [y] at hBk; exact absurd hBk hB
        · exact (I1 z).2 k (by omega) hBk
      · rw [I2 x y]
        constructor
        · intro g
          rcases g with g | ⟨g1, g2, g3⟩ | ⟨g1, g2, g3⟩
          · exact Or.inl g
          · exact Or.inr (Or.inl ⟨g1, by omega, g3⟩)
          · exact Or.inr (Or.inr ⟨g1, by omega, g3⟩)
        · intro g
          rcases g with g | ⟨g1, g2, g3⟩ | ⟨g1, g2, g3⟩
          · exact Or.inl g
          · by_cases z : y = i
            · rw [z] at g3; exact absurd g3 hB
            · exact Or.inr (Or.inl ⟨g1, by omega, g3⟩)
          · by_cases z : x = i
            · rw [z] at g3; exact absurd g3 hB
            · exact Or.inr (Or.inr ⟨g1, by omega, g3⟩)
    refine pk_le c i (fun z => absurd z (by omega)) (fun _ => pk_le f0 i (fun l => yes (Or.inl l)) (fun l => nj_inW (by omega) (fun h => br_f (by decide) (yes (Or.inr h))) (fun h => br_t rfl (no (fun g => ?_)))))
    rcases g with g | g
    · omega
    · exact absurd (h.symm.trans g) (by decide)
end
end
section
/-! the conditions of the first marking -/
def nj_PI (N : nj_Net) (fC fU : Int32) (a4 : Nat → Int32) (a5 a6 a7 a8 : Nat → Int64) (ne nc : Nat) (T : Nat → Nat) (eb : Nat → Nat → Nat) (pl pd D : Nat → Nat) (k0 k : Nat) : Prop :=
  fC = nI nc ∧ nj_Xk N ne nc T eb pl pd (nj_be a6 a7 a8) (nj_ps a5) D k0 k ∧ (∀ c, c < nc → a4 c = nI (pl c) ∧ pl c < 6) ∧ (∀ c d, c < nc → (nj_be a6 a7 a8) c d = true → d < nc) ∧ (fU = 0 → ∀ c d, c < nc → d < nc → (nj_be a6 a7 a8) c d = true → pl c ≠ pl d)
theorem nj_be_up {a6 a7 a8 : Nat → Int64} {c : Nat} (x y : Nat) : nj_be (vp_updL a6 c 0) (vp_updL a7 c 0) (vp_updL a8 c 0) x y = true ↔ x ≠ c ∧ nj_be a6 a7 a8 x y = true := by
  unfold nj_be
  by_cases z : x = c
  · rw [z, pk_uLs, pk_uLs, pk_uLs]
    constructor
    · intro h
      unfold nj_w3 at h
      rw [nj_bl_0, nj_bl_0, nj_bl_0] at h
      by_cases y1 : y < 64
      · rw [if_pos y1] at h; exact absurd h (by decide)
      · by_cases y2 : y < 128
        · rw [if_neg y1, if_pos y2] at h; exact absurd h (by decide)
        · rw [if_neg y1, if_neg y2] at h; exact absurd h (by decide)
    · intro h
      exact absurd rfl h.1
  · rw [pk_uLn z, pk_uLn z, pk_uLn z]
    exact ⟨fun h => ⟨z, h⟩, fun h => h.2⟩
section
variable {N : nj_Net} {fC fU : Int32} {a4 : Nat → Int32} {a5 a6 a7 a8 b6 b7 b8 : Nat → Int64} {ne nc : Nat} {T : Nat → Nat} {eb : Nat → Nat → Nat} {pl pd D : Nat → Nat} {k0 k : Nat}
theorem nj_a4_up {c : Nat} (h4 : ∀ c, c < nc → a4 c = nI (pl c) ∧ pl c < 6) (hk : k < 6) (hc : c < nc + 1) : upd a4 nc (nI k) c = nI (nj_up pl nc k c) ∧ nj_up pl nc k c < 6 := by
  by_cases z : c = nc
  · rw [z, pk_us, nj_up_s]; exact ⟨rfl, hk⟩
  · rw [pk_un z, nj_up_n z]; exact h4 c (by omega)
theorem nj_ps_up {w : Int64} {c f : Nat} (hc : c < nc) : nj_ps (vp_updL a5 nc w) c f = nj_ps a5 c f := by
  unfold nj_ps
  rw [pk_uLn (by omega)]
theorem nj_PI_add0 (h : nj_PI N fC fU a4 a5 a6 a7 a8 0 nc T eb pl pd D k0 k) (hpo : N.2.2.2 k0 = true) (hk : k0 < 6)
    (hbe : ∀ x y, nj_be b6 b7 b8 x y = true ↔ nj_be (vp_updL a6 nc 0) (vp_updL a7 nc 0) (vp_updL a8 nc 0) x y = true ∨ (x = nc ∧ y < nc) ∨ (y = nc ∧ x < nc)) :
    nj_PI N (nI (nc + 1)) fU (upd a4 nc (nI k0)) (vp_updL a5 nc 0) b6 b7 b8 0 (nc + 1) T eb (nj_up pl nc k0) (nj_up pd nc 0) D (k0 + 1) k := by
  obtain ⟨h1, h2, h3, h4, h5⟩ := h
  have be1 : ∀ c d, c < nc → d < nc → nj_be b6 b7 b8 c d = (nj_be a6 a7 a8) c d := by
    intro c d hc hd
    rw [Bool.eq_iff_iff, hbe, nj_be_up]
    constructor
    · intro g
      rcases g with g | g | g
      · exact g.2
      · omega
      · omega
    · intro g
      exact Or.inl ⟨by omega, g⟩
  have be0 : nj_be b6 b7 b8 nc nc = false := by
    cases z : nj_be b6 b7 b8 nc nc
    · rfl
    · rcases (hbe nc nc).mp z with g | g | g
      · exact absurd rfl ((nj_be_up nc nc).mp g).1
      · omega
      · omega
  refine ⟨rfl, nj_Xk_cond0 h2 hpo (fun c f hc => nj_ps_up hc) (fun f => ?_) be1 be0 (fun d hd => ⟨(hbe nc d).mpr (Or.inr (Or.inl ⟨rfl, hd⟩)), (hbe d nc).mpr (Or.inr (Or.inr ⟨rfl, hd⟩))⟩), fun c hc => nj_a4_up h3 hk hc, fun c d hc hb => ?_, fun hU c d hc hd hb => ?_⟩
  · unfold nj_ps
    rw [pk_uLs, nj_bl_0]
  · rcases (hbe c d).mp hb with g | g | g
    · obtain ⟨g1, g2⟩ := (nj_be_up c d).mp g
      have := h4 c d (by omega) g2
      omega
    · omega
    · omega
  · by_cases z : c = nc
    · by_cases z2 : d = nc
      · rw [z, z2, be0] at hb
        exact absurd hb (by decide)
      · rw [z, nj_up_s, nj_up_n z2]
        have := (h2.2.2.2.2.2.2.2.2.2.2.2.2.2 d (by omega)).1 (by have := (h2.2.1 d (by omega)).1; omega)
        omega
    · by_cases z2 : d = nc
      · rw [z2, nj_up_s, nj_up_n z]
        have := (h2.2.2.2.2.2.2.2.2.2.2.2.2.2 c (by omega)).1 (by have := (h2.2.1 c (by omega)).1; omega)
        omega
      · rw [nj_up_n z, nj_up_n z2]
        rw [be1 c d (by omega) (by omega)] at hb
        exact h5 hU c d (by omega) (by omega) hb
theorem nj_PI_add (h : nj_PI N fC fU a4 a5 a6 a7 a8 ne nc T eb pl pd D k0 k) (hne : 0 < ne) (hpo : N.2.1 (T (ne - 1)) k = true) (hk : k < 6) {f0 : Nat} {x y z w : Int64} {gU : Int32}
    (hf0 : ∀ c, c < nc → (f0 ≤ c ↔ pd c = ne)) (hfn : f0 ≤ nc) (hW : ∀ d, d < f0 → (nj_w3 x y z d = true ↔ ∀ p, N.1 (T (ne - 1)) p = true → (nj_be a6 a7 a8) (eb (ne - 1) p) d = true))
    (hw : ∀ f, nj_bl w f = true ↔ (f = ne - 1 ∨ ∃ p, N.1 (T (ne - 1)) p = true ∧ nj_ps a5 (eb (ne - 1) p) f = true))
    (hU : gU = 0 → fU = 0 ∧ ∀ c, c < nc → nj_B f0 x y z c → ¬ upd a4 nc (nI k) c = upd a4 nc (nI k) nc)
    (hbe : ∀ c d, nj_be b6 b7 b8 c d = true ↔ nj_be (vp_updL a6 nc 0) (vp_updL a7 nc 0) (vp_updL a8 nc 0) c d = true ∨ (c = nc ∧ d < nc ∧ nj_B f0 x y z d) ∨ (d = nc ∧ c < nc ∧ nj_B f0 x y z c)) :
    nj_PI N (nI (nc + 1)) gU (upd a4 nc (nI k)) (vp_updL a5 nc w) b6 b7 b8 ne (nc + 1) T eb (nj_up pl nc k) (nj_up pd nc ne) D k0 (k + 1) ∧
      (∀ c, c < nc + 1 → (f0 ≤ c ↔ nj_up pd nc ne c = ne)) ∧ (∀ d, d < f0 → (nj_w3 x y z d = true ↔ ∀ p, N.1 (T (ne - 1)) p = true → nj_be b6 b7 b8 (eb (ne - 1) p) d = true)) ∧
      (∀ f, nj_bl w f = true ↔ (f = ne - 1 ∨ ∃ p, N.1 (T (ne - 1)) p = true ∧ nj_ps (vp_updL a5 nc w) (eb (ne - 1) p) f = true)) := by
  obtain ⟨h1, h2, h3, h4, h5⟩ := h
  have ebn := fun p hp => ((h2.1 (ne - 1) (by omega)).2.2 p hp).1
  have be1 : ∀ c d, c < nc → d < nc → nj_be b6 b7 b8 c d = (nj_be a6 a7 a8) c d := by
    intro c d hc hd
    rw [Bool.eq_iff_iff, hbe, nj_be_up]
    constructor
    · intro g
      rcases g with g | g | g
      · exact g.2
      · omega
      · omega
    · intro g
      exact Or.inl ⟨by omega, g⟩
  have be0 : nj_be b6 b7 b8 nc nc = false := by
    cases zz : nj_be b6 b7 b8 nc nc
    · rfl
    · rcases (hbe nc nc).mp zz with g | g | g
      · exact absurd rfl ((nj_be_up nc nc).mp g).1
      · omega
      · omega
  have ben : ∀ d, d < nc → (nj_be b6 b7 b8 nc d = true ↔ nj_B f0 x y z d) := by
    intro d hd
    rw [hbe, nj_be_up]
    constructor
    · intro g
      rcases g with g | g | g
      · exact absurd rfl g.1
      · exact g.2.2
      · omega
    · intro g
      exact Or.inr (Or.inl ⟨rfl, hd, g⟩)
  have bed : ∀ d, d < nc → (nj_be b6 b7 b8 d nc = true ↔ nj_B f0 x y z d) := by
    intro d hd
    rw [hbe, nj_be_up]
    constructor
    · intro g
      rcases g with g | g | g
      · have := h4 d nc hd g.2
        omega
      · omega
      · exact g.2.2
    · intro g
      exact Or.inr (Or.inr ⟨rfl, hd, g⟩)
  have Bd : ∀ d, d < nc → (nj_B f0 x y z d ↔ pd d = ne ∨ ∀ p, N.1 (T (ne - 1)) p = true → (nj_be a6 a7 a8) (eb (ne - 1) p) d = true) := by
    intro d hd
    unfold nj_B
    by_cases g : f0 ≤ d
    · have := (hf0 d hd).mp g
      exact ⟨fun _ => Or.inl this, fun _ => Or.inl g⟩
    · have n1 : ¬ pd d = ne := fun e => g ((hf0 d hd).mpr e)
      rw [hW d (by omega)]
      exact ⟨fun a => a.elim (fun b => absurd b g) Or.inr, fun a => a.elim (fun b => absurd b n1) Or.inr⟩
  refine ⟨⟨rfl, nj_Xk_cond h2 hne hpo (fun c f hc => nj_ps_up hc) (fun f => ?_) be1 be0 (fun d hd => ?_) (fun d hd => (ben d hd).trans (Bd d hd)), fun c hc => nj_a4_up h3 hk hc, fun c d hc hb => ?_, fun hg c d hc hd hb => ?_⟩, fun c hc => ?_, fun d hd => ?_, fun f => ?_⟩
  · unfold nj_ps
    rw [pk_uLs]
    exact hw f
  · rw [Bool.eq_iff_iff, ben d hd, bed d hd]
  · rcases (hbe c d).mp hb with g | g | g
    · obtain ⟨g1, g2⟩ := (nj_be_up c d).mp g
      have := h4 c d (by omega) g2
      omega
    · omega
    · omega
  · obtain ⟨u1, u2⟩ := hU hg
    have ne1 : ∀ c, c < nc → nj_B f0 x y z c → pl c ≠ k := by
      intro c hc hB e
      refine u2 c hc hB ?_
      rw [pk_un (by omega), pk_us, (h3 c hc).1, e]
    by_cases zc : c = nc
    · by_cases zd : d = nc
      · rw [zc, zd, be0] at hb
        exact absurd hb (by decide)
      · rw [zc] at hb
        rw [zc, nj_up_s, nj_up_n zd]
        exact fun e => ne1 d (by omega) ((ben d (by omega)).mp hb) e.symm
    · by_cases zd : d = nc
      · rw [zd] at hb
        rw [zd, nj_up_s, nj_up_n zc]
        exact ne1 c (by omega) ((bed c (by omega)).mp hb)
      · rw [nj_up_n zc, nj_up_n zd]
        rw [be1 c d (by omega) (by omega)] at hb
        exact h5 u1 c d (by omega) (by omega) hb
  · by_cases zc : c = nc
    · rw [zc, nj_up_s]
      exact ⟨fun _ => rfl, fun _ => hfn⟩
    · rw [nj_up_n zc]
      exact hf0 c (by omega)
  · rw [hW d hd]
    constructor
    · intro g p hp
      rw [be1 _ _ (ebn p hp) (by omega)]
      exact g p hp
    · intro g p hp
      have := g p hp
      rw [be1 _ _ (ebn p hp) (by omega)] at this
      exact this
  · rw [hw f]
    constructor
    · intro g
      rcases g with g | ⟨p, g1, g2⟩
      · exact Or.inl g
      · exact Or.inr ⟨p, g1, by rw [nj_ps_up (ebn p g1)]; exact g2⟩
    · intro g
      rcases g with g | ⟨p, g1, g2⟩
      · exact Or.inl g
      · exact Or.inr ⟨p, g1, by rw [nj_ps_up (ebn p g1)] at g2; exact g2⟩
end
section
variable {fP fI fS fG fJ fU fC fE : Int32} {a1 a2 a3 a4 a11 a12 a13 a14 a16 a17 : Nat → Int32} {a5 a6 a7 a8 a9 a10 a15 a18 a19 a20 a21 : Nat → Int64} {ne nc : Nat} {T : Nat → Nat} {eb : Nat → Nat → Nat} {pl pd D : Nat → Nat}
theorem nj_plant30 {post : St1 → Prop} {J2 : Int32 → Int32 → Int32 → Int32 → Int32 → Int32 → Int32 → Int32 → Int32 → (Nat → Int32) → (Nat → Int32) → (Nat → Int32) → (Nat → Int32) → (Nat → Int64) → (Nat → Int64) → (Nat → Int64) → (Nat → Int64) → (Nat → Int64) → (Nat → Int64) → (Nat → Int32) → (Nat → Int32) → (Nat → Int32) → (Nat → Int32) → (Nat → Int64) → (Nat → Int32) → (Nat → Int32) → (Nat → Int64) → (Nat → Int64) → (Nat → Int64) → (Nat → Int64) → Prop} {c q : Nat} (hc : c < 136)
    (H : ∀ b6 b7 b8, (∀ x y, nj_be b6 b7 b8 x y = true ↔ (nj_be a6 a7 a8) x y = true ∨ (x = c ∧ y < c) ∨ (y = c ∧ x < c)) → J2 (nI (q + 1)) fP fI fS fG fJ fU fC fE a1 a2 a3 a4 a5 b6 b7 b8 a9 a10 a11 a12 a13 a14 a15 a16 a17 a18 a19 a20 a21) : ∃ n, wX_plant_30 post J2 (nI q) (nI c) n 0 fP fI fS fG fJ fU fC fE a1 a2 a3 a4 a5 a6 a7 a8 a9 a10 a11 a12 a13 a14 a15 a16 a17 a18 a19 a20 a21 := by
  refine pk_loop (σ := (Nat → Int64) × (Nat → Int64) × (Nat → Int64)) (fun n i s => wX_plant_30 post J2 (nI q) (nI c) n (nI i) fP fI fS fG fJ fU fC fE a1 a2 a3 a4 a5 s.1 s.2.1 s.2.2 a9 a10 a11 a12 a13 a14 a15 a16 a17 a18 a19 a20 a21)
    (fun i s => ∀ x y, nj_be s.1 s.2.1 s.2.2 x y = true ↔ (nj_be a6 a7 a8) x y = true ∨ (x = c ∧ y < i) ∨ (y = c ∧ x < i)) c 0 (a6, a7, a8) (by omega) ?_ ?_ ?_
  · intro x y
    refine ⟨fun h => Or.inl h, fun h => ?_⟩
    rcases h with h | ⟨_, h⟩ | ⟨_, h⟩
    · exact h
    · omega
    · omega
  · intro n s I
    exact pk_le c c (fun _ => nm_r (nI_1 q) (H _ _ _ I)) (fun z => absurd z (by omega))
  · intro n i s hi I hw
    refine pk_le c i (fun z => absurd z (by omega)) (fun _ => nj_putBeside (by omega) hc (fun b6 b7 b8 h => nm_r (nI_1 i) (hw (b6, b7, b8) (fun x y => ?_))))
    rw [h x y, I x y]
    constructor
    · intro g
      rcases g with (g | g | g) | g | g
      · exact Or.inl g
      · exact Or.inr (Or.inl ⟨g.1, by omega⟩)
      · exact Or.inr (Or.inr ⟨g.1, by omega⟩)
      · exact Or.inr (Or.inr ⟨g.2, by omega⟩)
      · exact Or.inr (Or.inl ⟨g.1, by omega⟩)
    · intro g
      rcases g with g | ⟨g1, g2⟩ | ⟨g1, g2⟩
      · exact Or.inl (Or.inl g)
      · by_cases z : y = i
        · exact Or.inr (Or.inr ⟨g1, z⟩)
        · exact Or.inl (Or.inr (Or.inl ⟨g1, by omega⟩))
      · by_cases z : x = i
        · exact Or.inr (Or.inl ⟨z, g1⟩)
        · exact Or.inl (Or.inr (Or.inr ⟨g1, by omega⟩))
theorem nj_plant60 {post : St1 → Prop} (hF : nj_Fr fI fS a1 a2 a4 a5 a6 a7 a8 a9 a10 a11 ne nc T eb pl pd D) (hsz : ∀ c, c < nc → ∀ e, e < ne → nj_ct (nj_He (nj_N fI fS a1 a2) T eb (nj_ps a5) e) 64 < nj_on (a5 c)) (hO : nj_OI (nj_N fI fS a1 a2) ne nc T eb pl (nj_be a6 a7 a8) (nj_ps a5) D (nj_mo fI a1 a2) a11 a12 a13 a14 a15 (fun t b => ∀ p, ((nj_N fI fS a1 a2)).1 t p = true → b p < 0))
    (HP : ∀ b12 b13 b14 b15, nj_OI (nj_N fI fS a1 a2) ne nc T eb pl (nj_be a6 a7 a8) (nj_ps a5) D (nj_mo fI a1 a2) a11 b12 b13 b14 b15 (fun t b => ∀ p, ((nj_N fI fS a1 a2)).1 t p = true → b p < nc) → post (fP, fI, fS, fG, fJ, fU, fC, fE, a1, a2, a3, a4, a5, a6, a7, a8, a9, a10, a11, b12, b13, b14, b15, a16, a17, a18, a19, a20, a21)) : ∃ n, wX_plant_60 post (nI nc) n 0 fP fI fS fG fJ fU fC fE a1 a2 a3 a4 a5 a6 a7 a8 a9 a10 a11 a12 a13 a14 a15 a16 a17 a18 a19 a20 a21 := by
  have hnc := hF.2.2.2.1
  refine pk_loop (σ := (Nat → Int32) × (Nat → Int32) × (Nat → Int32) × (Nat → Int64)) (fun n i s => wX_plant_60 post (nI nc) n (nI i) fP fI fS fG fJ fU fC fE a1 a2 a3 a4 a5 a6 a7 a8 a9 a10 a11 s.1 s.2.1 s.2.2.1 s.2.2.2 a16 a17 a18 a19 a20 a21)
    (fun i s => nj_OI (nj_N fI fS a1 a2) ne nc T eb pl (nj_be a6 a7 a8) (nj_ps a5) D (nj_mo fI a1 a2) a11 s.1 s.2.1 s.2.2.1 s.2.2.2 (fun t b => ∀ p, ((nj_N fI fS a1 a2)).1 t p = true → b p < i)) nc 0 (a12, a13, a14, a15) (by omega) hO ?_ ?_
  · intro n s I
    exact pk_le nc nc (fun _ => HP _ _ _ _ I) (fun z => absurd z (by omega))
  · intro n i s hi I hw
    exact pk_le nc i (fun z => absurd z (by omega)) (fun _ => nj_extend hF hi (hsz i hi) I (fun b12 b13 b14 b15 I' => nm_r (nI_1 i) (hw (b12, b13, b14, b15) I')))
theorem nj_plant2 {post : St1 → Prop} {n : Nat} (hP : fP = nI n) (hn : n ≤ 6) (h0 : nj_PI (nj_N fI fS a1 a2) fC fU a4 a5 a6 a7 a8 0 0 T eb pl pd D 0 0)
    (H : ∀ gC b4 b5 b6 b7 b8 nc pl pd, nc ≤ n → nj_PI (nj_N fI fS a1 a2) gC fU b4 b5 b6 b7 b8 0 nc T eb pl pd D n 0 → ∃ fu, wX_plant_60 post gC fu 0 fP fI fS fG fJ fU gC fE a1 a2 a3 b4 b5 b6 b7 b8 a9 a10 a11 a12 a13 a14 a15 a16 a17 a18 a19 a20 a21) : wpX_plant post (fP, fI, fS, fG, fJ, fU, fC, fE, a1, a2, a3, a4, a5, a6, a7, a8, a9, a10, a11, a12, a13, a14, a15, a16, a17, a18, a19, a20, a21) := by
  subst hP
  refine pk_loop (σ := Int32 × (Nat → Int32) × (Nat → Int64) × (Nat → Int64) × (Nat → Int64) × (Nat → Int64)) (fun m i s => wX_plant_2 post m (nI i) (nI n) fI fS fG fJ fU s.1 fE a1 a2 a3 s.2.1 s.2.2.1 s.2.2.2.1 s.2.2.2.2.1 s.2.2.2.2.2 a9 a10 a11 a12 a13 a14 a15 a16 a17 a18 a19 a20 a21)
    (fun i s => ∃ nc pl pd, nc ≤ i ∧ nj_PI (nj_N fI fS a1 a2) s.1 fU s.2.1 s.2.2.1 s.2.2.2.1 s.2.2.2.2.1 s.2.2.2.2.2 0 nc T eb pl pd D i 0) n 0 (fC, a4, a5, a6, a7, a8) (by omega) ⟨0, pl, pd, by omega, h0⟩ ?_ ?_
  · intro m s ⟨nc, pl, pd, l, I⟩
    exact pk_le n n (fun _ => H _ _ _ _ _ _ nc pl pd l I) (fun z => absurd z (by omega))
  · intro m i s hi ⟨nc, pl, pd, l, I⟩ hw
    refine pk_le n i (fun z => absurd z (by omega)) (fun _ => ek_if (nj_bit fI i (by omega)) (fun hb => nm_r (nI_1 i) (hw s ⟨nc, pl, pd, by omega, I.1, nj_Xk_skip0 I.2.1 ?_, I.2.2⟩)) (fun hb => ?_))
    · show (decide (i < 6) && nj_bt fI i) = false
      rw [hb, Bool.and_false]
    · have hb' := nj_ts_nf hb
      refine nj_newCondition (nc := nc) I.1 (by omega) (by omega) (nj_plant30 (by omega) (fun b6 b7 b8 h => ?_))
      exact hw (nI (nc + 1), _, _, b6, b7, b8) ⟨nc + 1, _, _, by omega, nj_PI_add0 I (nj_g6.mpr ⟨by omega, hb'⟩) (by omega) h⟩
end
end
section
/-! the least candidate, and its insertion -/
/-- the net's facts -/
def nj_NF (fP fI fS : Int32) (a1 a2 : Nat → Int32) (n : Nat) : Prop :=
  fP = nI n ∧ 0 < n ∧ n ≤ 6 ∧ nj_S6 fI ∧ (∀ p, nj_bt fI p = true → p < n) ∧ (∀ t, t < 8 → nj_S6 (a1 t) ∧ nj_S6 (a2 t)) ∧
  (∀ t, t < 8 → nj_bt fS t = true → (∃ p q, p < n ∧ q < n ∧ a1 t = nI (2 ^ p ||| 2 ^ q)) ∧ (∃ p q, p < n ∧ q < n ∧ a2 t = nI (2 ^ p ||| 2 ^ q)))
/-- the unfolding's invariant -/
def nj_UI (fI fS : Int32) (a1 a2 : Nat → Int32) (fC fE fU : Int32) (a4 : Nat → Int32) (a5 a6 a7 a8 a9 a10 : Nat → Int64) (a11 a12 a13 a14 : Nat → Int32) (a15 : Nat → Int64) (ne nc : Nat) (T : Nat → Nat) (eb : Nat → Nat → Nat) (pl pd D : Nat → Nat) : Prop :=
  nj_PI (nj_N fI fS a1 a2) fC fU a4 a5 a6 a7 a8 ne nc T eb pl pd D 6 6 ∧ fE = nI ne ∧ nj_L a9 a10 ne T D ∧ (∀ e, e < ne → D e ≤ e + 1) ∧ nc ≤ 6 + 2 * ne ∧
  (∀ m, m < 64 → (¬ a11 m = 0 ↔ m = nj_cd ((nj_N fI fS a1 a2)).2.2.2 6 ∨ ∃ e, e < ne ∧ (nj_mo fI a1 a2) (nj_Ke (nj_N fI fS a1 a2) T eb (nj_ps a5) D e) = m)) ∧ nj_ct (fun m => decide (¬ a11 m = 0)) 64 = ne + 1 ∧
  nj_OI (nj_N fI fS a1 a2) ne nc T eb pl (nj_be a6 a7 a8) (nj_ps a5) D (nj_mo fI a1 a2) a11 a12 a13 a14 a15 (fun t b => ∀ p, ((nj_N fI fS a1 a2)).1 t p = true → b p < nc)
theorem nj_hM (fI fS : Int32) (a1 a2 : Nat → Int32) : ∀ p, ((nj_N fI fS a1 a2)).2.2.2 p = true → p < 6 := fun p h => (nj_g6.mp h).1
theorem nj_hP (fI fS : Int32) (a1 a2 : Nat → Int32) : ∀ t p, ((nj_N fI fS a1 a2)).2.1 t p = true → p < 6 := fun t p h => (nj_g6.mp h).1
theorem nj_w3_and (a b c a' b' c' : Int64) (d : Nat) : nj_w3 (a &&& a') (b &&& b') (c &&& c') d = (nj_w3 a b c d && nj_w3 a' b' c' d) := by
  unfold nj_w3
  rw [nj_bl_and, nj_bl_and, nj_bl_and]
  by_cases h : d < 64
  · rw [if_pos h, if_pos h, if_pos h]
  · by_cases h2 : d < 128
    · rw [if_neg h, if_pos h2, if_neg h, if_pos h2, if_neg h, if_pos h2]
    · rw [if_neg h, if_neg h2, if_neg h, if_neg h2, if_neg h, if_neg h2]
theorem nj_ke_cg {T D T' D' : Nat → Nat} {E : Nat → Bool} (h : ∀ f, E f = true → T f = T' f ∧ D f = D' f) (x : Nat) : nj_ke T D E x = nj_ke T' D' E x := by
  refine nj_ct_cg 64 (fun f _ => ?_)
  show (E f && nj_q T D x f) = (E f && nj_q T' D' x f)
  cases z : E f
  · rfl
  · obtain ⟨e1, e2⟩ := h f z
    unfold nj_q
    rw [e1, e2]
theorem nj_K_cg {T D T' D' : Nat → Nat} {E : Nat → Bool} {t j : Nat} (h : ∀ f, E f = true → T f = T' f ∧ D f = D' f) : nj_K T D E t j = nj_K T' D' E t j := by
  funext x
  unfold nj_K
  rw [nj_ke_cg h]
theorem nj_dj_cg {D D' : Nat → Nat} {H : Nat → Bool} {j : Nat} (h : ∀ f, H f = true → D f = D' f) (hj : nj_dj D H j) : nj_dj D' H j := by
  obtain ⟨j1, j2, j3⟩ := hj
  refine ⟨j1, fun f hf => by rw [← h f hf]; exact j2 f hf, ?_⟩
  rcases j3 with j3 | ⟨f, f1, f2⟩
  · exact Or.inl j3
  · exact Or.inr ⟨f, f1, by rw [← h f f1]; exact f2⟩
theorem nj_ct_two : ∀ p, p < 6 → ∀ q, q < 6 → nj_ct (fun i => decide (i = p) || decide (i = q)) 6 ≤ 2 := by decide +kernel
theorem nj_ct_mono {f : Nat → Bool} {n m : Nat} (h : n ≤ m) : nj_ct f n ≤ nj_ct f m := by
  induction m with
  | zero => rw [show n = 0 by omega]; exact Nat.le_refl _
  | succ m ih =>
    by_cases z : n = m + 1
    · rw [z]; exact Nat.le_refl _
    · have := ih (by omega)
      unfold nj_ct
      cases n with
      | zero => exact Nat.zero_le _
      | succ n => exact Nat.le_trans this (Nat.le_add_right _ _)
section
variable {fP fI fS fG fJ fU fC fE : Int32} {a1 a2 a3 a4 a11 a12 a13 a14 a16 a17 : Nat → Int32} {a5 a6 a7 a8 a9 a10 a15 a18 a19 a20 a21 : Nat → Int64} {ne nc : Nat} {T : Nat → Nat} {eb : Nat → Nat → Nat} {pl pd D : Nat → Nat} {n : Nat}
theorem nj_UI_fr (hN : nj_NF fP fI fS a1 a2 n) (h : nj_UI fI fS a1 a2 fC fE fU a4 a5 a6 a7 a8 a9 a10 a11 a12 a13 a14 a15 ne nc T eb pl pd D) : nj_Fr fI fS a1 a2 a4 a5 a6 a7 a8 a9 a10 a11 ne nc T eb pl pd D := by
  obtain ⟨⟨h1, h2, h3, h4, h5⟩, h6, h7, h8, h9, h10, h11, h12⟩ := h
  have c64 := nj_ct_ub (fun m => decide (¬ a11 m = 0)) 64
  refine ⟨nj_Xk_X (nj_hM fI fS a1 a2) (nj_hP fI fS a1 a2) h2, h7, h3, by omega, fun t ht hh => ?_, fun m hm hc => (h10 m hm).mp hc⟩
  obtain ⟨⟨p, q, p1, p2, p3⟩, _⟩ := hN.2.2.2.2.2.2 t ht hh
  exact ⟨p, q, by have := hN.2.2.1; omega, by have := hN.2.2.1; omega, p3⟩
theorem nj_leastC {post : Int32 → Prop} (hF : nj_Fr fI fS a1 a2 a4 a5 a6 a7 a8 a9 a10 a11 ne nc T eb pl pd D) (hV : nj_CV (nj_N fI fS a1 a2) nc T pl (nj_be a6 a7 a8) (nj_ps a5) D (nj_mo fI a1 a2) a12 a13 a14 a15) (H0 : (∀ m, m < 64 → a11 m = 0 → a12 m = -1) → post (-1))
    (H1 : ∀ m, m < 64 → a11 m = 0 → ¬ a12 m = -1 → (∀ m', m' < 64 → a11 m' = 0 → ¬ a12 m' = -1 → nj_on (a15 m) ≤ nj_on (a15 m')) → post (nI m)) : wpX_leastCandidate post (fP, fI, fS, fG, fJ, fU, fC, fE, a1, a2, a3, a4, a5, a6, a7, a8, a9, a10, a11, a12, a13, a14, a15, a16, a17, a18, a19, a20, a21) := by
  obtain ⟨hX, hL, h4, hnc, h2, hCl⟩ := hF
  have hHn := nj_Hn hX
  refine pk_loop (σ := Int32) (fun n i x => wX_leastCandidate_4 post fP fI fS fG fJ fU fC fE a1 a2 a3 a4 a5 a6 a7 a8 a9 a10 a11 a12 a13 a14 a15 a16 a17 a18 a19 a20 a21 n x (nI i)) (fun i x => (x = -1 ∧ ∀ m, m < i → a11 m = 0 → a12 m = -1) ∨ ∃ b, b < i ∧ x = nI b ∧ a11 b = 0 ∧ ¬ a12 b = -1 ∧ ∀ m, m < i → a11 m = 0 → ¬ a12 m = -1 → nj_on (a15 b) ≤ nj_on (a15 m)) 64 0 (-1) (by omega) (Or.inl ⟨rfl, fun m hm => absurd hm (by omega)⟩) ?_ ?_
  · intro n x I
    refine pk_le 64 64 (fun _ => ?_) (fun z => absurd z (by omega))
    rcases I with ⟨e, g⟩ | ⟨b, b1, e, b2, b3, b4⟩
    · rw [e]; exact H0 g
    · rw [e]; exact H1 b b1 b2 b3 b4
  · intro n i x hi I hw
    have ei : (nI i).toNatClampNeg = i := nI_clamp (by omega)
    -- nothing is open at i
    have skip : (a11 i = 0 → a12 i = -1) → wX_leastCandidate_4 post fP fI fS fG fJ fU fC fE a1 a2 a3 a4 a5 a6 a7 a8 a9 a10 a11 a12 a13 a14 a15 a16 a17 a18 a19 a20 a21 n x (nI (i + 1)) := by
      intro g
      refine hw x ?_
      rcases I with ⟨e, g'⟩ | ⟨b, b1, e, b2, b3, b4⟩
      · refine Or.inl ⟨e, fun m hm hc => ?_⟩
        by_cases z : m = i
        · rw [z] at hc ⊢; exact g hc
        · exact g' m (by omega) hc
      · refine Or.inr ⟨b, by omega, e, b2, b3, fun m hm hc hn => ?_⟩
        by_cases z : m = i
        · rw [z] at hc hn; exact absurd (g hc) hn
        · exact b4 m (by omega) hc hn
    refine pk_le 64 i (fun z => absurd z (by omega)) (fun _ => ⟨vp_in_nI hi (by decide), ?_⟩)
    rw [ei]
    rcases hV i hi with g | ⟨t, b, j, g⟩
    · exact br_t (by rw [g]; decide) (nm_r (nI_1 i) (skip (fun _ => g)))
    · have ht := g.2.1.1
      have hn1 : ¬ a12 i = -1 := by rw [g.1]; exact nj_nI_m1 (by omega)
      refine br_f (by rw [g.1]; exact nI_pos (by omega)) ⟨vp_in_nI hi (by decide), br_c (fun hc => ?_) (fun hc => nm_r (nI_1 i) (skip (fun z => absurd z hc)))⟩
      rcases I with ⟨e, g'⟩ | ⟨b', b1, e, b2, b3, b4⟩
      · refine br_t (by rw [e]; decide) (nm_r (nI_1 i) (hw (nI i) (Or.inr ⟨i, by omega, rfl, hc, hn1, fun m hm hc' hn' => ?_⟩)))
        by_cases z : m = i
        · rw [z]; exact Nat.le_refl _
        · exact absurd (g' m (by omega) hc') hn'
      · have eb' : (nI b').toNatClampNeg = b' := nI_clamp (by omega)
        subst e
        refine br_f (nI_pos (by omega)) ⟨vp_in_nI hi (by decide), vp_in_nI hi (by decide), vp_in_nI (by omega) (by decide), vp_in_nI (by omega) (by decide), ?_⟩
        rw [eb']
        rcases hV b' (by omega) with g2 | ⟨t2, bb, j2, g2⟩
        · exact absurd g2 b3
        · have p1 : ∀ f, nj_bl (a15 i) f = true → f < ne := fun f hf => by rw [g.2.2.1] at hf; exact hHn t b g.2.1 f hf
          have p2 : ∀ f, nj_bl (a15 b') f = true → f < ne := fun f hf => by rw [g2.2.2.1] at hf; exact hHn t2 bb g2.2.1 f hf
          rw [g.1, g2.1]
          refine nj_before hL p1 p2 ht g2.2.1.1 g.2.2.2.2.1 g2.2.2.2.2.1 (fun l => br_f (by decide) (nm_r (nI_1 i) (hw (nI i) (Or.inr ⟨i, by omega, rfl, hc, hn1, fun m hm hc' hn' => ?_⟩)))) (fun l => br_t rfl (nm_r (nI_1 i) (hw (nI b') (Or.inr ⟨b', by omega, rfl, b2, b3, fun m hm hc' hn' => ?_⟩))))
          · by_cases z : m = i
            · rw [z]; exact Nat.le_refl _
            · have := b4 m (by omega) hc' hn'
              rcases l with l | l
              · omega
              · have := l.1; omega
          · by_cases z : m = i
            · rw [z]
              rcases Nat.lt_or_ge (nj_on (a15 i)) (nj_on (a15 b')) with y | y
              · exact absurd (Or.inl y) l
              · exact y
            · exact b4 m (by omega) hc' hn'
theorem nj_insert226 {post : St1 → Prop} {f0 : Nat} (hF : nj_Fr fI fS a1 a2 a4 a5 a6 a7 a8 a9 a10 a11 ne nc T eb pl pd D) (hf : f0 ≤ nc) (hsz : ∀ c, f0 ≤ c → c < nc → ∀ e, e < ne → nj_ct (nj_He (nj_N fI fS a1 a2) T eb (nj_ps a5) e) 64 < nj_on (a5 c)) (hO : nj_OI (nj_N fI fS a1 a2) ne nc T eb pl (nj_be a6 a7 a8) (nj_ps a5) D (nj_mo fI a1 a2) a11 a12 a13 a14 a15 (fun t b => ∀ p, ((nj_N fI fS a1 a2)).1 t p = true → b p < f0))
    (HP : ∀ b12 b13 b14 b15, nj_OI (nj_N fI fS a1 a2) ne nc T eb pl (nj_be a6 a7 a8) (nj_ps a5) D (nj_mo fI a1 a2) a11 b12 b13 b14 b15 (fun t b => ∀ p, ((nj_N fI fS a1 a2)).1 t p = true → b p < nc) → post (fP, fI, fS, fG, fJ, fU, fC, fE, a1, a2, a3, a4, a5, a6, a7, a8, a9, a10, a11, b12, b13, b14, b15, a16, a17, a18, a19, a20, a21)) : ∃ n, wX_insert_226 post (nI nc) n (nI f0) fP fI fS fG fJ fU fC fE a1 a2 a3 a4 a5 a6 a7 a8 a9 a10 a11 a12 a13 a14 a15 a16 a17 a18 a19 a20 a21 := by
  have hnc := hF.2.2.2.1
  refine pk_loop (σ := (Nat → Int32) × (Nat → Int32) × (Nat → Int32) × (Nat → Int64)) (fun n i s => wX_insert_226 post (nI nc) n (nI i) fP fI fS fG fJ fU fC fE a1 a2 a3 a4 a5 a6 a7 a8 a9 a10 a11 s.1 s.2.1 s.2.2.1 s.2.2.2 a16 a17 a18 a19 a20 a21)
    (fun i s => f0 ≤ i ∧ nj_OI (nj_N fI fS a1 a2) ne nc T eb pl (nj_be a6 a7 a8) (nj_ps a5) D (nj_mo fI a1 a2) a11 s.1 s.2.1 s.2.2.1 s.2.2.2 (fun t b => ∀ p, ((nj_N fI fS a1 a2)).1 t p = true → b p < i)) nc f0 (a12, a13, a14, a15) hf ⟨Nat.le_refl _, hO⟩ ?_ ?_
  · intro n s I
    exact pk_le nc nc (fun _ => HP _ _ _ _ I.2) (fun z => absurd z (by omega))
  · intro n i s hi I hw
    exact pk_le nc i (fun z => absurd z (by omega)) (fun _ => nj_extend hF hi (hsz i I.1 hi) I.2 (fun b12 b13 b14 b15 I' => nm_r (nI_1 i) (hw (b12, b13, b14, b15) ⟨by have := I.1; omega, I'⟩)))
end
end
section
/-! the insertion of an event -/
section
variable {N : nj_Net} {ne nc nc' : Nat} {T : Nat → Nat} {eb : Nat → Nat → Nat} {pl pl' pd : Nat → Nat} {be be' ps ps' : Nat → Nat → Bool} {D : Nat → Nat} {mo : (Nat → Nat) → Nat} {a11 a12 a13 a14 : Nat → Int32} {a15 : Nat → Int64} {k0 k : Nat}
theorem nj_Xk_kup {k' : Nat} (h : nj_Xk N ne nc T eb pl pd be ps D k0 k) (hp : ∀ p, 0 < ne → N.2.1 (T (ne - 1)) p = true → p < k) (hk : k ≤ k') : nj_Xk N ne nc T eb pl pd be ps D k0 k' := by
  obtain ⟨x1, x2, x3, x4, x5, x6, x7, x8, x9, x10, x11, x12, x13, x14⟩ := h
  refine ⟨x1, x2, x3, fun e p he hh hpo => ?_, x5, x6, x7, x8, x9, x10, x11, x12, x13, fun c hc => ⟨(x14 c hc).1, fun a b => by have := (x14 c hc).2 a b; omega⟩⟩
  by_cases z : e + 1 < ne
  · exact x4 e p he (Or.inl z) hpo
  · have : e = ne - 1 := by omega
    refine x4 e p he (Or.inr ?_) hpo
    rw [this] at hpo
    exact hp p (by omega) hpo
theorem nj_Xk_k0up {k1 : Nat} (h : nj_Xk N ne nc T eb pl pd be ps D k0 k) (hp : ∀ p, N.2.2.2 p = true → p < k0) (hk : k0 ≤ k1) : nj_Xk N ne nc T eb pl pd be ps D k1 k := by
  obtain ⟨x1, x2, x3, x4, x5, x6, x7, x8, x9, x10, x11, x12, x13, x14⟩ := h
  exact ⟨x1, x2, fun p _ h => x3 p (hp p h) h, x4, x5, x6, x7, x8, x9, x10, x11, x12, x13, fun c hc => ⟨fun a => by have := (x14 c hc).1 a; omega, (x14 c hc).2⟩⟩
theorem nj_H_ps {t : Nat} {b : Nat → Nat} (h : ∀ p, N.1 t p = true → ∀ f, ps' (b p) f = ps (b p) f) : ∀ n, nj_H N t b ps' n = nj_H N t b ps n := by
  intro n
  induction n with
  | zero => rfl
  | succ n ih =>
    funext f
    show (nj_H N t b ps' n f || (N.1 t n && ps' (b n) f)) = (nj_H N t b ps n f || (N.1 t n && ps (b n) f))
    rw [ih]
    cases z : N.1 t n
    · rfl
    · rw [h n z]
/-- what stays of the elder events -/
theorem nj_He_old (hX : nj_X N ne nc T eb pl pd be ps D) (hps : ∀ c f, c < nc → ps' c f = ps c f) {t : Nat} {b : Nat → Nat} {e : Nat} (he : e < ne) : nj_He N (nj_up T ne t) (nj_up eb ne b) ps' e = nj_He N T eb ps e := by
  unfold nj_He
  rw [nj_up_n (show e ≠ ne by omega), nj_up_n (show e ≠ ne by omega)]
  exact nj_H_ps (fun p hp f => hps _ f ((hX.1 e he).2.2 p hp).1) 6
theorem nj_He_lt (hw : nj_wf N) (hX : nj_X N ne nc T eb pl pd be ps D) {e f : Nat} (he : e < ne) (hf : nj_He N T eb ps e f = true) : f < e := by
  obtain ⟨p, p1, p2⟩ := (nj_H_6 hw).mp hf
  obtain ⟨a1, a2, a3⟩ := (hX.1 e he).2.2 p p1
  have := nj_ps_lt hX _ _ a1 (Nat.le_refl _) f p2
  omega
theorem nj_Ke_old (hw : nj_wf N) (hX : nj_X N ne nc T eb pl pd be ps D) (hps : ∀ c f, c < nc → ps' c f = ps c f) {t j : Nat} {b : Nat → Nat} {e : Nat} (he : e < ne) : nj_Ke N (nj_up T ne t) (nj_up eb ne b) ps' (nj_up D ne j) e = nj_Ke N T eb ps D e := by
  unfold nj_Ke
  rw [nj_He_old hX hps he, nj_up_n (show e ≠ ne by omega), nj_up_n (show e ≠ ne by omega)]
  refine nj_K_cg (fun f hf => ?_)
  have := nj_He_lt hw hX he hf
  exact ⟨nj_up_n (by omega), nj_up_n (by omega)⟩
theorem nj_OI_tr (hw : nj_wf N) (hX : nj_X N ne nc T eb pl pd be ps D) (hO : nj_OI N ne nc T eb pl be ps D mo a11 a12 a13 a14 a15 (fun t b => ∀ p, N.1 t p = true → b p < nc)) {m t j : Nat} {b : Nat → Nat} (hm : m < 64) (hc : a11 m = 0)
    (hca : nj_cand N nc T pl be ps D mo a12 a13 a14 a15 m t b j) (hpl : ∀ c, c < nc → pl' c = pl c) (hbe : ∀ c d, c < nc → d < nc → be' c d = be c d) (hps : ∀ c f, c < nc → ps' c f = ps c f) (hnc : nc ≤ nc')
    (hleast : ∀ m', m' < 64 → a11 m' = 0 → ¬ a12 m' = -1 → nj_on (a15 m) ≤ nj_on (a15 m')) :
    nj_OI N (ne + 1) nc' (nj_up T ne t) (nj_up eb ne b) pl' be' ps' (nj_up D ne j) mo (upd a11 m 1) a12 a13 a14 a15 (fun t b => ∀ p, N.1 t p = true → b p < nc) := by
  have posfw : ∀ t2 b2, nj_pos N nc pl be t2 b2 → nj_pos N nc' pl' be' t2 b2 := by
    intro t2 b2 ⟨p1, p2, p3, p4⟩
    refine ⟨p1, p2, fun p hp => ⟨by have := (p3 p hp).1; omega, ?_⟩, fun p q hp hq hn => ?_⟩
    · rw [hpl _ (p3 p hp).1]; exact (p3 p hp).2
    · rw [hbe _ _ (p3 p hp).1 (p3 q hq).1]; exact p4 p q hp hq hn
  have posbw : ∀ t2 b2, nj_pos N nc' pl' be' t2 b2 → (∀ p, N.1 t2 p = true → b2 p < nc) → nj_pos N nc pl be t2 b2 := by
    intro t2 b2 ⟨p1, p2, p3, p4⟩ hb
    refine ⟨p1, p2, fun p hp => ⟨hb p hp, ?_⟩, fun p q hp hq hn => ?_⟩
    · rw [← hpl _ (hb p hp)]; exact (p3 p hp).2
    · rw [← hbe _ _ (hb p hp) (hb q hq)]; exact p4 p q hp hq hn
  have Hs : ∀ t2 b2, nj_pos N nc pl be t2 b2 → nj_H N t2 b2 ps' 6 = nj_H N t2 b2 ps 6 := fun t2 b2 hp => nj_H_ps (fun p hp1 f => hps _ f (hp.2.2.1 p hp1).1) 6
  have Hlt : ∀ t2 b2, nj_pos N nc pl be t2 b2 → ∀ f, nj_H N t2 b2 ps 6 f = true → f < ne := fun t2 b2 hp f hf => (nj_pos_cfg hw hX hp).1.1 f hf
  have Ks : ∀ (H : Nat → Bool) (t2 j2 : Nat), (∀ f, H f = true → f < ne) → nj_K (nj_up T ne t) (nj_up D ne j) H t2 j2 = nj_K T D H t2 j2 := by
    intro H t2 j2 hH
    refine nj_K_cg (fun f hf => ?_)
    have := hH f hf
    exact ⟨nj_up_n (by omega), nj_up_n (by omega)⟩
  have djs : ∀ (H : Nat → Bool) (j2 : Nat), (∀ f, H f = true → f < ne) → nj_dj D H j2 → nj_dj (nj_up D ne j) H j2 := by
    intro H j2 hH h
    refine nj_dj_cg (fun f hf => ?_) h
    have := hH f hf
    exact (nj_up_n (by omega)).symm
  have blt : ∀ m2 u b2 j2, nj_cand N nc T pl be ps D mo a12 a13 a14 a15 m2 u b2 j2 → ∀ f, nj_bl (a15 m2) f = true → f < ne := by
    intro m2 u b2 j2 g f hf
    rw [g.2.2.1] at hf
    exact Hlt u b2 g.2.1 f hf
  have cfw : ∀ m2 u b2 j2, nj_cand N nc T pl be ps D mo a12 a13 a14 a15 m2 u b2 j2 → nj_cand N nc' (nj_up T ne t) pl' be' ps' (nj_up D ne j) mo a12 a13 a14 a15 m2 u b2 j2 := by
    intro m2 u b2 j2 g
    have l := blt m2 u b2 j2 g
    obtain ⟨g1, g2, g3, g4, g5, g6⟩ := g
    exact ⟨g1, posfw u b2 g2, by rw [Hs u b2 g2]; exact g3, g4, djs _ _ l g5, by rw [Ks _ _ _ l]; exact g6⟩
  have hen : nj_He N (nj_up T ne t) (nj_up eb ne b) ps' ne = nj_bl (a15 m) := by
    unfold nj_He
    rw [nj_up_s, nj_up_s, Hs t b hca.2.1]
    exact hca.2.2.1.symm
  have ken : nj_Ke N (nj_up T ne t) (nj_up eb ne b) ps' (nj_up D ne j) ne = nj_K T D (nj_bl (a15 m)) t j := by
    unfold nj_Ke
    rw [hen, nj_up_s, nj_up_s, Ks _ _ _ (blt m t b j hca)]
  obtain ⟨o1, o2, o3⟩ := hO
  refine ⟨fun m2 hm2 => ?_, fun m2 hm2 hc2 hn2 e he => ?_, fun t2 b2 hp2 hS => ?_⟩
  · rcases o1 m2 hm2 with g | ⟨u, b2, j2, g⟩
    · exact Or.inl g
    · exact Or.inr ⟨u, b2, j2, cfw m2 u b2 j2 g⟩
  · have z : m2 ≠ m := by
      intro z
      rw [z, pk_us] at hc2
      exact absurd hc2 (by decide)
    rw [pk_un z] at hc2
    by_cases ze : e = ne
    · rw [ze, hen]
      exact hleast m2 hm2 hc2 hn2
    · rw [nj_He_old hX hps (by omega)]
      exact o2 m2 hm2 hc2 hn2 e (by omega)
  · have hp := posbw t2 b2 hp2 hS
    obtain ⟨j2, d2, f1, f2⟩ := o3 t2 b2 hp hS
    have l := Hlt t2 b2 hp
    rw [Hs t2 b2 hp]
    refine ⟨j2, djs _ _ l d2, ?_⟩
    rw [Ks _ _ _ l]
    generalize hm2 : mo (nj_K T D (nj_H N t2 b2 ps 6) t2 j2) = m2 at *
    by_cases z : m2 = m
    · subst z
      refine ⟨fun a => ?_, fun _ => ?_⟩
      · rw [pk_us] at a
        exact absurd a (by decide)
      · obtain ⟨u, b3, j3, c1, c2⟩ := f1 hc
        obtain ⟨e1, e2⟩ := nj_cand_uq c1 hca
        refine Or.inr ⟨ne, by omega, ?_, ?_⟩
        · rw [ken]; exact hca.2.2.2.2.2
        · rw [ken, hen, ← e1, ← e2]; exact c2
    · rw [pk_un z]
      refine ⟨fun a => ?_, fun a => ?_⟩
      · obtain ⟨u, b3, j3, c1, c2⟩ := f1 a
        refine ⟨u, b3, j3, cfw m2 u b3 j3 c1, ?_⟩
        rw [Ks _ _ _ (blt m2 u b3 j3 c1)]
        exact c2
      · rcases f2 a with g | ⟨e, e1, e2, e3⟩
        · exact Or.inl g
        · refine Or.inr ⟨e, by omega, ?_, ?_⟩
          · rw [nj_Ke_old hw hX hps e1]; exact e2
          · rw [nj_Ke_old hw hX hps e1, nj_He_old hX hps e1]; exact e3
theorem nj_L_add {a9 a10 : Nat → Int64} (hL : nj_L a9 a10 ne T D) {t j : Nat} (ht : t < 8) (hj0 : 0 < j) (hj : j ≤ 64) (hne : ne < 64) {w : Int64} (hw : ∀ f, nj_bl w f = decide (f = ne)) : nj_L (vp_updL a9 t (a9 t ||| w)) (vp_updL a10 j (a10 j ||| w)) (ne + 1) (nj_up T ne t) (nj_up D ne j) := by
  obtain ⟨l1, l2, l3, l4⟩ := hL
  refine ⟨fun v hv f => ?_, fun d hd f => ?_, fun f hf => ?_, by omega⟩
  · by_cases z : v = t
    · rw [z, pk_uLs, nj_bl_or, Bool.or_eq_true, hw, decide_eq_true_iff, l1 t ht f]
      by_cases zf : f = ne
      · subst zf
        rw [nj_up_s]
        exact ⟨fun _ => ⟨by omega, rfl⟩, fun _ => Or.inr rfl⟩
      · rw [nj_up_n zf]
        exact ⟨fun g => g.elim (fun h => ⟨by omega, h.2⟩) (fun h => absurd h zf), fun g => Or.inl ⟨by omega, g.2⟩⟩
    · rw [pk_uLn z, l1 v hv f]
      by_cases zf : f = ne
      · subst zf
        rw [nj_up_s]
        exact ⟨fun g => absurd g.1 (by omega), fun g => absurd g.2.symm z⟩
      · rw [nj_up_n zf]
        exact ⟨fun g => ⟨by omega, g.2⟩, fun g => ⟨by omega, g.2⟩⟩
  · by_cases z : d = j
    · rw [z, pk_uLs, nj_bl_or, Bool.or_eq_true, hw, decide_eq_true_iff, l2 j (by omega) f]
      by_cases zf : f = ne
      · subst zf
        rw [nj_up_s]
        exact ⟨fun _ => ⟨by omega, rfl⟩, fun _ => Or.inr rfl⟩
      · rw [nj_up_n zf]
        exact ⟨fun g => g.elim (fun h => ⟨by omega, h.2⟩) (fun h => absurd h zf), fun g => Or.inl ⟨by omega, g.2⟩⟩
    · rw [pk_uLn z, l2 d hd f]
      by_cases zf : f = ne
      · subst zf
        rw [nj_up_s]
        exact ⟨fun g => absurd g.1 (by omega), fun g => absurd g.2.symm z⟩
      · rw [nj_up_n zf]
        exact ⟨fun g => ⟨by omega, g.2⟩, fun g => ⟨by omega, g.2⟩⟩
  · by_cases zf : f = ne
    · rw [zf, nj_up_s]; exact ⟨hj0, hj⟩
    · rw [nj_up_n zf]; exact l3 f (by omega)
theorem nj_be_keep {a6 a7 a8 b6 b7 b8 : Nat → Int64} {B : Nat → Prop} (hbe : ∀ c d, nj_be b6 b7 b8 c d = true ↔ nj_be (vp_updL a6 nc 0) (vp_updL a7 nc 0) (vp_updL a8 nc 0) c d = true ∨ (c = nc ∧ d < nc ∧ B d) ∨ (d = nc ∧ c < nc ∧ B c)) {c d : Nat} (hc : c < nc) (hd : d < nc) : nj_be b6 b7 b8 c d = nj_be a6 a7 a8 c d := by
  rw [Bool.eq_iff_iff, hbe, nj_be_up]
  constructor
  · intro g
    rcases g with g | g | g
    · exact g.2
    · omega
    · omega
  · intro g
    exact Or.inl ⟨by omega, g⟩
end
section
variable {fP fI fS fG fJ fU fC fE : Int32} {a1 a2 a3 a4 a11 a12 a13 a14 a16 a17 : Nat → Int32} {a5 a6 a7 a8 a9 a10 a15 a18 a19 a20 a21 : Nat → Int64} {ne nc : Nat} {T : Nat → Nat} {eb : Nat → Nat → Nat} {pl pd D : Nat → Nat} {n : Nat}
/-- the loop that makes the event's conditions -/
theorem nj_insert160 {post : St1 → Prop} {f0 t : Nat} {x5 x7 x y z : Int64} (hP : fP = nI n) (hn : n ≤ 6) (ht : t < 8) (hne : 0 < ne) (hT : T (ne - 1) = t) (hnc : f0 ≤ 130)
    (hpo2 : ∃ p q, p < n ∧ q < n ∧ a2 t = nI (2 ^ p ||| 2 ^ q)) (hI : nj_PI (nj_N fI fS a1 a2) fC fU a4 a5 a6 a7 a8 ne f0 T eb pl pd D 6 0) (hf0 : ∀ c, c < f0 → (f0 ≤ c ↔ pd c = ne))
    (hW : ∀ d, d < f0 → (nj_w3 x y z d = true ↔ ∀ p, ((nj_N fI fS a1 a2)).1 (T (ne - 1)) p = true → (nj_be a6 a7 a8) (eb (ne - 1) p) d = true)) (hw : ∀ f, nj_bl (x5 ||| x7) f = true ↔ (f = ne - 1 ∨ ∃ p, ((nj_N fI fS a1 a2)).1 (T (ne - 1)) p = true ∧ nj_ps a5 (eb (ne - 1) p) f = true))
    (H : ∀ gC gU b4 b5 b6 b7 b8 nc' pl' pd', f0 ≤ nc' → nc' ≤ f0 + 2 → nj_PI (nj_N fI fS a1 a2) gC gU b4 b5 b6 b7 b8 ne nc' T eb pl' pd' D 6 6 → (∀ c, c < f0 → pl' c = pl c ∧ b5 c = a5 c) → (∀ c d, c < f0 → d < f0 → nj_be b6 b7 b8 c d = (nj_be a6 a7 a8) c d) → (∀ c, f0 ≤ c → c < nc' → b5 c = x5 ||| x7) →
      ∃ fu, wX_insert_226 post gC fu (nI f0) fP fI fS fG fJ gU gC fE a1 a2 a3 b4 b5 b6 b7 b8 a9 a10 a11 a12 a13 a14 a15 a16 a17 a18 a19 a20 a21) : ∃ fu, wX_insert_160 post (nI t) x5 x7 x y z (nI f0) fu 0 fP fI fS fG fJ fU fC fE a1 a2 a3 a4 a5 a6 a7 a8 a9 a10 a11 a12 a13 a14 a15 a16 a17 a18 a19 a20 a21 := by
  subst hP
  have et : (nI t).toNatClampNeg = t := nI_clamp (by omega)
  obtain ⟨p2, q2, hp2, hq2, h2⟩ := hpo2
  have pob : ∀ p, ((nj_N fI fS a1 a2)).2.1 t p = true → p = p2 ∨ p = q2 := by
    intro p hp
    obtain ⟨g1, g2⟩ := nj_g6.mp hp
    exact (nj_two h2 (by omega)).mp g2
  have ctb : ∀ i, i ≤ n → nj_ct (fun p => ((nj_N fI fS a1 a2)).2.1 t p) i ≤ 2 := by
    intro i hi
    have a := nj_ct_mono (f := fun p => ((nj_N fI fS a1 a2)).2.1 t p) (show i ≤ 6 by omega)
    have b := nj_ct_two p2 (by omega) q2 (by omega)
    have c := nj_ct_le (f := fun p => ((nj_N fI fS a1 a2)).2.1 t p) (g := fun i => decide (i = p2) || decide (i = q2)) 6 (fun p _ hp => by
      rw [Bool.or_eq_true, decide_eq_true_iff, decide_eq_true_iff]
      exact pob p hp)
    omega
  refine pk_loop (σ := Int32 × Int32 × (Nat → Int32) × (Nat → Int64) × (Nat → Int64) × (Nat → Int64) × (Nat → Int64)) (fun m i s => wX_insert_160 post (nI t) x5 x7 x y z (nI f0) m (nI i) (nI n) fI fS fG fJ s.2.1 s.1 fE a1 a2 a3 s.2.2.1 s.2.2.2.1 s.2.2.2.2.1 s.2.2.2.2.2.1 s.2.2.2.2.2.2 a9 a10 a11 a12 a13 a14 a15 a16 a17 a18 a19 a20 a21)
    (fun i s => ∃ nc' pl' pd', f0 ≤ nc' ∧ nc' ≤ f0 + nj_ct (fun p => ((nj_N fI fS a1 a2)).2.1 t p) i ∧ nj_PI (nj_N fI fS a1 a2) s.1 s.2.1 s.2.2.1 s.2.2.2.1 s.2.2.2.2.1 s.2.2.2.2.2.1 s.2.2.2.2.2.2 ne nc' T eb pl' pd' D 6 i ∧ (∀ c, c < nc' → (f0 ≤ c ↔ pd' c = ne)) ∧
      (∀ d, d < f0 → (nj_w3 x y z d = true ↔ ∀ p, ((nj_N fI fS a1 a2)).1 (T (ne - 1)) p = true → nj_be s.2.2.2.2.1 s.2.2.2.2.2.1 s.2.2.2.2.2.2 (eb (ne - 1) p) d = true)) ∧ (∀ f, nj_bl (x5 ||| x7) f = true ↔ (f = ne - 1 ∨ ∃ p, ((nj_N fI fS a1 a2)).1 (T (ne - 1)) p = true ∧ nj_ps s.2.2.2.1 (eb (ne - 1) p) f = true)) ∧
      (∀ c, c < f0 → pl' c = pl c ∧ s.2.2.2.1 c = a5 c) ∧ (∀ c d, c < f0 → d < f0 → nj_be s.2.2.2.2.1 s.2.2.2.2.2.1 s.2.2.2.2.2.2 c d = (nj_be a6 a7 a8) c d) ∧ (∀ c, f0 ≤ c → c < nc' → s.2.2.2.1 c = x5 ||| x7)) n 0 (fC, fU, a4, a5, a6, a7, a8) (by omega) ⟨f0, pl, pd, Nat.le_refl _, Nat.le_add_right _ _, hI, hf0, hW, hw, fun c _ => ⟨rfl, rfl⟩, fun c d _ _ => rfl, fun c a b => absurd a (by omega)⟩ ?_ ?_
  · intro m s ⟨nc', pl', pd', i1, i2, i3, i4, i5, i6, i7, i8, i9⟩
    refine pk_le n n (fun _ => ?_) (fun z => absurd z (by omega))
    have := ctb n (Nat.le_refl _)
    refine H _ _ _ _ _ _ _ nc' pl' pd' i1 (by omega) ⟨i3.1, nj_Xk_kup i3.2.1 (fun p _ hp => ?_) hn, i3.2.2⟩ i7 i8 i9
    rw [hT] at hp
    have := pob p hp
    omega
  · intro m i s hi ⟨nc', pl', pd', i1, i2, i3, i4, i5, i6, i7, i8, i9⟩ hwk
    refine pk_le n i (fun z => absurd z (by omega)) (fun _ => ⟨vp_in_nI ht (by decide), ?_⟩)
    rw [et]
    have c1 := ctb i (by omega)
    have ci : nj_ct (fun p => ((nj_N fI fS a1 a2)).2.1 t p) (i + 1) = nj_ct (fun p => ((nj_N fI fS a1 a2)).2.1 t p) i + (if ((nj_N fI fS a1 a2)).2.1 t i = true then 1 else 0) := rfl
    refine ek_if (nj_bit (a2 t) i (by omega)) (fun hb => nm_r (nI_1 i) (hwk s ⟨nc', pl', pd', i1, by omega, ⟨i3.1, nj_Xk_skip i3.2.1 (fun _ => ?_), i3.2.2⟩, i4, i5, i6, i7, i8, i9⟩)) (fun hb => ?_)
    · rw [hT]
      show (decide (i < 6) && nj_bt (a2 t) i) = false
      rw [hb, Bool.and_false]
    · have hb' := nj_ts_nf hb
      have hpo : ((nj_N fI fS a1 a2)).2.1 t i = true := nj_g6.mpr ⟨by omega, hb'⟩
      rw [if_pos hpo] at ci
      refine nj_newCondition (nc := nc') i3.1 (by omega) (by omega) (nj_settle (by omega) (by omega) (fun gU b6 b7 b8 hU hbe => nm_r (nI_1 i) ?_))
      have A := nj_PI_add i3 hne (by rw [hT]; exact hpo) (by omega) i4 i1 i5 i6 hU hbe
      refine hwk (nI (nc' + 1), gU, _, _, b6, b7, b8) ⟨nc' + 1, _, _, by omega, by omega, A.1, A.2.1, A.2.2.1, A.2.2.2, fun c hc => ⟨?_, ?_⟩, fun c d hc hd => ?_, fun c a b => ?_⟩
      · rw [nj_up_n (by omega)]; exact (i7 c hc).1
      · show vp_updL s.2.2.2.1 nc' _ c = _
        rw [pk_uLn (by omega)]; exact (i7 c hc).2
      · rw [← i8 c d hc hd]
        exact nj_be_keep hbe (by omega) (by omega)
      · show vp_updL s.2.2.2.1 nc' _ c = _
        by_cases zc : c = nc'
        · rw [zc, pk_uLs]
        · rw [pk_uLn zc]; exact i9 c a (by omega)
end
end
section
/-! insert and unfold -/
section
variable {fP fI fS fG fJ fU fC fE : Int32} {a1 a2 a3 a4 a11 a12 a13 a14 a16 a17 : Nat → Int32} {a5 a6 a7 a8 a9 a10 a15 a18 a19 a20 a21 : Nat → Int64} {ne nc : Nat} {T : Nat → Nat} {eb : Nat → Nat → Nat} {pl pd D : Nat → Nat} {n : Nat}
theorem nj_insert {post : St1 → Prop} {m : Nat} (hN : nj_NF fP fI fS a1 a2 n) (hUI : nj_UI fI fS a1 a2 fC fE fU a4 a5 a6 a7 a8 a9 a10 a11 a12 a13 a14 a15 ne nc T eb pl pd D) (hm : m < 64) (hc : a11 m = 0) (hcn : ¬ a12 m = -1)
    (hleast : ∀ m', m' < 64 → a11 m' = 0 → ¬ a12 m' = -1 → nj_on (a15 m) ≤ nj_on (a15 m'))
    (HP : ∀ gC gU b4 b5 b6 b7 b8 b9 b10 b11 b12 b13 b14 b15 nc' T' eb' pl' pd' D', nj_UI fI fS a1 a2 gC (nI (ne + 1)) gU b4 b5 b6 b7 b8 b9 b10 b11 b12 b13 b14 b15 (ne + 1) nc' T' eb' pl' pd' D' →
      post (fP, fI, fS, fG, fJ, gU, gC, nI (ne + 1), a1, a2, a3, b4, b5, b6, b7, b8, b9, b10, b11, b12, b13, b14, b15, a16, a17, a18, a19, a20, a21)) : wpX_insert post (fP, fI, fS, fG, fJ, fU, fC, fE, a1, a2, a3, a4, a5, a6, a7, a8, a9, a10, a11, a12, a13, a14, a15, a16, a17, a18, a19, a20, a21) (nI m) := by
  have hF := nj_UI_fr hN hUI
  have hw := nj_N_wf fI fS a1 a2
  have hM := nj_hM fI fS a1 a2
  have hPo := nj_hP fI fS a1 a2
  obtain ⟨hPI, hfE, hL, hDb, hncb, hcl, hctc, hO⟩ := hUI
  obtain ⟨hX, _, h4, hnc136, h2, hCl⟩ := hF
  have hHn := nj_Hn hX
  have em : (nI m).toNatClampNeg = m := nI_clamp (by omega)
  obtain ⟨t, b, j, g⟩ : ∃ t b j, nj_cand (nj_N fI fS a1 a2) nc T pl (nj_be a6 a7 a8) (nj_ps a5) D (nj_mo fI a1 a2) a12 a13 a14 a15 m t b j := (hO.1 m hm).elim (fun z => absurd z hcn) id
  have g' := g
  obtain ⟨g1, g2, g3, g4, g5, g6⟩ := g
  have ht := g2.1
  have hht := g2.2.1
  have plt : ∀ f, nj_bl (a15 m) f = true → f < ne := fun f hf => by rw [g3] at hf; exact hHn t b g2 f hf
  -- the number of events
  have hctn : nj_ct (fun m' => decide (¬ upd a11 m 1 m' = 0)) 64 = ne + 2 := by
    rw [nj_ct_add (f := fun m' => decide (¬ a11 m' = 0)) (e := m) (fun i hi => by show decide _ = decide _; rw [pk_un hi]) (by show decide _ = false; rw [hc]; rfl) 64, hctc, if_pos ⟨hm, by show decide _ = true; rw [pk_us]; rfl⟩]
  have hne62 : ne ≤ 62 := by
    have := nj_ct_ub (fun m' => decide (¬ upd a11 m 1 m' = 0)) 64
    omega
  have hjb : j ≤ ne + 1 := by
    rcases g5.2.2 with z | ⟨f, f1, f2⟩
    · omega
    · have a := plt f f1
      have := hDb f a
      omega
  have hown : ∀ f, nj_bl ((1 : Int64) <<< ((nI ne).toInt64 &&& 63)) f = decide (f = ne) := fun f => nj_bl_pw (by omega) f
  have hps0 : nj_bl (a15 m) ne = false := by
    cases z : nj_bl (a15 m) ne
    · rfl
    · have := plt ne z
      omega
  -- the new event
  have hj : nj_dj D (nj_H (nj_N fI fS a1 a2) t b (nj_ps a5) 6) j := by rw [← g3]; exact g5
  have hnew : ∀ e, e < ne → T e = t → ¬ ∀ p, ((nj_N fI fS a1 a2)).1 t p = true → eb e p = b p := by
    intro e he hT hb
    have e1 : nj_He (nj_N fI fS a1 a2) T eb (nj_ps a5) e = nj_bl (a15 m) := by
      unfold nj_He
      rw [hT, nj_H_cg hb, g3]
    have x13 := hX.2.2.2.2.2.2.2.2.2.2.2.2 e he
    have e2 : D e = j := by
      refine nj_dj_uq (D := D) (H := nj_bl (a15 m)) ⟨x13.1, fun f hf => ?_, ?_⟩ g5
      · rw [← e1] at hf
        obtain ⟨p, p1, p2⟩ := (nj_H_6 hw).mp hf
        exact x13.2.1 p f p1 p2
      · rcases x13.2.2 with y | ⟨p, f, p1, p2, p3⟩
        · exact Or.inl y
        · refine Or.inr ⟨f, ?_, p3⟩
          rw [← e1]
          exact (nj_H_6 hw).mpr ⟨p, p1, p2⟩
    have e3 : nj_Ke (nj_N fI fS a1 a2) T eb (nj_ps a5) D e = nj_K T D (nj_bl (a15 m)) t j := by
      unfold nj_Ke
      rw [e1, hT, e2]
    exact (hcl m hm).mpr (Or.inr ⟨e, he, by rw [e3]; exact g6⟩) hc
  have hXe := nj_Xk_ev hM hPo hw hPI.2.1 g2 hj hnew
  have hLn := nj_L_add hL ht g5.1 (show j ≤ 64 by omega) (by omega) hown
  have Tn : nj_up T ne t (ne + 1 - 1) = t := nj_up_s
  have En : nj_up eb ne b (ne + 1 - 1) = b := nj_up_s
  have hIe : nj_PI (nj_N fI fS a1 a2) fC fU a4 a5 a6 a7 a8 (ne + 1) nc (nj_up T ne t) (nj_up eb ne b) pl pd (nj_up D ne j) 6 0 := ⟨hPI.1, hXe, hPI.2.2⟩
  have hfC := hPI.1
  subst hfE
  have main : ∀ x y z : Int64, (∀ d, d < nc → (nj_w3 x y z d = true ↔ ∀ p, ((nj_N fI fS a1 a2)).1 t p = true → (nj_be a6 a7 a8) (b p) d = true)) →
      ∃ fu, wX_insert_160 post (nI t) (a15 m) ((1 : Int64) <<< ((nI ne).toInt64 &&& 63)) x y z (nI nc) fu 0 fP fI fS fG fJ fU fC (nI (ne + 1)) a1 a2 a3 a4 a5 a6 a7 a8 (vp_updL a9 t (a9 t ||| ((1 : Int64) <<< ((nI ne).toInt64 &&& 63)))) (vp_updL a10 j (a10 j ||| ((1 : Int64) <<< ((nI ne).toInt64 &&& 63)))) (upd a11 m 1) a12 a13 a14 a15 a16 a17 a18 a19 a20 a21 := by
    intro x y z hW
    refine nj_insert160 (ne := ne + 1) hN.1 hN.2.2.1 ht (by omega) Tn (by omega) (hN.2.2.2.2.2.2 t ht hht).2 hIe (fun c hc' => ⟨fun a => absurd a (by omega), fun a => ?_⟩) (by rw [Tn, En]; exact hW) (fun f => ?_) ?_
    · have := (hPI.2.1.2.1 c hc').1
      omega
    · rw [Tn, En, nj_bl_or, Bool.or_eq_true, hown, decide_eq_true_iff, g3, nj_H_6 hw]
      exact ⟨fun a => a.elim Or.inr Or.inl, fun a => a.elim Or.inr Or.inl⟩
    · intro gC gU b4 b5 b6 b7 b8 nc' pl' pd' i1 i2 i3 i4 i5 i6
      have hps : ∀ c f, c < nc → nj_ps b5 c f = nj_ps a5 c f := fun c f hc' => by unfold nj_ps; rw [(i4 c hc').2]
      have hX' := nj_Xk_X hM hPo i3.2.1
      have hOn := nj_OI_tr (be' := nj_be b6 b7 b8) (ps' := nj_ps b5) (pl' := pl') hw hX hO hm hc g' (fun c hc' => (i4 c hc').1) i5 hps i1 hleast
      have hen : nj_He (nj_N fI fS a1 a2) (nj_up T ne t) (nj_up eb ne b) (nj_ps b5) ne = nj_bl (a15 m) := by
        unfold nj_He
        rw [nj_up_s, nj_up_s, nj_H_ps (ps := nj_ps a5) (fun p hp f => hps _ f (g2.2.2.1 p hp).1) 6]
        exact g3.symm
      have hke : nj_Ke (nj_N fI fS a1 a2) (nj_up T ne t) (nj_up eb ne b) (nj_ps b5) (nj_up D ne j) ne = nj_K T D (nj_bl (a15 m)) t j := by
        unfold nj_Ke
        rw [hen, nj_up_s, nj_up_s]
        refine nj_K_cg (fun f hf => ?_)
        have := plt f hf
        exact ⟨nj_up_n (by omega), nj_up_n (by omega)⟩
      have hcln : ∀ m', m' < 64 → (¬ upd a11 m 1 m' = 0 ↔ m' = nj_cd ((nj_N fI fS a1 a2)).2.2.2 6 ∨ ∃ e, e < ne + 1 ∧ (nj_mo fI a1 a2) (nj_Ke (nj_N fI fS a1 a2) (nj_up T ne t) (nj_up eb ne b) (nj_ps b5) (nj_up D ne j) e) = m') := by
        intro m' hm'
        by_cases zm : m' = m
        · rw [zm, pk_us]
          exact ⟨fun _ => Or.inr ⟨ne, by omega, by rw [hke]; exact g6⟩, fun _ => by decide⟩
        · rw [pk_un zm, hcl m' hm']
          constructor
          · intro a
            rcases a with a | ⟨e, e1, e2⟩
            · exact Or.inl a
            · exact Or.inr ⟨e, by omega, by rw [nj_Ke_old hw hX hps e1]; exact e2⟩
          · intro a
            rcases a with a | ⟨e, e1, e2⟩
            · exact Or.inl a
            · by_cases ze : e = ne
              · rw [ze, hke, g6] at e2
                exact absurd e2.symm zm
              · rw [nj_Ke_old hw hX hps (by omega)] at e2
                exact Or.inr ⟨e, by omega, e2⟩
      have e1 := i3.1
      subst e1
      refine nj_insert226 (ne := ne + 1) (nc := nc') (pd := pd') ⟨hX', hLn, i3.2.2.1, by omega, h2, fun m' hm' a => (hcln m' hm').mp a⟩ i1 (fun c c1 c2 e he => ?_) hOn (fun b12 b13 b14 b15 hO' => ?_)
      · rw [i6 c c1 c2]
        have eo : nj_on (a15 m ||| ((1 : Int64) <<< ((nI ne).toInt64 &&& 63))) = nj_on (a15 m) + 1 := by
          have : nj_bl (a15 m ||| ((1 : Int64) <<< ((nI ne).toInt64 &&& 63))) = nj_ins (nj_bl (a15 m)) ne := by
            funext f
            rw [nj_bl_or, hown]
            rfl
          unfold nj_on
          rw [this, nj_ct_ins hps0 (by omega)]
        rw [eo]
        by_cases ze : e = ne
        · rw [ze, hen]
          exact Nat.lt_succ_self _
        · rw [nj_He_old hX hps (by omega)]
          have := hO.2.1 m hm hc hcn e (by omega)
          omega
      · refine HP _ _ _ _ _ _ _ _ _ _ _ _ _ _ nc' _ _ pl' pd' _ ⟨i3, rfl, hLn, fun e he => ?_, by omega, hcln, hctn, hO'⟩
        by_cases ze : e = ne
        · rw [ze, nj_up_s]; exact hjb
        · rw [nj_up_n ze]; exact hDb e (by omega)
  -- the walk
  have g4' := g4
  obtain ⟨p, hp, e13, hor⟩ := g4
  have bp := (g2.2.2.1 p hp).1
  have ebp : (nI (b p)).toNatClampNeg = b p := nI_clamp (by omega)
  have et : (nI t).toNatClampNeg = t := nI_clamp (by omega)
  unfold wpX_insert
  dsimp only
  rw [em, g1, e13, hfC]
  refine ⟨vp_in_nI hm (by decide), nm_e ⟨vp_in_nI hm (by decide), nm_e ⟨vp_in_nI hm (by decide), nm_e ⟨vp_in_nI hm (by decide), nm_e ⟨vp_in_nI hm (by decide), nm_e (nm_e ?_)⟩⟩⟩⟩⟩
  refine nj_depth hL plt (fun j' l' hj' => ?_)
  have ej : j' = j := nj_dj_uq hj' g5
  subst ej
  have ejn : (nI j').toNatClampNeg = j' := nI_clamp (by omega)
  refine nm_r (nI_1 ne) ?_
  rw [et, ejn, ebp]
  refine ⟨vp_in_nI ht (by decide), vp_in_nI ht (by decide), nm_e ⟨vp_in_nI (by omega) (by decide), vp_in_nI (by omega) (by decide), nm_e ⟨vp_in_nI (by omega) (by decide), nm_e ⟨vp_in_nI (by omega) (by decide), nm_e ⟨vp_in_nI (by omega) (by decide), nm_e ?_⟩⟩⟩⟩⟩
  rw [hfC] at main
  rcases hor with ⟨e14, hq⟩ | ⟨q, qn, hq, e14, hr⟩
  · refine br_t (by rw [e14]; decide) (main _ _ _ (fun d hd => ?_))
    constructor
    · intro a r hr
      rw [hq r hr]; exact a
    · intro a
      exact a p hp
  · have bq := (g2.2.2.1 q hq).1
    have ebq : (nI (b q)).toNatClampNeg = b q := nI_clamp (by omega)
    rw [e14, ebq]
    refine br_f (nI_pos (by omega)) ⟨vp_in_nI (by omega) (by decide), nm_e ⟨vp_in_nI (by omega) (by decide), nm_e ⟨vp_in_nI (by omega) (by decide), nm_e (main _ _ _ (fun d hd => ?_))⟩⟩⟩
    rw [nj_w3_and, Bool.and_eq_true]
    constructor
    · intro a r hr'
      rcases hr r hr' with e | e
      · rw [e]; exact a.1
      · rw [e]; exact a.2
    · intro a
      exact ⟨a p hp, a q hq⟩
end
end
section
/-! unfold -/
theorem nj_cd_self : ∀ n, n < 64 → nj_cd (fun p => decide (p < 6) && nj_bt (nI n) p) 6 = n := by decide +kernel
section
variable {fP fI fS fG fJ fU fC fE : Int32} {a1 a2 a3 a4 a11 a12 a13 a14 a16 a17 : Nat → Int32} {a5 a6 a7 a8 a9 a10 a15 a18 a19 a20 a21 : Nat → Int64} {n : Nat}
theorem nj_unf96 {post : St1 → Prop} (hN : nj_NF fP fI fS a1 a2 n) {nc : Nat} {T : Nat → Nat} {eb : Nat → Nat → Nat} {pl pd D : Nat → Nat} (h : nj_UI fI fS a1 a2 fC fE fU a4 a5 a6 a7 a8 a9 a10 a11 a12 a13 a14 a15 0 nc T eb pl pd D)
    (HP : ∀ gC gE gU b4 b5 b6 b7 b8 b9 b10 b11 b12 b13 b14 b15 ne nc T eb pl pd D, nj_UI fI fS a1 a2 gC gE gU b4 b5 b6 b7 b8 b9 b10 b11 b12 b13 b14 b15 ne nc T eb pl pd D → (gU = 0 → ∀ m, m < 64 → b11 m = 0 → b12 m = -1) →
      post (fP, fI, fS, fG, fJ, gU, gC, gE, a1, a2, a3, b4, b5, b6, b7, b8, b9, b10, b11, b12, b13, b14, b15, a16, a17, a18, a19, a20, a21)) : ∃ fu, wX_unfold_96 post fu 0 fP fI fS fG fJ fU fC fE a1 a2 a3 a4 a5 a6 a7 a8 a9 a10 a11 a12 a13 a14 a15 a16 a17 a18 a19 a20 a21 := by
  refine pk_loop (σ := Int32 × Int32 × Int32 × (Nat → Int32) × (Nat → Int64) × (Nat → Int64) × (Nat → Int64) × (Nat → Int64) × (Nat → Int64) × (Nat → Int64) × (Nat → Int32) × (Nat → Int32) × (Nat → Int32) × (Nat → Int32) × (Nat → Int64)) (fun m i s => wX_unfold_96 post m (nI i) fP fI fS fG fJ s.2.2.1 s.1 s.2.1 a1 a2 a3 s.2.2.2.1 s.2.2.2.2.1 s.2.2.2.2.2.1 s.2.2.2.2.2.2.1 s.2.2.2.2.2.2.2.1 s.2.2.2.2.2.2.2.2.1 s.2.2.2.2.2.2.2.2.2.1 s.2.2.2.2.2.2.2.2.2.2.1 s.2.2.2.2.2.2.2.2.2.2.2.1 s.2.2.2.2.2.2.2.2.2.2.2.2.1 s.2.2.2.2.2.2.2.2.2.2.2.2.2.1 s.2.2.2.2.2.2.2.2.2.2.2.2.2.2 a16 a17 a18 a19 a20 a21)
    (fun i s => ∃ nc T eb pl pd D, nj_UI fI fS a1 a2 s.1 s.2.1 s.2.2.1 s.2.2.2.1 s.2.2.2.2.1 s.2.2.2.2.2.1 s.2.2.2.2.2.2.1 s.2.2.2.2.2.2.2.1 s.2.2.2.2.2.2.2.2.1 s.2.2.2.2.2.2.2.2.2.1 s.2.2.2.2.2.2.2.2.2.2.1 s.2.2.2.2.2.2.2.2.2.2.2.1 s.2.2.2.2.2.2.2.2.2.2.2.2.1 s.2.2.2.2.2.2.2.2.2.2.2.2.2.1 s.2.2.2.2.2.2.2.2.2.2.2.2.2.2 i nc T eb pl pd D) 64 0 (fC, fE, fU, a4, a5, a6, a7, a8, a9, a10, a11, a12, a13, a14, a15) (by omega) ⟨nc, T, eb, pl, pd, D, h⟩ ?_ ?_
  · intro m s ⟨nc, T, eb, pl, pd, D, I⟩
    have a := I.2.2.2.2.2.2.1
    have b := nj_ct_ub (fun m => decide (¬ s.2.2.2.2.2.2.2.2.2.2.1 m = 0)) 64
    omega
  · intro k i s hi ⟨nc, T, eb, pl, pd, D, I⟩ hw
    obtain ⟨gC, gE, gU, b4, b5, b6, b7, b8, b9, b10, b11, b12, b13, b14, b15⟩ := s
    have hF := nj_UI_fr hN I
    refine pk_le 64 i (fun z => absurd z (by omega)) (fun _ => br_c (fun hu => ?_) (fun hu => HP _ _ _ _ _ _ _ _ _ _ _ _ _ _ _ i nc T eb pl pd D I (fun z => absurd z hu)))
    refine nj_leastC hF I.2.2.2.2.2.2.2.1 (fun hno => br_f (by decide) (HP _ _ _ _ _ _ _ _ _ _ _ _ _ _ _ i nc T eb pl pd D I (fun _ => hno))) (fun m hm hc hcn hl => br_t (nI_pos' (by omega)) ?_)
    refine nj_insert hN I hm hc hcn hl (fun gC' gU' d4 d5 d6 d7 d8 d9 d10 d11 d12 d13 d14 d15 nc' T' eb' pl' pd' D' I' => nm_r (nI_1 i) ?_)
    exact hw (gC', nI (i + 1), gU', d4, d5, d6, d7, d8, d9, d10, d11, d12, d13, d14, d15) ⟨nc', T', eb', pl', pd', D', I'⟩
theorem nj_unfPlant {post : St1 → Prop} (hN : nj_NF fP fI fS a1 a2 n) (hC : fC = 0) (hE : fE = 0) (h9 : ∀ v, v < 8 → a9 v = 0) (h10 : ∀ d, d < 66 → a10 d = 0) (h11 : ∀ m, m < 64 → a11 m = 0) (h12 : ∀ m, m < 64 → a12 m = -1)
    (HP : ∀ gC gE gU b4 b5 b6 b7 b8 b9 b10 b11 b12 b13 b14 b15 ne nc T eb pl pd D, nj_UI fI fS a1 a2 gC gE gU b4 b5 b6 b7 b8 b9 b10 b11 b12 b13 b14 b15 ne nc T eb pl pd D → (gU = 0 → ∀ m, m < 64 → b11 m = 0 → b12 m = -1) →
      post (fP, fI, fS, fG, fJ, gU, gC, gE, a1, a2, a3, b4, b5, b6, b7, b8, b9, b10, b11, b12, b13, b14, b15, a16, a17, a18, a19, a20, a21)) (k : Nat) : wX_unfold_54 post fP fI fS fG fJ fU fC fE (k + 1) (nI 64) a1 a2 a3 a4 a5 a6 a7 a8 a9 a10 a11 a12 a13 a14 a15 a16 a17 a18 a19 a20 a21 := by
  obtain ⟨n1, n2, n3, ⟨i0, hi0, n4⟩, n5, n6, n7⟩ := hN
  have hN : nj_NF fP fI fS a1 a2 n := ⟨n1, n2, n3, ⟨i0, hi0, n4⟩, n5, n6, n7⟩
  have ei : fI.toNatClampNeg = i0 := by rw [n4]; exact nI_clamp (by omega)
  have ecd : nj_cd ((nj_N fI fS a1 a2)).2.2.2 6 = i0 := by
    show nj_cd (fun p => decide (p < 6) && nj_bt fI p) 6 = i0
    rw [n4]
    exact nj_cd_self i0 hi0
  have hM : ∀ p, ((nj_N fI fS a1 a2)).2.2.2 p = true → p < n := fun p hp => n5 p (nj_g6.mp hp).2
  have hM6 := nj_hM fI fS a1 a2
  have hP6 := nj_hP fI fS a1 a2
  refine pk_le 64 64 (fun _ => ⟨by rw [n4]; exact vp_in_nI hi0 (by decide), nm_e ?_⟩) (fun z => absurd z (by omega))
  rw [ei]
  refine nj_plant2 (T := fun _ => 0) (eb := fun _ _ => 0) (pl := fun _ => 0) (pd := fun _ => 0) (D := fun _ => 0) n1 n3 ?_ ?_
  · refine ⟨hC, ⟨fun e he => by omega, fun c hc => by omega, fun p hp => by omega, fun e p he => by omega, fun c d hc => by omega, fun e f he => by omega, fun c f hc => by omega, fun c d hc => by omega, fun c hc => by omega, fun c d hc => by omega, fun c d hc => by omega, fun e p q he => by omega, fun e he => by omega, fun c hc => by omega⟩, fun c hc => by omega, fun c d hc => by omega, fun _ c d hc => by omega⟩
  · intro gC b4 b5 b6 b7 b8 nc pl pd hnc hI
    have hXk := nj_Xk_kup (k' := 6) (nj_Xk_k0up (k1 := 6) hI.2.1 hM n3) (fun p hp => absurd hp (by omega)) (by omega)
    have hX := nj_Xk_X hM6 hP6 hXk
    have hL : nj_L a9 a10 0 (fun _ => 0) (fun _ => 0) := by
      refine ⟨fun v hv f => ?_, fun d hd f => ?_, fun f hf => by omega, by omega⟩
      · rw [h9 v hv, nj_bl_0]
        exact ⟨fun a => absurd a (by decide), fun a => absurd a.1 (by omega)⟩
      · rw [h10 d hd, nj_bl_0]
        exact ⟨fun a => absurd a (by decide), fun a => absurd a.1 (by omega)⟩
    have hcl : ∀ m, m < 64 → (¬ upd a11 i0 1 m = 0 ↔ m = nj_cd ((nj_N fI fS a1 a2)).2.2.2 6 ∨ ∃ e, e < 0 ∧ (nj_mo fI a1 a2) (nj_Ke (nj_N fI fS a1 a2) (fun _ => 0) (fun _ _ => 0) (nj_ps b5) (fun _ => 0) e) = m) := by
      intro m hm
      rw [ecd]
      by_cases z : m = i0
      · rw [z, pk_us]
        exact ⟨fun _ => Or.inl rfl, fun _ => by decide⟩
      · rw [pk_un z, h11 m hm]
        exact ⟨fun a => absurd rfl a, fun a => a.elim (fun y => absurd y z) (fun ⟨e, e1, _⟩ => absurd e1 (by omega))⟩
    have hFr : nj_Fr fI fS a1 a2 b4 b5 b6 b7 b8 a9 a10 (upd a11 i0 1) 0 nc (fun _ => 0) (fun _ _ => 0) pl pd (fun _ => 0) := by
      refine ⟨hX, hL, hI.2.2.1, by omega, fun t ht hh => ?_, fun m hm a => (hcl m hm).mp a⟩
      obtain ⟨⟨p, q, p1, p2, p3⟩, _⟩ := n7 t ht hh
      exact ⟨p, q, by omega, by omega, p3⟩
    have gC' := hI.1
    subst gC'
    refine nj_plant60 hFr (fun c hc e he => by omega) ?_ (fun b12 b13 b14 b15 hO => ?_)
    · refine ⟨fun m hm => Or.inl (h12 m hm), fun m hm _ _ e he => by omega, fun t b hp hS => ?_⟩
      obtain ⟨⟨p, q, p1, p2, p3⟩, _⟩ := n7 t hp.1 hp.2.1
      have hpp : ((nj_N fI fS a1 a2)).1 t p = true := nj_g6.mpr ⟨by omega, (nj_two p3 (by omega)).mpr (Or.inl rfl)⟩
      have := hS p hpp
      omega
    · refine nj_unf96 hN ⟨⟨rfl, hXk, hI.2.2⟩, hE, hL, fun e he => by omega, by omega, hcl, ?_, hO⟩ HP
      rw [nj_ct_cg (g := fun m => decide (m = i0)) 64 (fun i hi => ?_), nj_ct_add (f := fun _ => false) (e := i0) (fun i hi => (decide_eq_false hi).symm) rfl 64, if_pos ⟨hi0, decide_eq_true rfl⟩, nj_ct_0 64 (fun _ _ => rfl)]
      show decide (¬ upd a11 i0 1 i = 0) = decide (i = i0)
      by_cases z : i = i0
      · rw [z, pk_us, decide_eq_true (rfl : i0 = i0)]; rfl
      · rw [pk_un z, h11 i hi, decide_eq_false z]; rfl
theorem nj_unfold {post : St1 → Prop} (hN : nj_NF fP fI fS a1 a2 n)
    (HP : ∀ gC gE gU b4 b5 b6 b7 b8 b9 b10 b11 b12 b13 b14 b15 ne nc T eb pl pd D, nj_UI fI fS a1 a2 gC gE gU b4 b5 b6 b7 b8 b9 b10 b11 b12 b13 b14 b15 ne nc T eb pl pd D → (gU = 0 → ∀ m, m < 64 → b11 m = 0 → b12 m = -1) →
      post (fP, fI, fS, fG, fJ, gU, gC, gE, a1, a2, a3, b4, b5, b6, b7, b8, b9, b10, b11, b12, b13, b14, b15, a16, a17, a18, a19, a20, a21)) : wpX_unfold post (fP, fI, fS, fG, fJ, fU, fC, fE, a1, a2, a3, a4, a5, a6, a7, a8, a9, a10, a11, a12, a13, a14, a15, a16, a17, a18, a19, a20, a21) := by
  refine pk_loop (σ := Nat → Int64) (fun m i s => wX_unfold_12 post fP fI fS fG fJ fU 0 0 m (nI i) a1 a2 a3 a4 a5 a6 a7 a8 s a10 a11 a12 a13 a14 a15 a16 a17 a18 a19 a20 a21) (fun i s => ∀ v, v < i → s v = 0) 8 0 a9 (by omega) (fun v hv => absurd hv (by omega)) ?_ ?_
  · intro m s9 h9
    refine pk_le 8 8 (fun _ => ?_) (fun z => absurd z (by omega))
    refine pk_loop (σ := Nat → Int64) (fun m i s => wX_unfold_33 post fP fI fS fG fJ fU 0 0 m (nI i) a1 a2 a3 a4 a5 a6 a7 a8 s9 s a11 a12 a13 a14 a15 a16 a17 a18 a19 a20 a21) (fun i s => ∀ v, v < i → s v = 0) 66 0 a10 (by omega) (fun v hv => absurd hv (by omega)) ?_ ?_
    · intro m s10 h10
      refine pk_le 66 66 (fun _ => ?_) (fun z => absurd z (by omega))
      refine pk_loop (σ := (Nat → Int32) × (Nat → Int32)) (fun m i s => wX_unfold_54 post fP fI fS fG fJ fU 0 0 m (nI i) a1 a2 a3 a4 a5 a6 a7 a8 s9 s10 s.1 s.2 a13 a14 a15 a16 a17 a18 a19 a20 a21) (fun i s => (∀ v, v < i → s.1 v = 0) ∧ ∀ v, v < i → s.2 v = -1) 64 0 (a11, a12) (by omega) ⟨fun v hv => absurd hv (by omega), fun v hv => absurd hv (by omega)⟩ ?_ ?_
      · intro m s ⟨h11, h12⟩
        exact nj_unfPlant hN rfl rfl h9 h10 h11 h12 HP m
      · intro m i s hi ⟨h11, h12⟩ hw
        have ei : (nI i).toNatClampNeg = i := nI_clamp (by omega)
        refine pk_le 64 i (fun z => absurd z (by omega)) (fun _ => ?_)
        rw [ei]
        refine ⟨vp_in_nI hi (by decide), nm_e ⟨vp_in_nI hi (by decide), nm_e (nm_r (nI_1 i) (hw (_, _) ⟨fun v hv => ?_, fun v hv => ?_⟩))⟩⟩
        · show upd s.1 i 0 v = 0
          by_cases z : v = i
          · rw [z, pk_us]
          · rw [pk_un z]; exact h11 v (by omega)
        · show upd s.2 i (-1) v = -1
          by_cases z : v = i
          · rw [z, pk_us]
          · rw [pk_un z]; exact h12 v (by omega)
    · intro m i s hi I hw
      have ei : (nI i).toNatClampNeg = i := nI_clamp (by omega)
      refine pk_le 66 i (fun z => absurd z (by omega)) (fun _ => ?_)
      rw [ei]
      refine ⟨vp_in_nI hi (by decide), nm_e (nm_r (nI_1 i) (hw _ (fun v hv => ?_)))⟩
      by_cases z : v = i
      · rw [z, pk_uLs]
      · rw [pk_uLn z]; exact I v (by omega)
  · intro m i s hi I hw
    have ei : (nI i).toNatClampNeg = i := nI_clamp (by omega)
    refine pk_le 8 i (fun z => absurd z (by omega)) (fun _ => ?_)
    rw [ei]
    refine ⟨vp_in_nI hi (by decide), nm_e (nm_r (nI_1 i) (hw _ (fun v hv => ?_)))⟩
    by_cases z : v = i
    · rw [z, pk_uLs]
    · rw [pk_uLn z]; exact I v (by omega)
end
end
section
/-! the search for a cut: pure rows -/
def nj_ns (f : Nat → Nat) : Nat → Nat
  | 0 => 0
  | n + 1 => nj_ns f n + f n
theorem nj_ns_cg {f g : Nat → Nat} : ∀ n, (∀ i, i < n → f i = g i) → nj_ns f n = nj_ns g n := by
  intro n
  induction n with
  | zero => exact fun _ => rfl
  | succ n ih =>
    intro h
    unfold nj_ns
    rw [ih (fun i hi => h i (by omega)), h n (by omega)]
/-- how many conditions from a on lie at place p -/
def nj_rr (nc : Nat) (pl : Nat → Nat) (a p : Nat) : Nat := nj_ct (fun c => decide (a ≤ c) && decide (pl c = p)) nc
theorem nj_rr_lt {nc : Nat} {pl : Nat → Nat} {a c p : Nat} (ha : a ≤ c) (hc : c < nc) (hp : pl c = p) : nj_rr nc pl (c + 1) p + 1 ≤ nj_rr nc pl a p := by
  unfold nj_rr
  have e := nj_ct_add (f := fun i => decide (c + 1 ≤ i) && decide (pl i = p)) (g := fun i => decide (c ≤ i) && decide (pl i = p)) (e := c) (fun i hi => by
    show (decide (c + 1 ≤ i) && _) = (decide (c ≤ i) && _)
    by_cases z : c ≤ i
    · rw [decide_eq_true z, decide_eq_true (show c + 1 ≤ i by omega)]
    · rw [decide_eq_false z, decide_eq_false (show ¬ c + 1 ≤ i by omega)]) (by
    show (decide (c + 1 ≤ c) && _) = false
    rw [decide_eq_false (by omega), Bool.false_and]) nc
  rw [if_pos ⟨hc, by rw [decide_eq_true (Nat.le_refl c), decide_eq_true hp]; rfl⟩] at e
  have l := nj_ct_le (f := fun i => decide (c ≤ i) && decide (pl i = p)) (g := fun i => decide (a ≤ i) && decide (pl i = p)) nc (fun i _ h => by
    rw [Bool.and_eq_true, decide_eq_true_iff] at h ⊢
    exact ⟨by omega, h.2⟩)
  omega
/-- the steps that a level and all behind it can take, and one -/
def nj_SS (f : Nat → Nat) (k : Nat) : Nat → Nat
  | 0 => 1
  | r + 1 => 2 + f (k - (r + 1)) * nj_SS f k r
theorem nj_SS_pos (f : Nat → Nat) (k r : Nat) : 1 ≤ nj_SS f k r := by
  cases r with
  | zero => exact Nat.le_refl _
  | succ r => show 1 ≤ 2 + _; omega
/-- the product over six levels -/
theorem nj_am2 (a b : Nat) : 4 * (a * b) ≤ (a + b) * (a + b) := by
  rcases Nat.le_total a b with h | h
  · obtain ⟨d, rfl⟩ := Nat.exists_eq_add_of_le h
    have : (a + (a + d)) * (a + (a + d)) = 4 * (a * (a + d)) + d * d := by grind
    omega
  · obtain ⟨d, rfl⟩ := Nat.exists_eq_add_of_le h
    have : ((b + d) + b) * ((b + d) + b) = 4 * ((b + d) * b) + d * d := by grind
    omega
theorem nj_am3t : ∀ u, u < 145 → u * u * (144 - u) ≤ 442368 := by decide +kernel
theorem nj_am3 {a b c : Nat} (h : a + b + c ≤ 144) : a * b * c ≤ 110592 := by
  have h1 := nj_am2 a b
  have h2 := nj_am3t (a + b) (by omega)
  have h3 : (a + b) * (a + b) * c ≤ (a + b) * (a + b) * (144 - (a + b)) := Nat.mul_le_mul_left _ (by omega)
  have h4 : 4 * (a * b) * c ≤ (a + b) * (a + b) * c := Nat.mul_le_mul_right _ h1
  have h5 : 4 * (a * b) * c = 4 * (a * b * c) := Nat.mul_assoc _ _ _
  omega
theorem nj_am6 {a b c d e f : Nat} (h : a + b + c + d + e + f ≤ 144) : a * b * (c * d) * (e * f) ≤ 191102976 := by
  have h1 := nj_am2 a b
  have h2 := nj_am2 c d
  have h3 := nj_am2 e f
  have h4 := nj_am3 (a := a + b) (b := c + d) (c := e + f) (by omega)
  have m1 : (4 * (a * b)) * (4 * (c * d)) ≤ ((a + b) * (a + b)) * ((c + d) * (c + d)) := Nat.mul_le_mul h1 h2
  have m2 : (4 * (a * b)) * (4 * (c * d)) * (4 * (e * f)) ≤ ((a + b) * (a + b)) * ((c + d) * (c + d)) * ((e + f) * (e + f)) := Nat.mul_le_mul m1 h3
  have m3 : (a + b) * (c + d) * (e + f) * ((a + b) * (c + d) * (e + f)) ≤ 110592 * 110592 := Nat.mul_le_mul h4 h4
  have e1 : (4 * (a * b)) * (4 * (c * d)) * (4 * (e * f)) = 64 * (a * b * (c * d) * (e * f)) := by
    generalize a * b = x
    generalize c * d = y
    generalize e * f = z
    grind
  have e2 : ((a + b) * (a + b)) * ((c + d) * (c + d)) * ((e + f) * (e + f)) = (a + b) * (c + d) * (e + f) * ((a + b) * (c + d) * (e + f)) := by
    generalize a + b = x
    generalize c + d = y
    generalize e + f = z
    grind
  omega
/-- levels as a product -/
def nj_pp (f : Nat → Nat) (k : Nat) : Nat → Nat
  | 0 => 1
  | r + 1 => (f (k - (r + 1)) + 2) * nj_pp f k r
theorem nj_SS_pp (f : Nat → Nat) (k : Nat) : ∀ r, nj_SS f k r ≤ nj_pp f k r := by
  intro r
  induction r with
  | zero => exact Nat.le_refl _
  | succ r ih =>
    show 2 + f (k - (r + 1)) * nj_SS f k r ≤ (f (k - (r + 1)) + 2) * nj_pp f k r
    have a := nj_SS_pos f k r
    have b : f (k - (r + 1)) * nj_SS f k r ≤ f (k - (r + 1)) * nj_pp f k r := Nat.mul_le_mul_left _ ih
    rw [Nat.add_mul]
    omega
theorem nj_SS_ub {f : Nat → Nat} {k : Nat} (hk : k ≤ 6) (h : nj_ns f k ≤ 132) : nj_SS f k k ≤ 191102976 := by
  refine Nat.le_trans (nj_SS_pp f k k) ?_
  have c : k = 0 ∨ k = 1 ∨ k = 2 ∨ k = 3 ∨ k = 4 ∨ k = 5 ∨ k = 6 := by omega
  have M : ∀ a b c d e g : Nat, a + b + c + d + e + g ≤ 144 → a * b * (c * d) * (e * g) ≤ 191102976 := fun a b c d e g h => nj_am6 h
  rcases c with e | e | e | e | e | e | e <;> subst e
  · show 1 ≤ 191102976
    decide
  · have := M (f 0 + 2) 1 1 1 1 1 (by simp only [nj_ns] at h; omega)
    simp only [nj_pp] at *
    simp at *
    omega
  · have := M (f 0 + 2) (f 1 + 2) 1 1 1 1 (by simp only [nj_ns] at h; omega)
    have e : nj_pp f 2 2 = (f 0 + 2) * (f 1 + 2) * (1 * 1) * (1 * 1) := by
      show (f 0 + 2) * ((f 1 + 2) * 1) = _
      grind
    omega
  · have := M (f 0 + 2) (f 1 + 2) (f 2 + 2) 1 1 1 (by simp only [nj_ns] at h; omega)
    have e : nj_pp f 3 3 = (f 0 + 2) * (f 1 + 2) * ((f 2 + 2) * 1) * (1 * 1) := by
      show (f 0 + 2) * ((f 1 + 2) * ((f 2 + 2) * 1)) = _
      grind
    omega
  · have := M (f 0 + 2) (f 1 + 2) (f 2 + 2) (f 3 + 2) 1 1 (by simp only [nj_ns] at h; omega)
    have e : nj_pp f 4 4 = (f 0 + 2) * (f 1 + 2) * ((f 2 + 2) * (f 3 + 2)) * (1 * 1) := by
      show (f 0 + 2) * ((f 1 + 2) * ((f 2 + 2) * ((f 3 + 2) * 1))) = _
      grind
    omega
  · have := M (f 0 + 2) (f 1 + 2) (f 2 + 2) (f 3 + 2) (f 4 + 2) 1 (by simp only [nj_ns] at h; omega)
    have e : nj_pp f 5 5 = (f 0 + 2) * (f 1 + 2) * ((f 2 + 2) * (f 3 + 2)) * ((f 4 + 2) * 1) := by
      show (f 0 + 2) * ((f 1 + 2) * ((f 2 + 2) * ((f 3 + 2) * ((f 4 + 2) * 1)))) = _
      grind
    omega
  · have := M (f 0 + 2) (f 1 + 2) (f 2 + 2) (f 3 + 2) (f 4 + 2) (f 5 + 2) (by simp only [nj_ns] at h; omega)
    have e : nj_pp f 6 6 = (f 0 + 2) * (f 1 + 2) * ((f 2 + 2) * (f 3 + 2)) * ((f 4 + 2) * (f 5 + 2)) := by
      show (f 0 + 2) * ((f 1 + 2) * ((f 2 + 2) * ((f 3 + 2) * ((f 4 + 2) * ((f 5 + 2) * 1))))) = _
      grind
    omega
/-- conditions at different places are different -/
theorem nj_ns_rr {pl wt : Nat → Nat} {k : Nat} (hi : ∀ i i', i < i' → i' < k → wt i < wt i') : ∀ nc, nj_ns (fun i => nj_rr nc pl 0 (wt i)) k ≤ nc := by
  have one : ∀ (x j : Nat), j ≤ k → nj_ns (fun i => if x = wt i then 1 else 0) j ≤ 1 ∧ ((∀ i, i < j → x ≠ wt i) → nj_ns (fun i => if x = wt i then 1 else 0) j = 0) := by
    intro x j
    induction j with
    | zero => exact fun _ => ⟨by show 0 ≤ 1; omega, fun _ => rfl⟩
    | succ j ih =>
      intro hj
      obtain ⟨a, b⟩ := ih (by omega)
      refine ⟨?_, fun h => ?_⟩
      · show nj_ns _ j + (if x = wt j then 1 else 0) ≤ 1
        by_cases z : x = wt j
        · rw [if_pos z, b (fun i hij e => by have := hi i j hij (by omega); omega)]
          exact Nat.le_refl _
        · rw [if_neg z]; exact a
      · show nj_ns _ j + (if x = wt j then 1 else 0) = 0
        rw [if_neg (h j (by omega)), b (fun i hij => h i (by omega))]
  intro nc
  induction nc with
  | zero =>
    have : ∀ j, nj_ns (fun i => nj_rr 0 pl 0 (wt i)) j = 0 := by
      intro j
      induction j with
      | zero => rfl
      | succ j ih => show nj_ns _ j + 0 = 0; rw [ih]
    rw [this]
    exact Nat.le_refl _
  | succ nc ih =>
    have : ∀ j, nj_ns (fun i => nj_rr (nc + 1) pl 0 (wt i)) j = nj_ns (fun i => nj_rr nc pl 0 (wt i)) j + nj_ns (fun i => if pl nc = wt i then 1 else 0) j := by
      intro j
      induction j with
      | zero => rfl
      | succ j ih =>
        show nj_ns _ j + nj_rr (nc + 1) pl 0 (wt j) = (nj_ns _ j + nj_rr nc pl 0 (wt j)) + (nj_ns _ j + (if pl nc = wt j then 1 else 0))
        rw [ih]
        have e : nj_rr (nc + 1) pl 0 (wt j) = nj_rr nc pl 0 (wt j) + (if pl nc = wt j then 1 else 0) := by
          show nj_ct _ nc + (if (decide (0 ≤ nc) && decide (pl nc = wt j)) = true then 1 else 0) = _
          rw [decide_eq_true (Nat.zero_le nc), Bool.true_and]
          by_cases z : pl nc = wt j
          · rw [if_pos z, if_pos (decide_eq_true z)]; rfl
          · rw [if_neg z, if_neg (by rw [decide_eq_false z]; decide)]; rfl
        omega
    rw [this]
    have := (one (pl nc) k (Nat.le_refl _)).1
    omega
end
section
/-! the search for a cut: its invariant -/
/-- a cut to be found: tc p is its condition at place p, E the events below it, s their number at most -/
def nj_TG (nc : Nat) (pl : Nat → Nat) (be ps : Nat → Nat → Bool) (m : Nat → Bool) (tc : Nat → Nat) (E : Nat → Bool) (s : Nat) : Prop :=
  (∀ p, m p = true → tc p < nc ∧ pl (tc p) = p) ∧ (∀ p q, m p = true → m q = true → p ≠ q → be (tc p) (tc q) = true) ∧ (∀ d, ¬ ∀ p, m p = true → be (tc p) d = true) ∧ (∀ p f, m p = true → ps (tc p) f = true → E f = true) ∧ nj_ct E 64 ≤ s
/-- it is found, or lies ahead -/
def nj_GD (wt pk : Nat → Nat) (be : Nat → Nat → Bool) (a18 a19 a20 a21 : Nat → Int64) (L : Nat) (tc : Nat → Nat) (E : Nat → Bool) (bs : Int32) (s : Nat) : Prop :=
  (∃ q, q ≤ s ∧ bs = nI q) ∨ ∃ i, i < L ∧ pk i ≤ tc (wt i) ∧ (∀ f, nj_bl (a18 i) f = true → E f = true) ∧ (∀ d, d < 192 → (nj_w3 (a19 i) (a20 i) (a21 i) d = true ↔ ∀ i', i' < i → be (tc (wt i')) d = true))
def nj_ph (nc : Nat) (pl wt : Nat → Nat) (k : Nat) (pk : Nat → Nat) (L : Nat) : Nat := nj_ns (fun i => 1 + nj_rr nc pl (pk i) (wt i) * nj_SS (fun i => nj_rr nc pl 0 (wt i)) k (k - (i + 1))) L
def nj_SI (nc : Nat) (pl : Nat → Nat) (be ps : Nat → Nat → Bool) (m : Nat → Bool) (wt : Nat → Nat) (k : Nat) (a17 : Nat → Int32) (a18 a19 a20 a21 : Nat → Int64) (L : Nat) (bs : Int32) (st : Nat) (pk : Nat → Nat) : Prop :=
  L ≤ k ∧ (∀ i, i < L → a17 i + 1 = nI (pk i) ∧ pk i ≤ nc) ∧ st + nj_ph nc pl wt k pk L ≤ 191102976 ∧ (bs = -1 ∨ ∃ q, q ≤ 64 ∧ bs = nI q) ∧
  ∀ tc E s, nj_TG nc pl be ps m tc E s → nj_GD wt pk be a18 a19 a20 a21 L tc E bs s
/-- the wanted places -/
def nj_wp (m : Nat → Bool) (wt : Nat → Nat) (k : Nat) : Prop := k ≤ 6 ∧ (∀ i, i < k → m (wt i) = true ∧ wt i < 6) ∧ (∀ i i', i < i' → i' < k → wt i < wt i') ∧ (∀ p, m p = true → ∃ i, i < k ∧ wt i = p)
theorem nj_or0 (a b c : Int64) : ((a ||| b) ||| c) = 0 ↔ ∀ d, d < 192 → nj_w3 a b c d = false := by
  rw [nj_l0_iff]
  constructor
  · intro h d hd
    unfold nj_w3
    by_cases y1 : d < 64
    · have := h d y1
      rw [nj_bl_or, nj_bl_or] at this
      rw [if_pos y1]
      cases z : nj_bl a d
      · rfl
      · rw [z] at this; exact absurd this (by simp)
    · by_cases y2 : d < 128
      · have := h (d - 64) (by omega)
        rw [nj_bl_or, nj_bl_or] at this
        rw [if_neg y1, if_pos y2]
        cases z : nj_bl b (d - 64)
        · rfl
        · rw [z] at this; exact absurd this (by simp)
      · have := h (d - 128) (by omega)
        rw [nj_bl_or, nj_bl_or] at this
        rw [if_neg y1, if_neg y2]
        cases z : nj_bl c (d - 128)
        · rfl
        · rw [z] at this; exact absurd this (by simp)
  · intro h i hi
    have h1 := h i (by omega)
    have h2 := h (i + 64) (by omega)
    have h3 := h (i + 128) (by omega)
    unfold nj_w3 at h1 h2 h3
    rw [if_pos hi] at h1
    rw [if_neg (by omega), if_pos (by omega), Nat.add_sub_cancel] at h2
    rw [if_neg (by omega), if_neg (by omega), Nat.add_sub_cancel] at h3
    rw [nj_bl_or, nj_bl_or, h1, h2, h3]
    rfl
section
variable {nc : Nat} {pl : Nat → Nat} {a5 a6 a7 a8 : Nat → Int64} {m : Nat → Bool} {wt : Nat → Nat} {k : Nat} {a17 : Nat → Int32} {a18 a19 a20 a21 : Nat → Int64} {L : Nat} {bs : Int32} {st : Nat} {pk : Nat → Nat}
theorem nj_ph_s (nc : Nat) (pl wt : Nat → Nat) (k : Nat) (pk : Nat → Nat) (L : Nat) : nj_ph nc pl wt k pk (L + 1) = nj_ph nc pl wt k pk L + (1 + nj_rr nc pl (pk L) (wt L) * nj_SS (fun i => nj_rr nc pl 0 (wt i)) k (k - (L + 1))) := rfl
theorem nj_ph_up {x : Nat} : nj_ph nc pl wt k (nj_up pk L x) L = nj_ph nc pl wt k pk L := nj_ns_cg L (fun i hi => by
  show 1 + nj_rr nc pl (nj_up pk L x i) (wt i) * _ = 1 + nj_rr nc pl (pk i) (wt i) * _
  rw [nj_up_n (by omega)])
/-- the level has no more -/
theorem nj_SI_back (hw : nj_wp m wt k) (h : nj_SI nc pl (nj_be a6 a7 a8) (nj_ps a5) m wt k a17 a18 a19 a20 a21 (L + 1) bs st pk) (hnc : nc ≤ 136) (hno : ∀ c, pk L ≤ c → c < nc → pl c = wt L → nj_w3 (a19 L) (a20 L) (a21 L) c = false) :
    nj_SI nc pl (nj_be a6 a7 a8) (nj_ps a5) m wt k a17 a18 a19 a20 a21 L bs (st + 1) pk := by
  obtain ⟨h1, h2, h3, h4, h5⟩ := h
  rw [nj_ph_s] at h3
  refine ⟨by omega, fun i hi => h2 i (by omega), by omega, h4, fun tc E s ht => ?_⟩
  rcases h5 tc E s ht with g | ⟨i, i1, i2, i3, i4⟩
  · exact Or.inl g
  · by_cases z : i = L
    · subst z
      obtain ⟨t1, t2, t3, t4, t5⟩ := ht
      obtain ⟨c1, c2⟩ := t1 _ (hw.2.1 i (by omega)).1
      have := hno _ i2 c1 c2
      have y := (i4 (tc (wt i)) (by omega)).mpr (fun i' hi' => by
        have l := hw.2.2.1 i' i hi' (by omega)
        exact t2 _ _ (hw.2.1 i' (by omega)).1 (hw.2.1 i (by omega)).1 (by omega))
      exact absurd (this.symm.trans y) (by decide)
    · exact Or.inr ⟨i, by omega, i2, i3, i4⟩
/-- what a pick at level L says of a target -/
theorem nj_SI_pick (hw : nj_wp m wt k) (hnc : nc ≤ 136) (hL : L < k) {tc : Nat → Nat} {E : Nat → Bool} {s : Nat} (ht : nj_TG nc pl (nj_be a6 a7 a8) (nj_ps a5) m tc E s) {c : Nat} (hcp : ∀ c', pk L ≤ c' → c' < c → pl c' = wt L → nj_w3 (a19 L) (a20 L) (a21 L) c' = false)
    (i2 : pk L ≤ tc (wt L)) (i4 : ∀ d, d < 192 → (nj_w3 (a19 L) (a20 L) (a21 L) d = true ↔ ∀ i', i' < L → (nj_be a6 a7 a8) (tc (wt i')) d = true)) : c ≤ tc (wt L) := by
  obtain ⟨t1, t2, t3, t4, t5⟩ := ht
  obtain ⟨c1, c2⟩ := t1 _ (hw.2.1 L hL).1
  rcases Nat.lt_or_ge (tc (wt L)) c with z | z
  · have := hcp _ i2 z c2
    have y := (i4 (tc (wt L)) (by omega)).mpr (fun i' hi' => by
      have l := hw.2.2.1 i' L hi' hL
      exact t2 _ _ (hw.2.1 i' (by omega)).1 (hw.2.1 L hL).1 (by omega))
    exact absurd (this.symm.trans y) (by decide)
  · exact z
theorem nj_SI_rr {c : Nat} (hL : L < k) (c1 : pk L ≤ c) (c2 : c < nc) (c3 : pl c = wt L) : nj_rr nc pl (c + 1) (wt L) * nj_SS (fun i => nj_rr nc pl 0 (wt i)) k (k - (L + 1)) + nj_SS (fun i => nj_rr nc pl 0 (wt i)) k (k - (L + 1)) ≤ nj_rr nc pl (pk L) (wt L) * nj_SS (fun i => nj_rr nc pl 0 (wt i)) k (k - (L + 1)) := by
  have := nj_rr_lt c1 c2 c3
  rw [← Nat.succ_mul]
  exact Nat.mul_le_mul_right _ this
/-- a pick that goes no deeper -/
theorem nj_SI_stay (hw : nj_wp m wt k) (h : nj_SI nc pl (nj_be a6 a7 a8) (nj_ps a5) m wt k a17 a18 a19 a20 a21 (L + 1) bs st pk) (hnc : nc ≤ 136) {c : Nat} (c1 : pk L ≤ c) (c2 : c < nc) (c3 : pl c = wt L)
    (hcp : ∀ c', pk L ≤ c' → c' < c → pl c' = wt L → nj_w3 (a19 L) (a20 L) (a21 L) c' = false) {bs' : Int32} (hb : bs' = -1 ∨ ∃ q, q ≤ 64 ∧ bs' = nI q)
    (hk : ∀ q, bs = nI q → ∃ q', q' ≤ q ∧ bs' = nI q')
    (hf : ∀ tc E s, nj_TG nc pl (nj_be a6 a7 a8) (nj_ps a5) m tc E s → c = tc (wt L) → (∀ f, nj_bl (a18 L) f = true → E f = true) → (∀ d, d < 192 → (nj_w3 (a19 L) (a20 L) (a21 L) d = true ↔ ∀ i', i' < L → (nj_be a6 a7 a8) (tc (wt i')) d = true)) → ∃ q, q ≤ s ∧ bs' = nI q) :
    nj_SI nc pl (nj_be a6 a7 a8) (nj_ps a5) m wt k (upd a17 L (nI c)) a18 a19 a20 a21 (L + 1) bs' (st + 1) (nj_up pk L (c + 1)) := by
  obtain ⟨h1, h2, h3, h4, h5⟩ := h
  rw [nj_ph_s] at h3
  have r := nj_SI_rr (k := k) (pk := pk) (by omega) c1 c2 c3
  have p := nj_SS_pos (fun i => nj_rr nc pl 0 (wt i)) k (k - (L + 1))
  refine ⟨h1, fun i hi => ?_, ?_, hb, fun tc E s ht => ?_⟩
  · by_cases z : i = L
    · rw [z, pk_us, nj_up_s]
      exact ⟨nI_1 c, by omega⟩
    · rw [pk_un z, nj_up_n z]
      exact h2 i (by omega)
  · rw [nj_ph_s, nj_ph_up, nj_up_s]
    omega
  · rcases h5 tc E s ht with ⟨q, q1, q2⟩ | ⟨i, i1, i2, i3, i4⟩
    · obtain ⟨q', r1, r2⟩ := hk q q2
      exact Or.inl ⟨q', by omega, r2⟩
    · by_cases z : i = L
      · subst z
        have le := nj_SI_pick hw hnc (by omega) ht hcp i2 i4
        by_cases y : c = tc (wt i)
        · exact Or.inl (hf tc E s ht y i3 i4)
        · exact Or.inr ⟨i, i1, by rw [nj_up_s]; omega, i3, i4⟩
      · exact Or.inr ⟨i, i1, by rw [nj_up_n z]; exact i2, i3, i4⟩
/-- a pick that opens the next level -/
theorem nj_SI_enter (hw : nj_wp m wt k) (h : nj_SI nc pl (nj_be a6 a7 a8) (nj_ps a5) m wt k a17 a18 a19 a20 a21 (L + 1) bs st pk) (hL : L + 1 < k) (hnc : nc ≤ 136) {c : Nat} (c1 : pk L ≤ c) (c2 : c < nc) (c3 : pl c = wt L)
    (hcp : ∀ c', pk L ≤ c' → c' < c → pl c' = wt L → nj_w3 (a19 L) (a20 L) (a21 L) c' = false) :
    nj_SI nc pl (nj_be a6 a7 a8) (nj_ps a5) m wt k (upd (upd a17 L (nI c)) (L + 1) (-1)) (vp_updL a18 (L + 1) (a18 L ||| a5 c)) (vp_updL a19 (L + 1) (a19 L &&& a6 c)) (vp_updL a20 (L + 1) (a20 L &&& a7 c)) (vp_updL a21 (L + 1) (a21 L &&& a8 c)) (L + 1 + 1) bs (st + 1) (nj_up (nj_up pk L (c + 1)) (L + 1) 0) := by
  obtain ⟨h1, h2, h3, h4, h5⟩ := h
  rw [nj_ph_s] at h3
  have r := nj_SI_rr (k := k) (pk := pk) (by omega) c1 c2 c3
  have eS : nj_SS (fun i => nj_rr nc pl 0 (wt i)) k (k - (L + 1)) = 2 + nj_rr nc pl 0 (wt (L + 1)) * nj_SS (fun i => nj_rr nc pl 0 (wt i)) k (k - (L + 1 + 1)) := by
    have e : k - (L + 1) = (k - (L + 1 + 1)) + 1 := by omega
    have e2 : k - ((k - (L + 1 + 1)) + 1) = L + 1 := by omega
    rw [e]
    show 2 + nj_rr nc pl 0 (wt (k - ((k - (L + 1 + 1)) + 1))) * _ = _
    rw [e2]
  refine ⟨by omega, fun i hi => ?_, ?_, h4, fun tc E s ht => ?_⟩
  · by_cases z : i = L + 1
    · rw [z, pk_us, nj_up_s]
      exact ⟨by decide, by omega⟩
    · rw [pk_un z, nj_up_n z]
      by_cases z2 : i = L
      · rw [z2, pk_us, nj_up_s]
        exact ⟨nI_1 c, by omega⟩
      · rw [pk_un z2, nj_up_n z2]
        exact h2 i (by omega)
  · rw [nj_ph_s, nj_ph_up, nj_up_s, nj_ph_s, nj_ph_up, nj_up_s]
    omega
  · rcases h5 tc E s ht with g | ⟨i, i1, i2, i3, i4⟩
    · exact Or.inl g
    · by_cases z : i = L
      · subst z
        have le := nj_SI_pick hw hnc (by omega) ht hcp i2 i4
        by_cases y : c = tc (wt i)
        · refine Or.inr ⟨i + 1, by omega, by rw [nj_up_s]; omega, fun f hf => ?_, fun d hd => ?_⟩
          · rw [pk_uLs, nj_bl_or, Bool.or_eq_true] at hf
            rcases hf with hf | hf
            · exact i3 f hf
            · exact ht.2.2.2.1 _ f (hw.2.1 i (by omega)).1 (by rw [← y]; exact hf)
          · rw [pk_uLs, pk_uLs, pk_uLs, nj_w3_and, Bool.and_eq_true, i4 d hd]
            constructor
            · intro ⟨g1, g2⟩ i' hi'
              by_cases y2 : i' = i
              · rw [y2, ← y]; exact g2
              · exact g1 i' (by omega)
            · intro g
              refine ⟨fun i' hi' => g i' (by omega), ?_⟩
              have := g i (by omega)
              rw [← y] at this
              exact this
        · refine Or.inr ⟨i, by omega, ?_, ?_, ?_⟩
          · rw [nj_up_n (by omega), nj_up_s]; omega
          · rw [pk_uLn (by omega)]; exact i3
          · rw [pk_uLn (by omega), pk_uLn (by omega), pk_uLn (by omega)]; exact i4
      · refine Or.inr ⟨i, by omega, ?_, ?_, ?_⟩
        · rw [nj_up_n (by omega), nj_up_n z]; exact i2
        · rw [pk_uLn (by omega)]; exact i3
        · rw [pk_uLn (by omega), pk_uLn (by omega), pk_uLn (by omega)]; exact i4
/-- the start -/
theorem nj_SI_0 (hw : nj_wp m wt k) (hk : 0 < k) (hnc : nc ≤ 132) (e17 : a17 0 = -1) (e18 : a18 0 = 0) (e19 : a19 0 = -1) (e20 : a20 0 = -1) (e21 : a21 0 = -1) : nj_SI nc pl (nj_be a6 a7 a8) (nj_ps a5) m wt k a17 a18 a19 a20 a21 1 (-1) 0 (fun _ => 0) := by
  refine ⟨hk, fun i hi => ?_, ?_, Or.inl rfl, fun tc E s ht => Or.inr ⟨0, by omega, Nat.zero_le _, fun f hf => ?_, fun d hd => ?_⟩⟩
  · have : i = 0 := by omega
    rw [this, e17]
    exact ⟨by decide, Nat.zero_le _⟩
  · have a := nj_ns_rr (pl := pl) (wt := wt) (k := k) hw.2.2.1 nc
    have b := nj_SS_ub hw.1 (Nat.le_trans a hnc)
    have c : nj_ph nc pl wt k (fun _ => 0) 1 = 0 + (1 + nj_rr nc pl 0 (wt 0) * nj_SS (fun i => nj_rr nc pl 0 (wt i)) k (k - 1)) := rfl
    have e : nj_SS (fun i => nj_rr nc pl 0 (wt i)) k k = 2 + nj_rr nc pl 0 (wt 0) * nj_SS (fun i => nj_rr nc pl 0 (wt i)) k (k - 1) := by
      have e1 : k = (k - 1) + 1 := by omega
      have e2 : k - ((k - 1) + 1) = 0 := by omega
      have : nj_SS (fun i => nj_rr nc pl 0 (wt i)) k ((k - 1) + 1) = 2 + nj_rr nc pl 0 (wt (k - ((k - 1) + 1))) * nj_SS (fun i => nj_rr nc pl 0 (wt i)) k (k - 1) := rfl
      rw [e2, ← e1] at this
      exact this
    omega
  · rw [e18, nj_bl_0] at hf
    exact absurd hf (by decide)
  · refine ⟨fun _ i' hi' => absurd hi' (by omega), fun _ => ?_⟩
    rw [e19, e20, e21]
    unfold nj_w3
    by_cases y1 : d < 64
    · rw [if_pos y1]; exact nj_bl_m1 _ y1
    · by_cases y2 : d < 128
      · rw [if_neg y1, if_pos y2]; exact nj_bl_m1 _ (by omega)
      · rw [if_neg y1, if_neg y2]; exact nj_bl_m1 _ (by omega)
end
end
section
/-! nextOpen, enter, leastCut -/
section
variable {fP fI fS fG fJ fU fC fE : Int32} {a1 a2 a3 a4 a11 a12 a13 a14 a16 a17 : Nat → Int32} {a5 a6 a7 a8 a9 a10 a15 a18 a19 a20 a21 : Nat → Int64} {nc n : Nat} {pl : Nat → Nat}
theorem nj_nextOpen {post : Int32 → Prop} {L pk p : Nat} (hL : L < 6) (hp : p < 6) (h16 : a16 L = nI p) (h17 : a17 L + 1 = nI pk) (hpk : pk ≤ nc) (hC : fC = nI nc) (hnc : nc ≤ 136) (h4 : ∀ c, c < nc → a4 c = nI (pl c) ∧ pl c < 6)
    (H0 : (∀ c, pk ≤ c → c < nc → pl c = p → nj_w3 (a19 L) (a20 L) (a21 L) c = false) → post (-1))
    (H1 : ∀ c, pk ≤ c → c < nc → pl c = p → nj_w3 (a19 L) (a20 L) (a21 L) c = true → (∀ c', pk ≤ c' → c' < c → pl c' = p → nj_w3 (a19 L) (a20 L) (a21 L) c' = false) → post (nI c)) : wpX_nextOpen post (fP, fI, fS, fG, fJ, fU, fC, fE, a1, a2, a3, a4, a5, a6, a7, a8, a9, a10, a11, a12, a13, a14, a15, a16, a17, a18, a19, a20, a21) (nI L) := by
  subst hC
  have eL : (nI L).toNatClampNeg = L := nI_clamp (by omega)
  unfold wpX_nextOpen
  dsimp only
  rw [eL, h16, h17]
  refine ⟨vp_in_nI hL (by decide), nm_e ⟨vp_in_nI hL (by decide), nm_e ?_⟩⟩
  refine pk_loop (σ := Unit) (fun m i _ => wX_nextOpen_16 post (nI L) (nI p) fP fI fS fG fJ fU (nI nc) fE a1 a2 a3 a4 a5 a6 a7 a8 a9 a10 a11 a12 a13 a14 a15 a16 a17 a18 a19 a20 a21 m (nI i)) (fun i _ => pk ≤ i ∧ ∀ c, pk ≤ c → c < i → pl c = p → nj_w3 (a19 L) (a20 L) (a21 L) c = false) nc pk () hpk ⟨Nat.le_refl _, fun c a b => absurd a (by omega)⟩ ?_ ?_
  · intro m _ ⟨_, I⟩
    exact pk_le nc nc (fun _ => H0 I) (fun z => absurd z (by omega))
  · intro m i _ hi ⟨I1, I2⟩ hw
    have ei : (nI i).toNatClampNeg = i := nI_clamp (by omega)
    obtain ⟨q1, q2⟩ := h4 i hi
    refine pk_le nc i (fun z => absurd z (by omega)) (fun _ => ⟨vp_in_nI (by omega) (by decide), ?_⟩)
    rw [ei, eL, q1]
    refine ek_if (nI_eq (by omega) (by omega)) (fun e => ⟨vp_in_nI hL (by decide), vp_in_nI hL (by decide), vp_in_nI hL (by decide), nj_inW (by omega) (fun hb => br_f (by decide) (H1 i I1 hi e hb I2)) (fun hb => br_t rfl (nm_r (nI_1 i) (hw () ⟨by omega, fun c a b g => ?_⟩)))⟩) (fun e => nm_r (nI_1 i) (hw () ⟨by omega, fun c a b g => ?_⟩))
    · by_cases z : c = i
      · rw [z]; exact hb
      · exact I2 c a (by omega) g
    · by_cases z : c = i
      · rw [z] at g; exact absurd g e
      · exact I2 c a (by omega) g
theorem nj_enter {post : St1 → Prop} {L : Nat} {p1 p2 p3 p4 : Int64} (hL : L < 6) (H : post (fP, fI, fS, fG, fJ, fU, fC, fE, a1, a2, a3, a4, a5, a6, a7, a8, a9, a10, a11, a12, a13, a14, a15, a16, upd a17 L (-1), vp_updL a18 L p1, vp_updL a19 L p2, vp_updL a20 L p3, vp_updL a21 L p4)) : wpX_enter post (fP, fI, fS, fG, fJ, fU, fC, fE, a1, a2, a3, a4, a5, a6, a7, a8, a9, a10, a11, a12, a13, a14, a15, a16, a17, a18, a19, a20, a21) (nI L) p1 p2 p3 p4 := by
  have eL : (nI L).toNatClampNeg = L := nI_clamp (by omega)
  unfold wpX_enter
  dsimp only
  rw [eL]
  exact ⟨vp_in_nI hL (by decide), nm_e ⟨vp_in_nI hL (by decide), nm_e ⟨vp_in_nI hL (by decide), nm_e ⟨vp_in_nI hL (by decide), nm_e ⟨vp_in_nI hL (by decide), nm_e H⟩⟩⟩⟩⟩
theorem nj_lc77 {post : Int32 → St1 → Prop} {m : Nat → Bool} {wt : Nat → Nat} {k : Nat} (hw : nj_wp m wt k) (hk : 0 < k) (h16 : ∀ i, i < k → a16 i = nI (wt i)) (hC : fC = nI nc) (hnc : nc ≤ 132) (h4 : ∀ c, c < nc → a4 c = nI (pl c) ∧ pl c < 6)
    (h0 : nj_SI nc pl (nj_be a6 a7 a8) (nj_ps a5) m wt k a17 a18 a19 a20 a21 1 (-1) 0 (fun _ => 0))
    (HP : ∀ r b17 b18 b19 b20 b21, (r = -1 ∨ ∃ q, q ≤ 64 ∧ r = nI q) → (∀ tc E s, nj_TG nc pl (nj_be a6 a7 a8) (nj_ps a5) m tc E s → ∃ q, q ≤ s ∧ r = nI q) → post r (fP, fI, fS, fG, fJ, fU, fC, fE, a1, a2, a3, a4, a5, a6, a7, a8, a9, a10, a11, a12, a13, a14, a15, a16, b17, b18, b19, b20, b21)) : ∃ fu, wX_leastCut_77 post (nI k) fu 0 (-1) 0 fP fI fS fG fJ fU fC fE a1 a2 a3 a4 a5 a6 a7 a8 a9 a10 a11 a12 a13 a14 a15 a16 a17 a18 a19 a20 a21 := by
  have hk6 := hw.1
  refine loop_m (σ := Int32 × Int32 × Int32 × (Nat → Int32) × (Nat → Int64) × (Nat → Int64) × (Nat → Int64) × (Nat → Int64)) (fun f s => wX_leastCut_77 post (nI k) f s.1 s.2.1 s.2.2.1 fP fI fS fG fJ fU fC fE a1 a2 a3 a4 a5 a6 a7 a8 a9 a10 a11 a12 a13 a14 a15 a16 s.2.2.2.1 s.2.2.2.2.1 s.2.2.2.2.2.1 s.2.2.2.2.2.2.1 s.2.2.2.2.2.2.2)
    (fun s => ∃ L st pk, s.1 = nI L + (-1) ∧ s.2.2.1 = nI st ∧ nj_SI nc pl (nj_be a6 a7 a8) (nj_ps a5) m wt k s.2.2.2.1 s.2.2.2.2.1 s.2.2.2.2.2.1 s.2.2.2.2.2.2.1 s.2.2.2.2.2.2.2 L s.2.1 st pk) (fun s => 1073741824 - s.2.2.1.toNatClampNeg) ?_ (0, -1, 0, a17, a18, a19, a20, a21) ⟨1, 0, fun _ => 0, (pk_m1 0).symm, rfl, h0⟩
  intro f s ⟨L, st, pk, e1, e2, I⟩ hwk
  obtain ⟨x3, bs, x5, b17, b18, b19, b20, b21⟩ := s
  replace e1 : x3 = nI L + (-1) := e1
  replace e2 : x5 = nI st := e2
  replace I : nj_SI nc pl (nj_be a6 a7 a8) (nj_ps a5) m wt k b17 b18 b19 b20 b21 L bs st pk := I
  subst e2
  have I' := I
  obtain ⟨I1, I2, I3, I4, I5⟩ := I
  have est : (nI st).toNatClampNeg = st := nI_clamp (by omega)
  have est1 : (nI (st + 1)).toNatClampNeg = st + 1 := nI_clamp (by omega)
  -- going on
  have next : ∀ L' bs' pk' c17 c18 c19 c20 c21, nj_SI nc pl (nj_be a6 a7 a8) (nj_ps a5) m wt k c17 c18 c19 c20 c21 L' bs' (st + 1) pk' → wX_leastCut_77 post (nI k) f (nI L' + (-1)) bs' (nI (st + 1)) fP fI fS fG fJ fU fC fE a1 a2 a3 a4 a5 a6 a7 a8 a9 a10 a11 a12 a13 a14 a15 a16 c17 c18 c19 c20 c21 := by
    intro L' bs' pk' c17 c18 c19 c20 c21 h
    refine hwk (nI L' + (-1), bs', nI (st + 1), c17, c18, c19, c20, c21) ⟨L', st + 1, pk', rfl, rfl, h⟩ ?_
    show 1073741824 - (nI (st + 1)).toNatClampNeg < 1073741824 - (nI st).toNatClampNeg
    rw [est, est1]
    omega
  refine pk_le 1073741824 st (fun z => absurd z (by omega)) (fun _ => ?_)
  cases L with
  | zero =>
    subst e1
    refine br_t (show (nI 0 + (-1) : Int32) < 0 by decide) (HP _ _ _ _ _ _ I4 (fun tc E s ht => ?_))
    rcases I5 tc E s ht with g | ⟨i, i1, _⟩
    · exact g
    · omega
  | succ L =>
    rw [pk_m1] at e1
    subst e1
    have eL : (nI L).toNatClampNeg = L := nI_clamp (by omega)
    obtain ⟨J1, J2⟩ := I2 L (by omega)
    refine br_f (nI_pos (by omega)) (nj_nextOpen (nc := nc) (pl := pl) (by omega) (hw.2.1 L (by omega)).2 (h16 L (by omega)) J1 J2 hC (by omega) h4 (fun hno => br_f (by decide) ?_) (fun c c1 c2 c3 c4 c5 => br_t (nI_pos' (by omega)) ?_))
    · -- back
      have := next L bs pk b17 b18 b19 b20 b21 (nj_SI_back hw I' (by omega) hno)
      exact nm_e (nm_r (nI_1 st) this)
    · have ec : (nI c).toNatClampNeg = c := nI_clamp (by omega)
      rw [eL, ec, nj_i16 c (by omega)]
      refine ⟨vp_in_nI (by omega) (by decide), nm_e ⟨vp_in_nI (by omega) (by decide), vp_in_nI (by omega) (by decide), nm_e (nj_ones ?_)⟩⟩
      have hsz := nj_on_le (b18 L ||| a5 c)
      refine ⟨vp_in_nI (by omega) (by decide), vp_in_nI (by omega) (by decide), nm_e ⟨vp_in_nI (by omega) (by decide), vp_in_nI (by omega) (by decide), nm_e ⟨vp_in_nI (by omega) (by decide), vp_in_nI (by omega) (by decide), nm_e ?_⟩⟩⟩
      -- a target that is picked here is no larger
      have tsz : ∀ tc E s, nj_TG nc pl (nj_be a6 a7 a8) (nj_ps a5) m tc E s → c = tc (wt L) → (∀ f, nj_bl (b18 L) f = true → E f = true) → nj_on (b18 L ||| a5 c) ≤ s := by
        intro tc E s ht ecc h18
        refine Nat.le_trans (nj_ct_le 64 (fun f _ hf => ?_)) ht.2.2.2.2
        rw [nj_bl_or, Bool.or_eq_true] at hf
        rcases hf with hf | hf
        · exact h18 f hf
        · exact ht.2.2.2.1 _ f (hw.2.1 L (by omega)).1 (by rw [← ecc]; exact hf)
      have G0 : (∃ q, bs = nI q ∧ q ≤ 64 ∧ q ≤ nj_on (b18 L ||| a5 c)) → wX_leastCut_203 post (wX_leastCut_77 post (nI k) f) (nI k) (nI L) bs (nI st) (b18 L ||| a5 c) (nI (nj_on (b18 L ||| a5 c))) (b19 L &&& a6 c) (b20 L &&& a7 c) (b21 L &&& a8 c) 0 fP fI fS fG fJ fU fC fE a1 a2 a3 a4 a5 a6 a7 a8 a9 a10 a11 a12 a13 a14 a15 a16 (upd b17 L (nI c)) b18 b19 b20 b21 := by
        intro ⟨q, q1, q2, q3⟩
        refine br_t rfl (br_t rfl (nm_r (nI_1 st) ?_))
        have := next (L + 1) bs (nj_up pk L (c + 1)) (upd b17 L (nI c)) b18 b19 b20 b21 (nj_SI_stay hw I' (by omega) c1 c2 c3 c5 I4 (fun q e => ⟨q, Nat.le_refl _, e⟩) (fun tc E s ht ecc h18 _ => ⟨q, Nat.le_trans q3 (tsz tc E s ht ecc h18), q1⟩))
        rw [pk_m1] at this
        exact this
      have G1 : (∀ q, bs = nI q → q ≤ 64 → nj_on (b18 L ||| a5 c) < q) → wX_leastCut_203 post (wX_leastCut_77 post (nI k) f) (nI k) (nI L) bs (nI st) (b18 L ||| a5 c) (nI (nj_on (b18 L ||| a5 c))) (b19 L &&& a6 c) (b20 L &&& a7 c) (b21 L &&& a8 c) 1 fP fI fS fG fJ fU fC fE a1 a2 a3 a4 a5 a6 a7 a8 a9 a10 a11 a12 a13 a14 a15 a16 (upd b17 L (nI c)) b18 b19 b20 b21 := by
        intro hworth
        have hbq : ∀ q, bs = nI q → q < 2 ^ 31 → q ≤ 64 := by
          intro q e hq
          rcases I4 with g | ⟨q', g1, g2⟩
          · rw [g] at e
            exact absurd e.symm (nj_nI_m1 hq)
          · rw [g2] at e
            have := (nI_eq (by omega) hq).mp e
            omega
        refine br_f (by decide) (pk_le (k - 1) L (fun hl => br_f (by decide) ?_) (fun hl => nm_r (nI_1 L) ?_) (by
          have := pk_sub (a := k) (b := 1) (by omega)
          exact this))
        · -- the last level
          have eLk : L + 1 = k := by omega
          refine br_c (fun hz => nm_r (nI_1 st) ?_) (fun hz => nm_r (nI_1 st) ?_)
          · have := next (L + 1) (nI (nj_on (b18 L ||| a5 c))) (nj_up pk L (c + 1)) (upd b17 L (nI c)) b18 b19 b20 b21 (nj_SI_stay hw I' (by omega) c1 c2 c3 c5 (Or.inr ⟨_, hsz, rfl⟩) (fun q e => ?_) (fun tc E s ht ecc h18 _ => ⟨_, tsz tc E s ht ecc h18, rfl⟩))
            · rw [pk_m1] at this
              exact this
            · rcases I4 with g | ⟨q', g1, g2⟩
              · -- bs is -1: q may be anything that nI takes there; the size is at most 64
                rcases Nat.lt_or_ge q (nj_on (b18 L ||| a5 c)) with y | y
                · rw [g] at e
                  exact absurd e.symm (nj_nI_m1 (by omega))
                · exact ⟨_, y, rfl⟩
              · rcases Nat.lt_or_ge q (nj_on (b18 L ||| a5 c)) with y | y
                · have := hworth q e (by omega)
                  omega
                · exact ⟨_, y, rfl⟩
          · have := next (L + 1) bs (nj_up pk L (c + 1)) (upd b17 L (nI c)) b18 b19 b20 b21 (nj_SI_stay hw I' (by omega) c1 c2 c3 c5 I4 (fun q e => ⟨q, Nat.le_refl _, e⟩) (fun tc E s ht ecc h18 h3 => ?_))
            · rw [pk_m1] at this
              exact this
            · refine absurd ((nj_or0 _ _ _).mpr (fun d hd => ?_)) hz
              cases zd : nj_w3 (b19 L &&& a6 c) (b20 L &&& a7 c) (b21 L &&& a8 c) d
              · rfl
              · rw [nj_w3_and, Bool.and_eq_true] at zd
                refine absurd (fun p hp => ?_) (ht.2.2.1 d)
                obtain ⟨i, i1, i2⟩ := hw.2.2.2 p hp
                rw [← i2]
                by_cases zi : i = L
                · rw [zi, ← ecc]; exact zd.2
                · exact (h3 d hd).mp zd.1 i (by omega)
        · -- deeper
          refine nj_enter (by omega) (nm_r (nI_1 st) ?_)
          have := next (L + 1 + 1) bs _ _ _ _ _ _ (nj_SI_enter hw I' (by omega) (by omega) c1 c2 c3 c5)
          rw [pk_m1] at this
          exact this
      rcases I4 with g | ⟨q, g1, g2⟩
      · refine br_t (show bs < 0 by rw [g]; decide) (G1 (fun q e hq => ?_))
        rw [g] at e
        exact absurd e.symm (nj_nI_m1 (by omega))
      · subst g2
        refine br_f (nI_pos (by omega)) (pk_le q (nj_on (b18 L ||| a5 c)) (fun l => G0 ⟨q, rfl, g1, l⟩) (fun l => G1 (fun q' e hq => ?_)))
        have := (nI_eq (by omega) (by omega)).mp e
        omega
theorem nj_leastCut {post : Int32 → St1 → Prop} {mm : Nat} (hP : fP = nI n) (hn : n ≤ 6) (hmm : mm < 64) (hmb : ∀ p, mm.testBit p = true → p < n) (hC : fC = nI nc) (hnc : nc ≤ 132) (h4 : ∀ c, c < nc → a4 c = nI (pl c) ∧ pl c < 6)
    (HZ : mm = 0 → (fI = 0 → post 0 (fP, fI, fS, fG, fJ, fU, fC, fE, a1, a2, a3, a4, a5, a6, a7, a8, a9, a10, a11, a12, a13, a14, a15, a16, a17, a18, a19, a20, a21)) ∧ (¬ fI = 0 → post (-1) (fP, fI, fS, fG, fJ, fU, fC, fE, a1, a2, a3, a4, a5, a6, a7, a8, a9, a10, a11, a12, a13, a14, a15, a16, a17, a18, a19, a20, a21)))
    (HP : 0 < mm → ∀ r b16 b17 b18 b19 b20 b21, (r = -1 ∨ ∃ q, q ≤ 64 ∧ r = nI q) → (∀ tc E s, nj_TG nc pl (nj_be a6 a7 a8) (nj_ps a5) (fun p => mm.testBit p) tc E s → ∃ q, q ≤ s ∧ r = nI q) → post r (fP, fI, fS, fG, fJ, fU, fC, fE, a1, a2, a3, a4, a5, a6, a7, a8, a9, a10, a11, a12, a13, a14, a15, b16, b17, b18, b19, b20, b21)) : wpX_leastCut post (fP, fI, fS, fG, fJ, fU, fC, fE, a1, a2, a3, a4, a5, a6, a7, a8, a9, a10, a11, a12, a13, a14, a15, a16, a17, a18, a19, a20, a21) (nI mm) := by
  subst hP
  unfold wpX_leastCut
  refine pk_eq mm 0 (fun e => HZ e) (fun e => ?_)
  refine pk_loop (σ := Int32 × (Nat → Int32)) (fun f i s => wX_leastCut_21 post (nI mm) (nI n) fI fS fG fJ fU fC fE f s.1 (nI i) a1 a2 a3 a4 a5 a6 a7 a8 a9 a10 a11 a12 a13 a14 a15 s.2 a17 a18 a19 a20 a21)
    (fun i s => ∃ k wt, s.1 = nI k ∧ k ≤ i ∧ (∀ j, j < k → s.2 j = nI (wt j) ∧ wt j < i ∧ mm.testBit (wt j) = true) ∧ (∀ j j', j < j' → j' < k → wt j < wt j') ∧ (∀ p, p < i → mm.testBit p = true → ∃ j, j < k ∧ wt j = p)) n 0 (0, a16) (by omega)
    ⟨0, fun _ => 0, rfl, by omega, fun j hj => absurd hj (by omega), fun j j' _ hj => absurd hj (by omega), fun p hp => absurd hp (by omega)⟩ ?_ ?_
  · intro f s ⟨k, wt, e1, k1, k2, k3, k4⟩
    have hw : nj_wp (fun p => mm.testBit p) wt k := ⟨by omega, fun i hi => ⟨(k2 i hi).2.2, by have := (k2 i hi).2.1; omega⟩, k3, fun p hp => k4 p (hmb p hp) hp⟩
    have hk : 0 < k := by
      rcases Nat.eq_zero_or_pos k with z | z
      · exfalso
        refine e (Nat.eq_of_testBit_eq (fun p => ?_))
        rw [Nat.zero_testBit]
        cases zp : mm.testBit p
        · rfl
        · obtain ⟨j, j1, _⟩ := k4 p (hmb p zp) zp
          omega
      · exact z
    obtain ⟨s1, s2⟩ := s
    replace e1 : s1 = nI k := e1
    subst e1
    refine pk_le n n (fun _ => nj_enter (L := 0) (by omega) ?_) (fun z => absurd z (by omega))
    refine nj_lc77 hw hk (fun i hi => (k2 i hi).1) hC hnc h4 (nj_SI_0 hw hk hnc pk_us pk_uLs pk_uLs pk_uLs pk_uLs) (fun r b17 b18 b19 b20 b21 hr ht => HP (by omega) r s2 b17 b18 b19 b20 b21 hr ht)
  · intro f i s hi ⟨k, wt, e1, k1, k2, k3, k4⟩ hw
    obtain ⟨s1, s2⟩ := s
    replace e1 : s1 = nI k := e1
    subst e1
    have ek : (nI k).toNatClampNeg = k := nI_clamp (by omega)
    have eb : nj_bt (nI mm) i = mm.testBit i := nj_bt_nI mm (by omega)
    refine pk_le n i (fun z => absurd z (by omega)) (fun _ => ek_if (nj_bit (nI mm) i (by omega)) (fun hb => nm_r (nI_1 i) (hw (nI k, s2) ⟨k, wt, rfl, by omega, fun j hj => ⟨(k2 j hj).1, by have := (k2 j hj).2.1; omega, (k2 j hj).2.2⟩, k3, fun p hp hpb => ?_⟩)) (fun hb => ?_))
    · by_cases z : p = i
      · rw [z, ← eb, hb] at hpb
        exact absurd hpb (by decide)
      · exact k4 p (by omega) hpb
    · have hb' : mm.testBit i = true := by rw [← eb]; exact nj_ts_nf hb
      rw [ek, nj_i8 i (by omega)]
      refine ⟨vp_in_nI (by omega) (by decide), nm_e (nm_r (nI_1 k) (nm_r (nI_1 i) (hw (nI (k + 1), upd s2 k (nI i)) ⟨k + 1, nj_up wt k i, rfl, by omega, fun j hj => ?_, fun j j' hjj hj' => ?_, fun p hp hpb => ?_⟩)))⟩
      · show upd s2 k (nI i) j = _ ∧ _
        by_cases z : j = k
        · rw [z, pk_us, nj_up_s]; exact ⟨rfl, by omega, hb'⟩
        · rw [pk_un z, nj_up_n z]
          exact ⟨(k2 j (by omega)).1, by have := (k2 j (by omega)).2.1; omega, (k2 j (by omega)).2.2⟩
      · by_cases z : j' = k
        · rw [z, nj_up_s, nj_up_n (by omega)]
          exact (k2 j (by omega)).2.1
        · rw [nj_up_n z, nj_up_n (by omega)]
          exact k3 j j' hjj (by omega)
      · by_cases z : p = i
        · exact ⟨k, by omega, by rw [nj_up_s, z]⟩
        · obtain ⟨j, j1, j2⟩ := k4 p (by omega) hpb
          exact ⟨j, by omega, by rw [nj_up_n (by omega)]; exact j2⟩
end
end
section
/-! judge: every marking that is reached has its distance -/
def nj_FAR (N : nj_Net) (a3 : Nat → Int32) : Prop := ∀ w, nj_ok N w → ∃ q, q ≤ w.length ∧ q ≤ 64 ∧ a3 (nj_cd (nj_mk N w) 6) = nI q
/-- what leastCut says of marking m -/
def nj_LC (fI : Int32) (nc : Nat) (pl : Nat → Nat) (be ps : Nat → Nat → Bool) (m : Nat) (r : Int32) : Prop :=
  (r = -1 ∨ ∃ q, q ≤ 64 ∧ r = nI q) ∧ (0 < m → ∀ tc E s, nj_TG nc pl be ps (fun p => m.testBit p) tc E s → ∃ q, q ≤ s ∧ r = nI q) ∧ (m = 0 → fI = 0 → r = nI 0)
/-- no transition is ready, but not clear, in m -/
def nj_nocl (N : nj_Net) (m : Nat) : Prop := ∀ t, t < 8 → N.2.2.1 t = true → nj_rdy N t (nj_mb (nI m)) → nj_clr N t (nj_mb (nI m))
theorem nj_mk_n {N : nj_Net} {n : Nat} (hM : ∀ p, N.2.2.2 p = true → p < n) (hP : ∀ t p, t < 8 → N.2.2.1 t = true → N.2.1 t p = true → p < n) {p : Nat} : ∀ w, nj_ok N w → nj_mk N w p = true → p < n := by
  intro w
  induction w with
  | nil => exact fun _ h => hM p h
  | cons t w ih =>
    intro ho h
    have e : nj_mk N (t :: w) p = ((nj_mk N w p && !N.1 t p) || N.2.1 t p) := rfl
    rw [e, Bool.or_eq_true, Bool.and_eq_true] at h
    rcases h with h | h
    · exact ih ho.1 h.1
    · exact hP t p ho.2.1 ho.2.2.1 h
theorem nj_tb_n {n m p : Nat} (hm : m < 2 ^ n) (h : m.testBit p = true) : p < n := by
  rcases Nat.lt_or_ge p n with z | z
  · exact z
  · rw [Nat.testBit_lt_two_pow (Nat.lt_of_lt_of_le hm (Nat.pow_le_pow_right (n := 2) (by decide) z))] at h
    exact absurd h (by decide)
section
variable {fP fI fS fG fJ fU fC fE : Int32} {a1 a2 a3 a4 a11 a12 a13 a14 a16 a17 : Nat → Int32} {a5 a6 a7 a8 a9 a10 a15 a18 a19 a20 a21 : Nat → Int64} {ne nc : Nat} {T : Nat → Nat} {eb : Nat → Nat → Nat} {pl pd D : Nat → Nat} {n : Nat}
theorem nj_UI_off (hUI : nj_UI fI fS a1 a2 fC fE fU a4 a5 a6 a7 a8 a9 a10 a11 a12 a13 a14 a15 ne nc T eb pl pd D) (hno : ∀ m, m < 64 → a11 m = 0 → a12 m = -1) : nj_off (nj_N fI fS a1 a2) ne nc T eb pl (nj_be a6 a7 a8) (nj_ps a5) D (nj_mo fI a1 a2) := by
  obtain ⟨hPI, hfE, hL, hDb, hncb, hcl, hctc, hO⟩ := hUI
  intro t b hp
  obtain ⟨j, j1, j2, j3⟩ := hO.2.2 t b hp (fun p hp1 => (hp.2.2.1 p hp1).1)
  refine ⟨j, j1, ?_⟩
  have hc : ¬ a11 ((nj_mo fI a1 a2) (nj_K T D (nj_H (nj_N fI fS a1 a2) t b (nj_ps a5) 6) t j)) = 0 := by
    intro z
    obtain ⟨u, b', j', c1, c2⟩ := j2 z
    have a := hno _ (nj_mo_lt fI a1 a2 _) z
    rw [c1.1] at a
    exact nj_nI_m1 (by have := c1.2.1.1; omega) a
  rcases j3 hc with g | ⟨e, e1, e2, e3⟩
  · exact Or.inl g
  · refine Or.inr ⟨e, e1, e2, ?_, fun eq hpl => e3 (Or.inr ⟨eq.symm, hpl⟩)⟩
    rcases Nat.lt_or_ge (nj_ct (nj_H (nj_N fI fS a1 a2) t b (nj_ps a5) 6) 64) (nj_ct (nj_He (nj_N fI fS a1 a2) T eb (nj_ps a5) e) 64) with z | z
    · exact absurd (Or.inl z) e3
    · exact z
theorem nj_far (hN : nj_NF fP fI fS a1 a2 n) (hUI : nj_UI fI fS a1 a2 fC fE fU a4 a5 a6 a7 a8 a9 a10 a11 a12 a13 a14 a15 ne nc T eb pl pd D) (hno : ∀ m, m < 64 → a11 m = 0 → a12 m = -1) (hU : fU = 0)
    (hLC : ∀ m, m < 2 ^ n → nj_LC fI nc pl (nj_be a6 a7 a8) (nj_ps a5) m (a3 m)) (hnc : ∀ m, m < 2 ^ n → ¬ a3 m < 0 → nj_nocl (nj_N fI fS a1 a2) m) : nj_FAR (nj_N fI fS a1 a2) a3 := by
  have hO := nj_UI_off hUI hno
  have hF := nj_UI_fr hN hUI
  have hX := hF.1
  have hw := nj_N_wf fI fS a1 a2
  have hM6 := nj_hM fI fS a1 a2
  have hP6 := nj_hP fI fS a1 a2
  obtain ⟨n1, n2, n3, ⟨i0, hi0, n4⟩, n5, n6, n7⟩ := hN
  have hM : ∀ p, ((nj_N fI fS a1 a2)).2.2.2 p = true → p < n := fun p hp => n5 p (nj_g6.mp hp).2
  have hPn : ∀ t p, t < 8 → ((nj_N fI fS a1 a2)).2.2.1 t = true → ((nj_N fI fS a1 a2)).2.1 t p = true → p < n := by
    intro t p ht hh hp
    obtain ⟨_, q1, q2, h1, h2, h3⟩ := n7 t ht hh
    obtain ⟨g1, g2⟩ := nj_g6.mp hp
    have := (nj_two h3 (by omega)).mp g2
    omega
  have hpr : ∀ t, t < 8 → ((nj_N fI fS a1 a2)).2.2.1 t = true → ∃ p, ((nj_N fI fS a1 a2)).1 t p = true := by
    intro t ht hh
    obtain ⟨⟨q1, q2, h1, h2, h3⟩, _⟩ := n7 t ht hh
    exact ⟨q1, nj_g6.mpr ⟨by omega, (nj_two h3 (by omega)).mpr (Or.inl rfl)⟩⟩
  have hpo : ∀ t, t < 8 → ((nj_N fI fS a1 a2)).2.2.1 t = true → ∃ p, ((nj_N fI fS a1 a2)).2.1 t p = true := by
    intro t ht hh
    obtain ⟨_, q1, q2, h1, h2, h3⟩ := n7 t ht hh
    exact ⟨q1, nj_g6.mpr ⟨by omega, (nj_two h3 (by omega)).mpr (Or.inl rfl)⟩⟩
  have hU5 := hUI.1.2.2.2.2 hU
  have hbd := hUI.1.2.2.2.1
  have hne64 := hF.2.1.2.2.2
  have tb : ∀ w p, (nj_cd (nj_mk (nj_N fI fS a1 a2) w) 6).testBit p = nj_mk (nj_N fI fS a1 a2) w p := by
    intro w p
    rcases Nat.lt_or_ge p 6 with z | z
    · exact nj_cd_tb 6 p z
    · rw [nj_mk_6 hM6 hP6 z]
      exact Nat.testBit_lt_two_pow (Nat.lt_of_lt_of_le (nj_cd_lt _ 6) (Nat.pow_le_pow_right (n := 2) (by decide) z))
  have lt : ∀ w, nj_ok (nj_N fI fS a1 a2) w → nj_cd (nj_mk (nj_N fI fS a1 a2) w) 6 < 2 ^ n := by
    intro w ho
    refine Nat.lt_pow_two_of_testBit _ (fun i hi => ?_)
    rw [tb]
    cases z : nj_mk (nj_N fI fS a1 a2) w i
    · rfl
    · have := nj_mk_n hM hPn w ho z
      omega
  -- words up to a length, when all shorter ones are safe
  have key : ∀ len, nj_sf (nj_N fI fS a1 a2) len → ∀ w, nj_ok (nj_N fI fS a1 a2) w → w.length ≤ len → ∃ q, q ≤ w.length ∧ q ≤ 64 ∧ a3 (nj_cd (nj_mk (nj_N fI fS a1 a2) w) 6) = nI q := by
    intro len hs w ho hl
    rcases Nat.eq_zero_or_pos (nj_cd (nj_mk (nj_N fI fS a1 a2) w) 6) with z | z
    · have none : ∀ p, nj_mk (nj_N fI fS a1 a2) w p = false := by
        intro p
        rw [← tb, z, Nat.zero_testBit]
      have hw0 : w = [] := by
        cases w with
        | nil => rfl
        | cons t w =>
          obtain ⟨p, hp⟩ := hpo t ho.2.1 ho.2.2.1
          have := none p
          rw [nj_mk_post hp] at this
          exact absurd this (by decide)
      have hfI : fI = 0 := by
        refine (nj_0_iff fI).mpr (fun i hi => ?_)
        cases zi : nj_bt fI i
        · rfl
        · have a := n5 i zi
          have b := none i
          rw [hw0] at b
          have c : ((nj_N fI fS a1 a2)).2.2.2 i = true := nj_g6.mpr ⟨by omega, zi⟩
          exact absurd (b.symm.trans c) (by decide)
      refine ⟨0, Nat.zero_le _, Nat.zero_le _, ?_⟩
      rw [z]
      exact (hLC 0 (Nat.two_pow_pos n)).2.2 rfl hfI
    · obtain ⟨E, cE, lab, sz⟩ := nj_complete hw hM6 hP6 hpr hX hU5 hne64 (fun K m h => nj_hmo K m h) hO hs ho hl
      have hb : ∀ p, ∃ c, nj_mk (nj_N fI fS a1 a2) w p = true → nj_cut (nj_N fI fS a1 a2) nc T eb pl pd E c ∧ pl c = p := by
        intro p
        cases hp : nj_mk (nj_N fI fS a1 a2) w p
        · exact ⟨0, fun h => absurd h (by decide)⟩
        · obtain ⟨c, hc⟩ := (lab p).mp hp
          exact ⟨c, fun _ => hc⟩
      obtain ⟨tc, htc⟩ := Classical.skolem.mp hb
      obtain ⟨q, q1, q2⟩ := (hLC _ (lt w ho)).2.1 z tc E (nj_ct E 64) (by
        refine ⟨fun p hp => ?_, fun p q hp hq hn => ?_, fun d hd => ?_, fun p f hp hf => ?_, Nat.le_refl _⟩
        · have hp' : (nj_cd (nj_mk (nj_N fI fS a1 a2) w) 6).testBit p = true := hp
          rw [tb] at hp'
          exact ⟨(htc p hp').1.1, (htc p hp').2⟩
        · have hp' : (nj_cd (nj_mk (nj_N fI fS a1 a2) w) 6).testBit p = true := hp
          have hq' : (nj_cd (nj_mk (nj_N fI fS a1 a2) w) 6).testBit q = true := hq
          rw [tb] at hp' hq'
          refine nj_cut_be hX cE (htc p hp').1 (htc q hq').1 (fun z => hn ?_)
          rw [← (htc p hp').2, ← (htc q hq').2, z]
        · have hd' : ∀ c, nj_cut (nj_N fI fS a1 a2) nc T eb pl pd E c → (nj_be a6 a7 a8) c d = true := by
            intro c hc
            have hm : nj_mk (nj_N fI fS a1 a2) w (pl c) = true := (lab _).mpr ⟨c, hc, rfl⟩
            have e : tc (pl c) = c := nj_cut_eq hX hU5 cE (htc _ hm).1 hc (htc _ hm).2
            have := hd (pl c) (by show (nj_cd (nj_mk (nj_N fI fS a1 a2) w) 6).testBit (pl c) = true; rw [tb]; exact hm)
            rw [e] at this
            exact this
          -- some condition is in the cut
          have hex : ∃ p, nj_mk (nj_N fI fS a1 a2) w p = true := by
            apply Classical.byContradiction
            intro hh
            have : nj_cd (nj_mk (nj_N fI fS a1 a2) w) 6 = 0 := by
              refine Nat.eq_of_testBit_eq (fun p => ?_)
              rw [tb, Nat.zero_testBit]
              cases zp : nj_mk (nj_N fI fS a1 a2) w p
              · rfl
              · exact absurd ⟨p, zp⟩ hh
            omega
          obtain ⟨p, hp⟩ := hex
          obtain ⟨c, hc, _⟩ := (lab p).mp hp
          have dn := hbd c d hc.1 (hd' c hc)
          by_cases zc : nj_cut (nj_N fI fS a1 a2) nc T eb pl pd E d
          · have := hd' d zc
            rw [hX.2.2.2.2.2.2.2.2.1 d dn] at this
            exact absurd this (by decide)
          · obtain ⟨c', c1, c2⟩ := nj_cut_max hX hpo hpr cE dn zc
            have := hd' c' c1
            exact absurd (c2.symm.trans this) (by decide)
        · have hp' : (nj_cd (nj_mk (nj_N fI fS a1 a2) w) 6).testBit p = true := hp
          rw [tb] at hp'
          have hcut := (htc p hp').1
          exact nj_ps_in hX cE _ _ hcut.1 (Nat.le_refl _) hcut.2.1 f hf)
      have := nj_ct_ub E 64
      exact ⟨q, by omega, by omega, q2⟩
  have mbk : ∀ w, nj_mb (nI (nj_cd (nj_mk (nj_N fI fS a1 a2) w) 6)) = nj_mk (nj_N fI fS a1 a2) w := by
    intro w
    funext p
    show (decide (p < 6) && nj_bt (nI (nj_cd (nj_mk (nj_N fI fS a1 a2) w) 6)) p) = _
    rcases Nat.lt_or_ge p 6 with z | z
    · rw [decide_eq_true z, Bool.true_and, nj_bt_nI _ (by omega), tb]
    · rw [decide_eq_false (by omega), Bool.false_and, nj_mk_6 hM6 hP6 z]
  have sf : ∀ len, nj_sf (nj_N fI fS a1 a2) len := by
    intro len
    induction len with
    | zero => exact fun w _ h => absurd h (by omega)
    | succ len ih =>
      intro w ho hl t ht hh hr
      obtain ⟨q, q1, q3, q2⟩ := key len ih w ho (by omega)
      have := hnc _ (lt w ho) (by rw [q2]; exact nI_pos (by omega)) t ht hh
      rw [mbk w] at this
      exact this hr
  exact fun w ho => key w.length (sf _) w ho (Nat.le_refl _)
theorem nj_clashes {post : Int32 → Prop} {m : Nat} (hN : nj_NF fP fI fS a1 a2 n) (H1 : post 1) (H0 : nj_nocl (nj_N fI fS a1 a2) m → post 0) : wpX_clashes post (fP, fI, fS, fG, fJ, fU, fC, fE, a1, a2, a3, a4, a5, a6, a7, a8, a9, a10, a11, a12, a13, a14, a15, a16, a17, a18, a19, a20, a21) (nI m) := by
  obtain ⟨n1, n2, n3, n4, n5, n6, n7⟩ := hN
  refine pk_loop (σ := Unit) (fun f i _ => wX_clashes_2 post (nI m) fP fI fS fG fJ fU fC fE a1 a2 a3 a4 a5 a6 a7 a8 a9 a10 a11 a12 a13 a14 a15 a16 a17 a18 a19 a20 a21 f (nI i)) (fun i _ => ∀ t, t < i → ((nj_N fI fS a1 a2)).2.2.1 t = true → nj_rdy (nj_N fI fS a1 a2) t (nj_mb (nI m)) → nj_clr (nj_N fI fS a1 a2) t (nj_mb (nI m))) 8 0 () (by omega) (fun t ht => absurd ht (by omega)) ?_ ?_
  · intro f _ I
    exact pk_le 8 8 (fun _ => H0 I) (fun z => absurd z (by omega))
  · intro f i _ hi I hw
    have nxt : (((nj_N fI fS a1 a2)).2.2.1 i = true → nj_rdy (nj_N fI fS a1 a2) i (nj_mb (nI m)) → nj_clr (nj_N fI fS a1 a2) i (nj_mb (nI m))) → wX_clashes_2 post (nI m) fP fI fS fG fJ fU fC fE a1 a2 a3 a4 a5 a6 a7 a8 a9 a10 a11 a12 a13 a14 a15 a16 a17 a18 a19 a20 a21 f (nI (i + 1)) := by
      intro g
      refine hw () (fun t ht => ?_)
      by_cases z : t = i
      · rw [z]; exact g
      · exact I t (by omega)
    refine pk_le 8 i (fun z => absurd z (by omega)) (fun _ => nj_has hi (fun hh => br_f (by decide) ?_) (fun hh => br_t rfl (nm_r (nI_1 i) (nxt (fun a => absurd (hh.symm.trans a) (by decide))))))
    refine nj_ready hi (n6 i hi).1 (fun hr => br_f (by decide) ?_) (fun hr => br_t rfl (nm_r (nI_1 i) (nxt (fun _ a => absurd a hr))))
    refine nj_clear hi (n6 i hi).1 (n6 i hi).2 (fun _ hc => br_f (by decide) (nm_r (nI_1 i) (nxt (fun _ _ => hc)))) (fun _ => br_t rfl H1)
theorem nj_judge {post : St1 → Prop} (hN : nj_NF fP fI fS a1 a2 n) (hJ : ¬ fJ = 0 → fU = 0 → nj_FAR (nj_N fI fS a1 a2) a3)
    (HP : ∀ gJ gU gC gE b3 b4 b5 b6 b7 b8 b9 b10 b11 b12 b13 b14 b15 b16 b17 b18 b19 b20 b21, ¬ gJ = 0 → (gU = 0 → nj_FAR (nj_N fI fS a1 a2) b3) →
      post (fP, fI, fS, fG, gJ, gU, gC, gE, a1, a2, b3, b4, b5, b6, b7, b8, b9, b10, b11, b12, b13, b14, b15, b16, b17, b18, b19, b20, b21)) : wpX_judge post (fP, fI, fS, fG, fJ, fU, fC, fE, a1, a2, a3, a4, a5, a6, a7, a8, a9, a10, a11, a12, a13, a14, a15, a16, a17, a18, a19, a20, a21) := by
  unfold wpX_judge
  refine br_c (fun hj => ?_) (fun hj => HP _ _ _ _ _ _ _ _ _ _ _ _ _ _ _ _ _ _ _ _ _ _ _ hj (hJ hj))
  refine nj_unfold hN (fun gC gE gU b4 b5 b6 b7 b8 b9 b10 b11 b12 b13 b14 b15 ne nc T eb pl pd D hUI hno => ?_)
  have hN' := hN
  obtain ⟨n1, n2, n3, n4, n5, n6, n7⟩ := hN
  have hn6 : 2 ^ n ≤ 64 := Nat.pow_le_pow_right (n := 2) (by decide) n3
  refine pk_loop (σ := Nat → Int32) (fun f i s => wX_judge_24 post fP fI fS fG 1 gU gC gE f (nI i) a1 a2 s b4 b5 b6 b7 b8 b9 b10 b11 b12 b13 b14 b15 a16 a17 a18 a19 a20 a21) (fun i s => True) 64 0 a3 (by omega) trivial ?_ ?_
  rotate_left 1
  · intro f i s hi _ hw
    exact pk_le 64 i (fun z => absurd z (by omega)) (fun _ => ⟨vp_in_nI hi (by decide), nm_e (nm_r (nI_1 i) (hw _ trivial))⟩)
  · intro f s3 _
    refine pk_le 64 64 (fun _ => br_c (fun hu => nm_r (e' := nI (2 ^ n)) (by rw [n1]; exact nj_shl1 n (by omega)) ?_) (fun hu => HP _ _ _ _ _ _ _ _ _ _ _ _ _ _ _ _ _ _ _ _ _ _ _ (by decide) (fun z => absurd z hu))) (fun z => absurd z (by omega))
    have hPI := hUI.1
    have hncb : nc ≤ 132 := by
      have a := hUI.2.2.2.2.1
      have b := hUI.2.2.2.2.2.2.1
      have c := nj_ct_ub (fun m => decide (¬ b11 m = 0)) 64
      omega
    refine pk_loop (σ := (Nat → Int32) × (Nat → Int32) × (Nat → Int32) × (Nat → Int64) × (Nat → Int64) × (Nat → Int64) × (Nat → Int64)) (fun f i s => wX_judge_60 post (nI (2 ^ n)) f (nI i) fP fI fS fG 1 gU gC gE a1 a2 s.1 b4 b5 b6 b7 b8 b9 b10 b11 b12 b13 b14 b15 s.2.1 s.2.2.1 s.2.2.2.1 s.2.2.2.2.1 s.2.2.2.2.2.1 s.2.2.2.2.2.2)
      (fun i s => ∀ m, m < i → nj_LC fI nc pl (nj_be b6 b7 b8) (nj_ps b5) m (s.1 m)) (2 ^ n) 0 (s3, a16, a17, a18, a19, a20, a21) (Nat.zero_le _) (fun m hm => absurd hm (by omega)) ?_ ?_
    · intro f s I
      refine pk_le (2 ^ n) (2 ^ n) (fun _ => ?_) (fun z => absurd z (by omega))
      obtain ⟨c3, c16, c17, c18, c19, c20, c21⟩ := s
      replace I : ∀ m, m < 2 ^ n → nj_LC fI nc pl (nj_be b6 b7 b8) (nj_ps b5) m (c3 m) := I
      refine pk_loop (σ := Int32) (fun f i s => wX_judge_85 post (nI (2 ^ n)) fP fI fS fG 1 gC gE a1 a2 c3 b4 b5 b6 b7 b8 b9 b10 b11 b12 b13 b14 b15 c16 c17 c18 c19 c20 c21 f (nI i) s)
        (fun i s => s = 0 → ∀ m, m < i → ¬ c3 m < 0 → nj_nocl (nj_N fI fS a1 a2) m) (2 ^ n) 0 gU (Nat.zero_le _) (fun _ m hm => absurd hm (by omega)) ?_ ?_
      · intro f s I2
        refine pk_le (2 ^ n) (2 ^ n) (fun _ => HP _ _ _ _ _ _ _ _ _ _ _ _ _ _ _ _ _ _ _ _ _ _ _ (by decide) (fun hz => ?_)) (fun z => absurd z (by omega))
        exact nj_far hN' hUI (hno hu) hu I (I2 hz)
      · intro f i s hi I2 hw
        have ei : (nI i).toNatClampNeg = i := nI_clamp (by omega)
        refine pk_le (2 ^ n) i (fun z => absurd z (by omega)) (fun _ => ⟨vp_in_nI (by omega) (by decide), ?_⟩)
        rw [ei]
        refine br_c (fun hlt => nm_r (nI_1 i) (hw s (fun hz m hm hge => ?_))) (fun hge => nj_clashes hN' (br_f (by decide) (nm_r (nI_1 i) (hw 1 (fun hz => absurd hz (by decide))))) (fun hnc => br_t rfl (nm_r (nI_1 i) (hw s (fun hz m hm hge' => ?_)))))
        · by_cases z : m = i
          · rw [z] at hge; exact absurd hlt hge
          · exact I2 hz m (by omega) hge
        · by_cases z : m = i
          · rw [z]; exact hnc
          · exact I2 hz m (by omega) hge'
    · intro f i s hi I hw
      obtain ⟨c3, c16, c17, c18, c19, c20, c21⟩ := s
      have ei : (nI i).toNatClampNeg = i := nI_clamp (by omega)
      have put : ∀ r d16 d17 d18 d19 d20 d21, nj_LC fI nc pl (nj_be b6 b7 b8) (nj_ps b5) i r → vp_in (nI i) 64 ∧ ∀ x, x = upd c3 (nI i).toNatClampNeg r.toInt8.toInt32 → ∀ y, y = nI i + 1 → wX_judge_60 post (nI (2 ^ n)) f y fP fI fS fG 1 gU gC gE a1 a2 x b4 b5 b6 b7 b8 b9 b10 b11 b12 b13 b14 b15 d16 d17 d18 d19 d20 d21 := by
        intro r d16 d17 d18 d19 d20 d21 hr
        have er : r.toInt8.toInt32 = r := by
          rcases hr.1 with e | ⟨q, q1, e⟩
          · rw [e]; exact nj_i8m
          · rw [e]; exact nj_i8 q (by omega)
        rw [ei, er]
        refine ⟨vp_in_nI (by omega) (by decide), nm_e (nm_r (nI_1 i) (hw (upd c3 i r, d16, d17, d18, d19, d20, d21) (fun m hm => ?_)))⟩
        show nj_LC fI nc pl (nj_be b6 b7 b8) (nj_ps b5) m (upd c3 i r m)
        by_cases z : m = i
        · rw [z, pk_us]; exact hr
        · rw [pk_un z]; exact I m (by omega)
      refine pk_le (2 ^ n) i (fun z => absurd z (by omega)) (fun _ => nj_leastCut (nc := nc) (pl := pl) n1 n3 (by omega) (fun p hp => nj_tb_n hi hp) hPI.1 hncb hPI.2.2.1 (fun hz => ⟨fun h0 => put _ _ _ _ _ _ _ ⟨Or.inr ⟨0, by omega, rfl⟩, fun h => by omega, fun _ _ => rfl⟩, fun h0 => put _ _ _ _ _ _ _ ⟨Or.inl rfl, fun h => by omega, fun _ h => absurd h h0⟩⟩) (fun hz r d16 d17 d18 d19 d20 d21 hr ht => put r _ _ _ _ _ _ ⟨hr, fun _ => ht, fun h => by omega⟩))
end
end
section
/-! the answers, and the law's check -/
def nj_LI (fP fI fS fG fJ fU : Int32) (a1 a2 a3 : Nat → Int32) (n fd : Nat) : Prop :=
  nj_NF fP fI fS a1 a2 n ∧ (∃ w, nj_ok (nj_N fI fS a1 a2) w ∧ w.length = fd ∧ fG = nI (nj_cd (nj_mk (nj_N fI fS a1 a2) w) 6)) ∧ (¬ fJ = 0 → fU = 0 → nj_FAR (nj_N fI fS a1 a2) a3)
theorem nj_msk : ∀ n, n < 7 → ((1 : Int32) <<< (nI n &&& 31)) - 1 = nI (2 ^ n - 1) := by decide +kernel
section
variable {fP fI fS fG fJ fU fC fE : Int32} {a1 a2 a3 a4 a11 a12 a13 a14 a16 a17 : Nat → Int32} {a5 a6 a7 a8 a9 a10 a15 a18 a19 a20 a21 : Nat → Int64} {n : Nat}
theorem nj_judge1 {post : St1 → Prop} (hJ : ¬ fJ = 0) (H : post (fP, fI, fS, fG, fJ, fU, fC, fE, a1, a2, a3, a4, a5, a6, a7, a8, a9, a10, a11, a12, a13, a14, a15, a16, a17, a18, a19, a20, a21)) : wpX_judge post (fP, fI, fS, fG, fJ, fU, fC, fE, a1, a2, a3, a4, a5, a6, a7, a8, a9, a10, a11, a12, a13, a14, a15, a16, a17, a18, a19, a20, a21) := br_f hJ H
theorem nj_beyond {post : Int32 → Prop} {x : Int32} (hP : fP = nI n) (hn : n ≤ 6) (H0 : (∀ p, p < 32 → nj_bt x p = true → p < n) → post 0) (H1 : ¬ (∀ p, p < 32 → nj_bt x p = true → p < n) → post 1) : wpX_beyond post (fP, fI, fS, fG, fJ, fU, fC, fE, a1, a2, a3, a4, a5, a6, a7, a8, a9, a10, a11, a12, a13, a14, a15, a16, a17, a18, a19, a20, a21) x := by
  subst hP
  unfold wpX_beyond
  dsimp only
  rw [nj_msk n (by omega)]
  refine ek_if ((nj_sub0 _ _).trans ?_) H0 H1
  have e : ∀ p, p < 32 → (nj_bt (nI (2 ^ n - 1)) p = true ↔ p < n) := by
    intro p hp
    rw [nj_bt_nI _ hp, Nat.testBit_two_pow_sub_one, decide_eq_true_iff]
  exact ⟨fun h p hp hb => (e p hp).mp (h p hp hb), fun h p hp hb => (e p hp).mpr (h p hp hb)⟩
theorem nj_nb {g p : Nat} (hg : g < 2 ^ n) (hp : p < 32) (h : nj_bt (nI g) p = true) : p < n := by
  rw [nj_bt_nI _ hp] at h
  exact nj_tb_n hg h
theorem nj_distance {post : Int32 → St1 → Prop} {g : Nat} (hN : nj_NF fP fI fS a1 a2 n) (hJ : ¬ fJ = 0) (hU : fU = 0) (hg : g < 2 ^ n) (H : post (a3 g) (fP, fI, fS, fG, fJ, fU, fC, fE, a1, a2, a3, a4, a5, a6, a7, a8, a9, a10, a11, a12, a13, a14, a15, a16, a17, a18, a19, a20, a21)) : wpX_distance post (fP, fI, fS, fG, fJ, fU, fC, fE, a1, a2, a3, a4, a5, a6, a7, a8, a9, a10, a11, a12, a13, a14, a15, a16, a17, a18, a19, a20, a21) (nI g) := by
  have hn6 : 2 ^ n ≤ 64 := Nat.pow_le_pow_right (n := 2) (by decide) hN.2.2.1
  have eg : (nI g).toNatClampNeg = g := nI_clamp (by omega)
  unfold wpX_distance
  refine nj_beyond hN.1 hN.2.2.1 (fun _ => br_t rfl ?_) (fun h => absurd (fun p hp hb => nj_nb hg hp hb) h)
  refine nj_judge1 hJ (br_t hU ⟨vp_in_nI (by omega) (by decide), ?_⟩)
  rw [eg]
  exact H
theorem nj_enabled {post : Int32 → Prop} (hN : nj_NF fP fI fS a1 a2 n) (H : ∀ r, (∀ t, t < 8 → nj_bt r t = true → nj_bt fS t = true ∧ nj_rdy (nj_N fI fS a1 a2) t (nj_mb fG)) → post r) : wpX_enabled post (fP, fI, fS, fG, fJ, fU, fC, fE, a1, a2, a3, a4, a5, a6, a7, a8, a9, a10, a11, a12, a13, a14, a15, a16, a17, a18, a19, a20, a21) := by
  obtain ⟨n1, n2, n3, n4, n5, n6, n7⟩ := hN
  refine pk_loop (σ := Int32) (fun f i r => wX_enabled_4 post fP fI fS fG fJ fU fC fE a1 a2 a3 a4 a5 a6 a7 a8 a9 a10 a11 a12 a13 a14 a15 a16 a17 a18 a19 a20 a21 f r (nI i)) (fun i r => ∀ t, t < 32 → nj_bt r t = true → nj_bt fS t = true ∧ nj_rdy (nj_N fI fS a1 a2) t (nj_mb fG)) 8 0 0 (by omega) (fun t _ h => by rw [nj_b_0] at h; exact absurd h (by decide)) ?_ ?_
  · intro f r I
    exact pk_le 8 8 (fun _ => H r (fun t ht => I t (by omega))) (fun z => absurd z (by omega))
  · intro f i r hi I hw
    refine pk_le 8 i (fun z => absurd z (by omega)) (fun _ => nj_has hi (fun hh => br_f (by decide) ?_) (fun hh => br_t rfl (nm_r (nI_1 i) (hw r I))))
    refine nj_clear hi (n6 i hi).1 (n6 i hi).2 (fun hr _ => br_f (by decide) (nm_e (nm_r (nI_1 i) (hw _ (fun t ht hb => ?_))))) (fun _ => br_t rfl (nm_r (nI_1 i) (hw r I)))
    rw [nj_b_or, Bool.or_eq_true] at hb
    rcases hb with hb | hb
    · exact I t ht hb
    · rw [nj_bt_pw (by omega) ht, decide_eq_true_iff] at hb
      rw [hb]
      exact ⟨hh, hr⟩
theorem nj_covers {post : Int32 → St1 → Prop} {x : Int32} (hN : nj_NF fP fI fS a1 a2 n) (hJ : ¬ fJ = 0) (hU : fU = 0) (hx : ∀ p, p < 32 → nj_bt x p = true → p < n)
    (H : ∀ r, (∀ m, m < 64 → ¬ a3 m < 0 → (∀ p, p < 32 → nj_bt x p = true → nj_bt (nI m) p = true) → ¬ r < 0 ∧ r ≤ a3 m) → post r (fP, fI, fS, fG, fJ, fU, fC, fE, a1, a2, a3, a4, a5, a6, a7, a8, a9, a10, a11, a12, a13, a14, a15, a16, a17, a18, a19, a20, a21)) : wpX_covers post (fP, fI, fS, fG, fJ, fU, fC, fE, a1, a2, a3, a4, a5, a6, a7, a8, a9, a10, a11, a12, a13, a14, a15, a16, a17, a18, a19, a20, a21) x := by
  unfold wpX_covers
  refine nj_beyond hN.1 hN.2.2.1 (fun _ => br_t rfl ?_) (fun h => absurd hx h)
  refine nj_judge1 hJ (br_t hU ?_)
  refine pk_loop (σ := Int32) (fun f i r => wX_covers_27 post x fP fI fS fG fJ fU fC fE a1 a2 a3 a4 a5 a6 a7 a8 a9 a10 a11 a12 a13 a14 a15 a16 a17 a18 a19 a20 a21 f r (nI i)) (fun i r => ∀ m, m < i → ¬ a3 m < 0 → (∀ p, p < 32 → nj_bt x p = true → nj_bt (nI m) p = true) → ¬ r < 0 ∧ r ≤ a3 m) 64 0 (-1) (by omega) (fun m hm => absurd hm (by omega)) ?_ ?_
  · intro f r I
    exact pk_le 64 64 (fun _ => H r I) (fun z => absurd z (by omega))
  · intro f i r hi I hw
    have ei : (nI i).toNatClampNeg = i := nI_clamp (by omega)
    refine pk_le 64 i (fun z => absurd z (by omega)) (fun _ => ⟨vp_in_nI hi (by decide), ?_⟩)
    rw [ei]
    refine br_c (fun hlt => nm_r (nI_1 i) (hw r (fun m hm h1 h2 => ?_))) (fun hge => ek_if (nj_sub0 _ _) (fun hs => br_c (fun hr => ⟨vp_in_nI hi (by decide), nm_e (nm_r (nI_1 i) (hw _ (fun m hm h1 h2 => ?_)))⟩) (fun hr => ⟨vp_in_nI hi (by decide), br_c (fun hle => nm_r (nI_1 i) (hw r (fun m hm h1 h2 => ?_))) (fun hle => ⟨vp_in_nI hi (by decide), nm_e (nm_r (nI_1 i) (hw _ (fun m hm h1 h2 => ?_)))⟩)⟩)) (fun hs => nm_r (nI_1 i) (hw r (fun m hm h1 h2 => ?_))))
    · by_cases z : m = i
      · rw [z] at h1; exact absurd hlt h1
      · exact I m (by omega) h1 h2
    · by_cases z : m = i
      · rw [z]; exact ⟨hge, Int32.le_refl _⟩
      · exact absurd hr (I m (by omega) h1 h2).1
    · by_cases z : m = i
      · rw [z]; exact ⟨hr, hle⟩
      · exact I m (by omega) h1 h2
    · by_cases z : m = i
      · rw [z]; exact ⟨hge, Int32.le_refl _⟩
      · have a := I m (by omega) h1 h2
        exact ⟨hge, Int32.le_trans (Int32.le_of_lt (Int32.not_le.mp hle)) a.2⟩
    · by_cases z : m = i
      · rw [z] at h2; exact absurd h2 hs
      · exact I m (by omega) h1 h2
theorem nj_firstFiring {post : Int32 → St1 → Prop} {t : Nat} (hN : nj_NF fP fI fS a1 a2 n) (hJ : ¬ fJ = 0) (hU : fU = 0) (ht : t < 8)
    (H : ∀ r, (nj_bt fS t = true → ∀ m q, m < 64 → a3 m = nI q → q ≤ 64 → (∀ p, p < 32 → nj_bt (a1 t) p = true → nj_bt (nI m) p = true) → ∃ q', q' ≤ q ∧ r = nI (q' + 1)) → post r (fP, fI, fS, fG, fJ, fU, fC, fE, a1, a2, a3, a4, a5, a6, a7, a8, a9, a10, a11, a12, a13, a14, a15, a16, a17, a18, a19, a20, a21)) : wpX_firstFiring post (fP, fI, fS, fG, fJ, fU, fC, fE, a1, a2, a3, a4, a5, a6, a7, a8, a9, a10, a11, a12, a13, a14, a15, a16, a17, a18, a19, a20, a21) (nI t) := by
  have et : (nI t).toNatClampNeg = t := nI_clamp (by omega)
  unfold wpX_firstFiring
  refine nj_has ht (fun hh => br_f (by decide) ⟨vp_in_nI ht (by decide), ?_⟩) (fun hh => br_t rfl (H _ (fun a => absurd (hh.symm.trans a) (by decide))))
  rw [et]
  obtain ⟨⟨p, q, p1, q1, ha⟩, _⟩ := hN.2.2.2.2.2.2 t ht hh
  refine nj_covers hN hJ hU (fun i hi hb => ?_) (fun r hr => ?_)
  · have := (nj_two ha hi).mp hb
    omega
  · refine br_c (fun h0 => H _ (fun _ m q hm hq hq64 hs => ?_)) (fun h0 => H _ (fun _ m q hm hq hq64 hs => ?_))
    · obtain ⟨r1, r2⟩ := hr m hm (by rw [hq]; exact nI_pos (by omega)) hs
      rw [hq] at r2
      obtain ⟨j, j1, j2⟩ := nI_of2 (nI_toInt (n := q) (by omega)) r1 r2
      exact ⟨j, j1, by rw [j2]; exact nI_1 j⟩
    · obtain ⟨r1, r2⟩ := hr m hm (by rw [hq]; exact nI_pos (by omega)) hs
      obtain ⟨j, j1, j2⟩ := nI_of r1
      rw [j2] at h0
      exact absurd (nI_pos' j1) h0
theorem nj_holds {post : Int32 → St1 → Prop} {fd : Nat} (hfd : fd < 2 ^ 30) (hLI : nj_LI fP fI fS fG fJ fU a1 a2 a3 n fd)
    (HP : ∀ gJ gU gC gE b3 b4 b5 b6 b7 b8 b9 b10 b11 b12 b13 b14 b15 b16 b17 b18 b19 b20 b21, nj_LI fP fI fS fG gJ gU a1 a2 b3 n fd →
      post 1 (fP, fI, fS, fG, gJ, gU, gC, gE, a1, a2, b3, b4, b5, b6, b7, b8, b9, b10, b11, b12, b13, b14, b15, b16, b17, b18, b19, b20, b21)) : wpL_holds post (fP, fI, fS, fG, fJ, fU, fC, fE, a1, a2, a3, a4, a5, a6, a7, a8, a9, a10, a11, a12, a13, a14, a15, a16, a17, a18, a19, a20, a21) (nI fd) := by
  obtain ⟨hN, ⟨w, ho, hl, hg⟩, hFar⟩ := hLI
  have hN' := hN
  obtain ⟨n1, n2, n3, n4, n5, n6, n7⟩ := hN
  have hM : ∀ p, ((nj_N fI fS a1 a2)).2.2.2 p = true → p < n := fun p hp => n5 p (nj_g6.mp hp).2
  have hPn : ∀ t p, t < 8 → ((nj_N fI fS a1 a2)).2.2.1 t = true → ((nj_N fI fS a1 a2)).2.1 t p = true → p < n := by
    intro t p ht hh hp
    obtain ⟨_, q1, q2, h1, h2, h3⟩ := n7 t ht hh
    obtain ⟨g1, g2⟩ := nj_g6.mp hp
    have := (nj_two h3 (by omega)).mp g2
    omega
  have hM6 := nj_hM fI fS a1 a2
  have hP6 := nj_hP fI fS a1 a2
  have tb : ∀ p, (nj_cd (nj_mk (nj_N fI fS a1 a2) w) 6).testBit p = nj_mk (nj_N fI fS a1 a2) w p := by
    intro p
    rcases Nat.lt_or_ge p 6 with z | z
    · exact nj_cd_tb 6 p z
    · rw [nj_mk_6 hM6 hP6 z]
      exact Nat.testBit_lt_two_pow (Nat.lt_of_lt_of_le (nj_cd_lt _ 6) (Nat.pow_le_pow_right (n := 2) (by decide) z))
  have lt : nj_cd (nj_mk (nj_N fI fS a1 a2) w) 6 < 2 ^ n := by
    refine Nat.lt_pow_two_of_testBit _ (fun i hi => ?_)
    rw [tb]
    cases z : nj_mk (nj_N fI fS a1 a2) w i
    · rfl
    · have := nj_mk_n hM hPn w ho z
      omega
  have lt6 : nj_cd (nj_mk (nj_N fI fS a1 a2) w) 6 < 64 := nj_cd_lt _ 6
  unfold wpL_holds
  unfold wpX_verdict
  refine nj_judge hN' hFar (fun gJ gU gC gE b3 b4 b5 b6 b7 b8 b9 b10 b11 b12 b13 b14 b15 b16 b17 b18 b19 b20 b21 hJ hF => ?_)
  have fin : ∀ r, r = 1 → post r (fP, fI, fS, fG, gJ, gU, gC, gE, a1, a2, b3, b4, b5, b6, b7, b8, b9, b10, b11, b12, b13, b14, b15, b16, b17, b18, b19, b20, b21) := by
    intro r e
    rw [e]
    exact HP _ _ _ _ _ _ _ _ _ _ _ _ _ _ _ _ _ _ _ _ _ _ _ ⟨hN', ⟨w, ho, hl, hg⟩, fun _ => hF⟩
  refine br_c (fun hU => br_t rfl ?_) (fun hU => br_f (by decide) (fin 1 rfl))
  obtain ⟨q, q1, q2, q3⟩ := hF hU w ho
  subst hg
  unfold wpX_current
  refine nj_distance hN' hJ hU lt ?_
  rw [q3]
  refine br_f (nI_pos (by omega)) (pk_le q fd (fun _ => ?_) (fun z => absurd z (by omega)))
  refine nj_enabled hN' (fun set hset => ?_)
  refine pk_loop (σ := Unit) (fun f i _ => wL_holds_40 post (nI q) set f (nI i) fP fI fS (nI (nj_cd (nj_mk (nj_N fI fS a1 a2) w) 6)) gJ gU gC gE a1 a2 b3 b4 b5 b6 b7 b8 b9 b10 b11 b12 b13 b14 b15 b16 b17 b18 b19 b20 b21) (fun _ _ => True) 8 0 () (by omega) trivial ?_ ?_
  · intro f _ _
    exact pk_le 8 8 (fun _ => fin 1 rfl) (fun z => absurd z (by omega))
  · intro f i _ hi _ hw
    refine pk_le 8 i (fun z => absurd z (by omega)) (fun _ => nj_firstFiring hN' hJ hU hi (fun r hr => ?_))
    refine ek_if (nj_bit1 set i (by omega)) (fun hb => ?_) (fun hb => nm_r (nI_1 i) (hw () trivial))
    obtain ⟨hh, hrd⟩ := hset i hi hb
    obtain ⟨q', r1, r2⟩ := hr hh _ q lt6 q3 q2 ((nj_rdy_iff (fI := fI) (fS := fS) (a2 := a2) (n6 i hi).1).mpr hrd)
    subst r2
    refine pk_lt (q' + 1) 1 (fun z => absurd z (by omega)) (fun _ => pk_le (q' + 1) (q + 1) (fun _ => nm_r (nI_1 i) (hw () trivial)) (fun z => absurd z (by omega)) rfl (nI_1 q))
end
end
section
/-! the law's steps -/
theorem nj_or6 {p q n : Nat} (hp : p < n) (hq : q < n) (hn : n ≤ 6) : 2 ^ p ||| 2 ^ q < 64 :=
  Nat.or_lt_two_pow (n := 6) (Nat.pow_lt_pow_right (by decide) (by omega)) (Nat.pow_lt_pow_right (by decide) (by omega))
theorem nj_some {post : Int32 → Prop} {x : Int32} {n : Nat} (h0 : 0 < n) (hn : n ≤ 6) (H : ∀ p q, p < n → q < n → post (nI (2 ^ p ||| 2 ^ q))) : wpL_some post () x (nI n) := by
  obtain ⟨j1, l1, e1⟩ := pk_andE x (m := 255) 8 (by decide)
  obtain ⟨j2, l2, e2⟩ := pk_andE (x >>> ((8 : Int32) &&& 31)) (m := 255) 8 (by decide)
  have n0 : ¬ nI n = 0 := nI_ne0 h0 (by omega)
  have m1 := Nat.mod_lt j1 h0
  have m2 := Nat.mod_lt j2 h0
  refine ⟨n0, nm_r (e' := nI (j1 % n)) (by rw [e1]; exact pk_rem (by omega) h0 (by omega)) ⟨n0, nm_r (e' := nI (j2 % n)) (by rw [e2]; exact pk_rem (by omega) h0 (by omega)) ?_⟩⟩
  refine br_c (fun _ => ?_) (fun _ => ?_)
  · rw [nj_shl1 _ (by omega), nj_shl1 _ (by omega), nj_nx_or]
    exact H _ _ m1 m2
  · have e : (1 : Int32) <<< (nI (j1 % n) &&& 31) ||| 0 = nI (2 ^ (j1 % n) ||| 2 ^ (j1 % n)) := by
      rw [nj_shl1 _ (by omega), show (0 : Int32) = nI 0 from rfl, nj_nx_or, Nat.or_zero, Nat.or_self]
    rw [e]
    exact H _ _ m1 m1
theorem nj_cdI {fI fS : Int32} {a1 a2 : Nat → Int32} (h : nj_S6 fI) : fI = nI (nj_cd (nj_mk (nj_N fI fS a1 a2) []) 6) := by
  obtain ⟨i0, hi, e⟩ := h
  have : nj_cd (nj_mk (nj_N fI fS a1 a2) []) 6 = i0 := by
    show nj_cd (fun p => decide (p < 6) && nj_bt fI p) 6 = i0
    rw [e]
    exact nj_cd_self i0 hi
  rw [this]
  exact e
/-- a changed net: the play begins anew -/
theorem nj_LI_new {fP fI fS fU : Int32} {a1 a2 a3 : Nat → Int32} {n : Nat} (h : nj_NF fP fI fS a1 a2 n) : nj_LI fP fI fS fI 0 fU a1 a2 a3 n 0 :=
  ⟨h, ⟨[], trivial, rfl, nj_cdI h.2.2.2.1⟩, fun z => absurd rfl z⟩
section
variable {fP fI fS fG fJ fU fC fE : Int32} {a1 a2 a3 a4 a11 a12 a13 a14 a16 a17 : Nat → Int32} {a5 a6 a7 a8 a9 a10 a15 a18 a19 a20 a21 : Nat → Int64} {n : Nat}
theorem nj_setOk {post : Int32 → Prop} {x : Int32} (hP : fP = nI n) (hn : n ≤ 6) (H1 : post 1) (H0 : post 0) : wpX_setOk post (fP, fI, fS, fG, fJ, fU, fC, fE, a1, a2, a3, a4, a5, a6, a7, a8, a9, a10, a11, a12, a13, a14, a15, a16, a17, a18, a19, a20, a21) x := by
  unfold wpX_setOk
  exact nj_beyond hP hn (fun _ => br_t rfl (nj_ones (br_c (fun _ => H1) (fun _ => br_c (fun _ => H1) (fun _ => H0))))) (fun _ => br_f (by decide) H0)
theorem nj_setTransition {post : Int32 → St1 → Prop} {t p q p' q' : Nat} (hN : nj_NF fP fI fS a1 a2 n) (ht : t < 8) (hp : p < n) (hq : q < n) (hp' : p' < n) (hq' : q' < n) (H0 : post 0 (fP, fI, fS, fG, fJ, fU, fC, fE, a1, a2, a3, a4, a5, a6, a7, a8, a9, a10, a11, a12, a13, a14, a15, a16, a17, a18, a19, a20, a21))
    (H1 : nj_LI fP fI (fS ||| ((1 : Int32) <<< (nI t &&& 31))) fI 0 fU (upd a1 t (nI (2 ^ p ||| 2 ^ q))) (upd a2 t (nI (2 ^ p' ||| 2 ^ q'))) a3 n 0 → post 1 (fP, fI, fS ||| ((1 : Int32) <<< (nI t &&& 31)), fI, 0, fU, fC, fE, upd a1 t (nI (2 ^ p ||| 2 ^ q)), upd a2 t (nI (2 ^ p' ||| 2 ^ q')), a3, a4, a5, a6, a7, a8, a9, a10, a11, a12, a13, a14, a15, a16, a17, a18, a19, a20, a21)) :
    wpX_setTransition post (fP, fI, fS, fG, fJ, fU, fC, fE, a1, a2, a3, a4, a5, a6, a7, a8, a9, a10, a11, a12, a13, a14, a15, a16, a17, a18, a19, a20, a21) (nI t) (nI (2 ^ p ||| 2 ^ q)) (nI (2 ^ p' ||| 2 ^ q')) := by
  obtain ⟨n1, n2, n3, n4, n5, n6, n7⟩ := hN
  have et : (nI t).toNatClampNeg = t := nI_clamp (by omega)
  have l1 := nj_or6 hp hq n3
  have l2 := nj_or6 hp' hq' n3
  unfold wpX_setTransition
  dsimp only
  rw [et, nj_i8 _ (by omega), nj_i8 _ (by omega)]
  refine br_f (nI_pos (by omega)) (br_f (nI_ge (b := 8) ht (by decide)) (nj_setOk n1 n3 (br_f (by decide) (nj_setOk n1 n3 (br_f (by decide) ⟨vp_in_nI ht (by decide), nm_e ⟨vp_in_nI ht (by decide), nm_e (nm_e (H1 (nj_LI_new ?_)))⟩⟩) (br_t rfl H0))) (br_t rfl H0)))
  refine ⟨n1, n2, n3, n4, n5, fun t' ht' => ?_, fun t' ht' hh => ?_⟩
  · by_cases z : t' = t
    · rw [z, pk_us, pk_us]
      exact ⟨⟨_, l1, rfl⟩, ⟨_, l2, rfl⟩⟩
    · rw [pk_un z, pk_un z]
      exact n6 t' ht'
  · by_cases z : t' = t
    · rw [z, pk_us, pk_us]
      exact ⟨⟨p, q, hp, hq, rfl⟩, ⟨p', q', hp', hq', rfl⟩⟩
    · rw [pk_un z, pk_un z]
      refine n7 t' ht' ?_
      rw [nj_b_or, Bool.or_eq_true] at hh
      rcases hh with hh | hh
      · exact hh
      · rw [nj_bt_pw (by omega) (by omega), decide_eq_true_iff] at hh
        exact absurd hh z
theorem nj_dropTransition {post : Int32 → St1 → Prop} {t : Nat} (hN : nj_NF fP fI fS a1 a2 n) (ht : t < 8) (H0 : post 0 (fP, fI, fS, fG, fJ, fU, fC, fE, a1, a2, a3, a4, a5, a6, a7, a8, a9, a10, a11, a12, a13, a14, a15, a16, a17, a18, a19, a20, a21))
    (H1 : ∀ gS, nj_LI fP fI gS fI 0 fU a1 a2 a3 n 0 → post 1 (fP, fI, gS, fI, 0, fU, fC, fE, a1, a2, a3, a4, a5, a6, a7, a8, a9, a10, a11, a12, a13, a14, a15, a16, a17, a18, a19, a20, a21)) : wpX_dropTransition post (fP, fI, fS, fG, fJ, fU, fC, fE, a1, a2, a3, a4, a5, a6, a7, a8, a9, a10, a11, a12, a13, a14, a15, a16, a17, a18, a19, a20, a21) (nI t) := by
  unfold wpX_dropTransition
  refine nj_has ht (fun hh => br_f (by decide) (nm_e (H1 _ (nj_LI_new ?_)))) (fun hh => br_t rfl H0)
  obtain ⟨n1, n2, n3, n4, n5, n6, n7⟩ := hN
  refine ⟨n1, n2, n3, n4, n5, n6, fun t' ht' hh' => n7 t' ht' ?_⟩
  rw [nj_b_and, Bool.and_eq_true] at hh'
  exact hh'.1
theorem nj_setInitial {post : Int32 → St1 → Prop} {j : Nat} (hN : nj_NF fP fI fS a1 a2 n) (hj : j < 64) (H0 : post 0 (fP, fI, fS, fG, fJ, fU, fC, fE, a1, a2, a3, a4, a5, a6, a7, a8, a9, a10, a11, a12, a13, a14, a15, a16, a17, a18, a19, a20, a21))
    (H1 : nj_LI fP (nI j) fS (nI j) 0 fU a1 a2 a3 n 0 → post 1 (fP, nI j, fS, nI j, 0, fU, fC, fE, a1, a2, a3, a4, a5, a6, a7, a8, a9, a10, a11, a12, a13, a14, a15, a16, a17, a18, a19, a20, a21)) : wpX_setInitial post (fP, fI, fS, fG, fJ, fU, fC, fE, a1, a2, a3, a4, a5, a6, a7, a8, a9, a10, a11, a12, a13, a14, a15, a16, a17, a18, a19, a20, a21) (nI j) := by
  obtain ⟨n1, n2, n3, n4, n5, n6, n7⟩ := hN
  unfold wpX_setInitial
  refine nj_beyond n1 n3 (fun hb => br_t rfl (H1 (nj_LI_new ⟨n1, n2, n3, ⟨j, hj, rfl⟩, fun p hp => ?_, n6, n7⟩))) (fun _ => br_f (by decide) H0)
  rcases Nat.lt_or_ge p 32 with z | z
  · exact hb p z hp
  · rw [nj_b_big z] at hp
    exact absurd hp (by decide)
theorem nj_fireW {post : Int32 → St1 → Prop} {t fd : Nat} (hLI : nj_LI fP fI fS fG fJ fU a1 a2 a3 n fd) (ht : t < 8) (H0 : post 0 (fP, fI, fS, fG, fJ, fU, fC, fE, a1, a2, a3, a4, a5, a6, a7, a8, a9, a10, a11, a12, a13, a14, a15, a16, a17, a18, a19, a20, a21))
    (H1 : ∀ gG, nj_LI fP fI fS gG fJ fU a1 a2 a3 n (fd + 1) → post 1 (fP, fI, fS, gG, fJ, fU, fC, fE, a1, a2, a3, a4, a5, a6, a7, a8, a9, a10, a11, a12, a13, a14, a15, a16, a17, a18, a19, a20, a21)) : wpX_fire post (fP, fI, fS, fG, fJ, fU, fC, fE, a1, a2, a3, a4, a5, a6, a7, a8, a9, a10, a11, a12, a13, a14, a15, a16, a17, a18, a19, a20, a21) (nI t) := by
  obtain ⟨hN, ⟨w, ho, hl, hg⟩, hFar⟩ := hLI
  have hN' := hN
  obtain ⟨n1, n2, n3, n4, n5, n6, n7⟩ := hN
  have et : (nI t).toNatClampNeg = t := nI_clamp (by omega)
  have hM6 := nj_hM fI fS a1 a2
  have hP6 := nj_hP fI fS a1 a2
  have tb : ∀ w p, (nj_cd (nj_mk (nj_N fI fS a1 a2) w) 6).testBit p = nj_mk (nj_N fI fS a1 a2) w p := by
    intro w p
    rcases Nat.lt_or_ge p 6 with z | z
    · exact nj_cd_tb 6 p z
    · rw [nj_mk_6 hM6 hP6 z]
      exact Nat.testBit_lt_two_pow (Nat.lt_of_lt_of_le (nj_cd_lt _ 6) (Nat.pow_le_pow_right (n := 2) (by decide) z))
  have mbk : nj_mb fG = nj_mk (nj_N fI fS a1 a2) w := by
    funext p
    rw [hg]
    show (decide (p < 6) && nj_bt (nI (nj_cd (nj_mk (nj_N fI fS a1 a2) w) 6)) p) = _
    rcases Nat.lt_or_ge p 6 with z | z
    · rw [decide_eq_true z, Bool.true_and, nj_bt_nI _ (by omega), tb]
    · rw [decide_eq_false (by omega), Bool.false_and, nj_mk_6 hM6 hP6 z]
  unfold wpX_fire
  refine nj_has ht (fun hh => br_f (by decide) ?_) (fun hh => br_t rfl H0)
  refine nj_clear ht (n6 t ht).1 (n6 t ht).2 (fun hr hc => br_f (by decide) ⟨vp_in_nI ht (by decide), vp_in_nI ht (by decide), nm_e ?_⟩) (fun _ => br_t rfl H0)
  rw [et]
  rw [mbk] at hr hc
  refine H1 _ ⟨hN', ⟨t :: w, ⟨ho, ht, hh, hr, hc⟩, by rw [List.length_cons, hl], ?_⟩, hFar⟩
  refine nj_b_ext (fun i hi => ?_)
  rw [nj_b_or, nj_b_and, nj_b_xor, nj_b_m1 i hi, nj_bt_nI _ hi, tb, hg, nj_bt_nI _ hi, tb]
  show _ = ((nj_mk (nj_N fI fS a1 a2) w i && !(decide (i < 6) && nj_bt (a1 t) i)) || (decide (i < 6) && nj_bt (a2 t) i))
  rcases Nat.lt_or_ge i 6 with z | z
  · rw [decide_eq_true z, Bool.true_and, Bool.true_and, Bool.xor_true]
  · rw [nj_mk_6 hM6 hP6 z, nj_S6_hi (n6 t ht).2 z, decide_eq_false (by omega)]
    rfl
/-- after each step the check, and on -/
theorem nj_law264 {post : Int32 → Prop} {L : Nat} {xs : Nat → Int32} {J61 : Int32 → Int32 → Int32 → Int32 → Int32 → Int32 → Int32 → Int32 → Int32 → Int32 → (Nat → Int32) → (Nat → Int32) → (Nat → Int32) → (Nat → Int32) → (Nat → Int64) → (Nat → Int64) → (Nat → Int64) → (Nat → Int64) → (Nat → Int64) → (Nat → Int64) → (Nat → Int32) → (Nat → Int32) → (Nat → Int32) → (Nat → Int32) → (Nat → Int64) → (Nat → Int32) → (Nat → Int32) → (Nat → Int64) → (Nat → Int64) → (Nat → Int64) → (Nat → Int64) → Prop} {x1 : Int32} {kc ks fd k : Nat} (hfd : fd < 2 ^ 30) (hLI : nj_LI fP fI fS fG fJ fU a1 a2 a3 n fd)
    (HJ : ∀ gJ gU gC gE b3 b4 b5 b6 b7 b8 b9 b10 b11 b12 b13 b14 b15 b16 b17 b18 b19 b20 b21, nj_LI fP fI fS fG gJ gU a1 a2 b3 n fd →
      J61 (nI fd) (nI (k + 3)) fP fI fS fG gJ gU gC gE a1 a2 b3 b4 b5 b6 b7 b8 b9 b10 b11 b12 b13 b14 b15 b16 b17 b18 b19 b20 b21) : wL_law_264 post L xs J61 x1 (nI fd) (nI k) kc ks fP fI fS fG fJ fU fC fE a1 a2 a3 a4 a5 a6 a7 a8 a9 a10 a11 a12 a13 a14 a15 a16 a17 a18 a19 a20 a21 := by
  unfold wL_law_264
  refine nj_holds hfd hLI (fun gJ gU gC gE b3 b4 b5 b6 b7 b8 b9 b10 b11 b12 b13 b14 b15 b16 b17 b18 b19 b20 b21 h => ?_)
  exact br_f (by decide) (nm_r (nI_add k 3) (HJ _ _ _ _ _ _ _ _ _ _ _ _ _ _ _ _ _ _ _ _ _ _ _ h))
end
theorem nj_law61 {L : Nat} {xs : Nat → Int32} (hL : L ≤ 260) {n kc ks : Nat} : ∀ f k fd, L ≤ k + f → fd ≤ k → k ≤ L + 3 → ∀ (fP fI fS fG fJ fU fC fE : Int32) (a1 a2 a3 a4 a11 a12 a13 a14 a16 a17 : Nat → Int32) (a5 a6 a7 a8 a9 a10 a15 a18 a19 a20 a21 : Nat → Int64), nj_LI fP fI fS fG fJ fU a1 a2 a3 n fd → wL_law_61 (fun r => r = 1) L xs (nI n) kc ks (f + 1) (nI fd) (nI k) fP fI fS fG fJ fU fC fE a1 a2 a3 a4 a5 a6 a7 a8 a9 a10 a11 a12 a13 a14 a15 a16 a17 a18 a19 a20 a21 := by
  intro f
  induction f with
  | zero =>
    intro k fd hk hfd hkL
    intros
    exact pk_le L (k + 2) (fun _ => rfl) (fun z => absurd z (by omega)) rfl (nI_add k 2)
  | succ f ih =>
    intro k fd hk hfd hkL fP fI fS fG fJ fU fC fE a1 a2 a3 a4 a11 a12 a13 a14 a16 a17 a5 a6 a7 a8 a9 a10 a15 a18 a19 a20 a21 hLI
    have hN := hLI.1
    have ek : (nI k).toNatClampNeg = k := nI_clamp (by omega)
    obtain ⟨wv, lw, ew⟩ := pk_andE (xs k) (m := 31) 5 (by decide)
    refine pk_le L (k + 2) (fun _ => rfl) (fun hlt => ⟨vp_in_nI (by omega) (by omega), nm_r (e' := nI wv) (by rw [ek]; exact ew) ⟨by rw [nI_1]; exact vp_in_nI (by omega) (by omega), fun x7 _ => ⟨by rw [show nI k + 2 = nI (k + 2) from nI_add k 2]; exact vp_in_nI (by omega) (by omega), fun x8 _ => ?_⟩⟩⟩) rfl (nI_add k 2)
    obtain ⟨j, lj, ej⟩ := pk_andE x7 (m := 7) 3 (by decide)
    refine pk_le 10 wv (fun h10 => pk_eq wv 10 (fun e10 => ?_) (fun e10 => pk_eq wv 11 (fun e11 => ?_) (fun e11 => pk_eq wv 12 (fun e12 => ?_) (fun e12 => ?_)))) (fun h10 => ?_)
    · -- a transition is dropped
      rw [ej]
      refine nj_dropTransition hN lj (br_t rfl ?_) (fun gS h => br_f (by decide) ?_)
      · exact nj_law264 (by omega) hLI (fun gJ gU gC gE b3 b4 b5 b6 b7 b8 b9 b10 b11 b12 b13 b14 b15 b16 b17 b18 b19 b20 b21 h => ih (k + 3) fd (by omega) (by omega) (by omega) _ _ _ _ _ _ _ _ _ _ _ _ _ _ _ _ _ _ _ _ _ _ _ _ _ _ _ _ _ h)
      · exact nj_law264 (fd := 0) (by omega) h (fun gJ gU gC gE b3 b4 b5 b6 b7 b8 b9 b10 b11 b12 b13 b14 b15 b16 b17 b18 b19 b20 b21 h => ih (k + 3) 0 (by omega) (by omega) (by omega) _ _ _ _ _ _ _ _ _ _ _ _ _ _ _ _ _ _ _ _ _ _ _ _ _ _ _ _ _ h)
    · -- another first marking
      obtain ⟨j6, lj6, ej6⟩ := pk_andE (x7 &&& x8) (m := 63) 6 (by decide)
      rw [ej6]
      refine nj_setInitial hN lj6 (br_t rfl ?_) (fun h => br_f (by decide) ?_)
      · exact nj_law264 (by omega) hLI (fun gJ gU gC gE b3 b4 b5 b6 b7 b8 b9 b10 b11 b12 b13 b14 b15 b16 b17 b18 b19 b20 b21 h => ih (k + 3) fd (by omega) (by omega) (by omega) _ _ _ _ _ _ _ _ _ _ _ _ _ _ _ _ _ _ _ _ _ _ _ _ _ _ _ _ _ h)
      · exact nj_law264 (fd := 0) (by omega) h (fun gJ gU gC gE b3 b4 b5 b6 b7 b8 b9 b10 b11 b12 b13 b14 b15 b16 b17 b18 b19 b20 b21 h => ih (k + 3) 0 (by omega) (by omega) (by omega) _ _ _ _ _ _ _ _ _ _ _ _ _ _ _ _ _ _ _ _ _ _ _ _ _ _ _ _ _ h)
    · -- rewind
      have h : nj_LI fP fI fS fI fJ fU a1 a2 a3 n 0 := ⟨hN, ⟨[], trivial, rfl, nj_cdI hN.2.2.2.1⟩, hLI.2.2⟩
      unfold wpX_rewind
      exact nj_law264 (fd := 0) (by omega) h (fun gJ gU gC gE b3 b4 b5 b6 b7 b8 b9 b10 b11 b12 b13 b14 b15 b16 b17 b18 b19 b20 b21 h => ih (k + 3) 0 (by omega) (by omega) (by omega) _ _ _ _ _ _ _ _ _ _ _ _ _ _ _ _ _ _ _ _ _ _ _ _ _ _ _ _ _ h)
    · -- fire
      rw [ej]
      refine nj_fireW hLI lj (br_t rfl ?_) (fun gG h => br_f (by decide) ?_)
      · exact nj_law264 (by omega) hLI (fun gJ gU gC gE b3 b4 b5 b6 b7 b8 b9 b10 b11 b12 b13 b14 b15 b16 b17 b18 b19 b20 b21 h => ih (k + 3) fd (by omega) (by omega) (by omega) _ _ _ _ _ _ _ _ _ _ _ _ _ _ _ _ _ _ _ _ _ _ _ _ _ _ _ _ _ h)
      · rw [nI_1]
        exact nj_law264 (fd := fd + 1) (by omega) h (fun gJ gU gC gE b3 b4 b5 b6 b7 b8 b9 b10 b11 b12 b13 b14 b15 b16 b17 b18 b19 b20 b21 h => ih (k + 3) (fd + 1) (by omega) (by omega) (by omega) _ _ _ _ _ _ _ _ _ _ _ _ _ _ _ _ _ _ _ _ _ _ _ _ _ _ _ _ _ h)
    · -- a transition is set
      obtain ⟨j7, lj7, ej7⟩ := pk_andE (nI wv) (m := 7) 3 (by decide)
      rw [ej7]
      refine nj_some hN.2.1 hN.2.2.1 (fun p q hp hq => ?_)
      refine nj_some hN.2.1 hN.2.2.1 (fun p' q' hp' hq' => ?_)
      refine nj_setTransition hN lj7 hp hq hp' hq' (br_t rfl ?_) (fun h => br_f (by decide) ?_)
      · exact nj_law264 (by omega) hLI (fun gJ gU gC gE b3 b4 b5 b6 b7 b8 b9 b10 b11 b12 b13 b14 b15 b16 b17 b18 b19 b20 b21 h => ih (k + 3) fd (by omega) (by omega) (by omega) _ _ _ _ _ _ _ _ _ _ _ _ _ _ _ _ _ _ _ _ _ _ _ _ _ _ _ _ _ h)
      · exact nj_law264 (fd := 0) (by omega) h (fun gJ gU gC gE b3 b4 b5 b6 b7 b8 b9 b10 b11 b12 b13 b14 b15 b16 b17 b18 b19 b20 b21 h => ih (k + 3) 0 (by omega) (by omega) (by omega) _ _ _ _ _ _ _ _ _ _ _ _ _ _ _ _ _ _ _ _ _ _ _ _ _ _ _ _ _ h)
end
section
/-! the law -/
theorem nj_law44 {L : Nat} {xs : Nat → Int32} (hL : L ≤ 260) {n : Nat} (h0 : 0 < n) (hn : n ≤ 6) (z0 : Int32) : wL_law_44 (fun r => r = 1) L xs (nI n) z0 0 0 := by
  refine ⟨by decide, by decide, 21, 1190, by decide, by decide, ?_⟩
  unfold wpX_init
  have e1 : ((1 : Int32) <<< (nI n &&& 31)) - 1 = nI (2 ^ n - 1) := nj_msk n (by omega)
  have hp : 2 ^ n ≤ 64 := Nat.pow_le_pow_right (n := 2) (by decide) hn
  obtain ⟨j, lj, ej⟩ := pk_andE z0 (m := nI (2 ^ n - 1)) n (pk_tn (by omega))
  have hLI : nj_LI (nI n) (nI j) 0 (nI j) 0 0 (fun _ => 0) (fun _ => 0) (fun _ => 0) n 0 := by
    refine nj_LI_new ⟨rfl, h0, hn, ⟨j, by omega, rfl⟩, fun p hb => ?_, fun t _ => ⟨⟨0, by decide, rfl⟩, ⟨0, by decide, rfl⟩⟩, fun t _ hb => ?_⟩
    · rcases Nat.lt_or_ge p 32 with z | z
      · exact nj_nb lj z hb
      · rw [nj_b_big z] at hb
        exact absurd hb (by decide)
    · rw [nj_b_0] at hb
      exact absurd hb (by decide)
  have go : wX_init_199 (fun u => match u with | (fP, fI, fS, fG, fJ, fU, fC, fE, a1, a2, a3, a4, a5, a6, a7, a8, a9, a10, a11, a12, a13, a14, a15, a16, a17, a18, a19, a20, a21) => (∃ fu61 : Nat, wL_law_61 (fun r => r = 1) L xs (nI n) (0 + 1 + 21) (0 + 29 + 1190) fu61 0 2 fP fI fS fG fJ fU fC fE a1 a2 a3 a4 a5 a6 a7 a8 a9 a10 a11 a12 a13 a14 a15 a16 a17 a18 a19 a20 a21)) 21 1190 z0 (nI n) 21 1190 0 0 0 0 0 0 0 0 (fun _ => 0) (fun _ => 0) (fun _ => 0) (fun _ => 0) (fun _ => 0) (fun _ => 0) (fun _ => 0) (fun _ => 0) (fun _ => 0) (fun _ => 0) (fun _ => 0) (fun _ => 0) (fun _ => 0) (fun _ => 0) (fun _ => 0) (fun _ => 0) (fun _ => 0) (fun _ => 0) (fun _ => 0) (fun _ => 0) (fun _ => 0) := by
    unfold wX_init_199
    refine nm_r (e' := nI j) (by rw [e1]; exact ej) ⟨L + 1, ?_⟩
    exact nj_law61 hL L 2 0 (by omega) (by omega) (by omega) _ _ _ _ _ _ _ _ _ _ _ _ _ _ _ _ _ _ _ _ _ _ _ _ _ _ _ _ _ hLI
  have one : (1 : Int32) ≤ nI n := nI_le (a := 1) (by omega) (by omega)
  have six : nI n ≤ (6 : Int32) := nI_le (b := 6) hn (by decide)
  refine ⟨by decide, by decide, by decide, by decide, by decide, by decide, by decide, by decide, by decide, by decide, by decide, by decide, by decide, by decide, by decide, by decide, by decide, by decide, by decide, by decide, by decide, by decide, by decide, by decide, by decide, by decide, by decide, by decide, by decide, by decide, by decide, by decide, by decide, by decide, by decide, by decide, by decide, by decide, by decide, by decide, by decide, by decide, br_t one (br_t six go)⟩
theorem i_vc (xs : Nat → Int32) (L : Nat) (hL : L ≤ 260) : wpL_law (fun r => r = 1) L xs := by
  have h17 : ∀ n, 0 < n → n ≤ 6 → wL_law_17 (fun r => r = 1) L xs (nI n) 0 0 := by
    intro n h0 hn
    exact pk_le L 1 (fun _ => nj_law44 hL h0 hn _) (fun h => ⟨vp_in_nI (n := 1) h (by omega), vp_in_nI (n := 1) h (by omega), nj_law44 hL h0 hn _⟩)
  refine pk_le L 0 (fun _ => h17 6 (by decide) (by decide)) (fun h => ⟨vp_in_nI (n := 0) h (by omega), ?_⟩)
  obtain ⟨j, lj, ej⟩ := pk_andE (xs (0 : Int32).toNatClampNeg) (m := 3) 2 (by decide)
  rw [ej, show (3 : Int32) + nI j = nI (3 + j) from nI_add 3 j]
  exact h17 (3 + j) (by omega) (by omega)
end
