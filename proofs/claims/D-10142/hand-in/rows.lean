section
/-! words of the script, and the numbers that they hold -/
def cn_ms (x : Int32) (k : Nat) : Nat := x.toBitVec.toNat % 2 ^ k
def cn_fr (x : Int32) : Nat := cn_ms x 8 % 6
def cn_to (x : Int32) : Nat := (cn_fr x + 1 + cn_ms (x >>> ((8 : Int32) &&& 31)) 8 % 5) % 6
def cn_st (y : Int32) : Nat := cn_ms y 6
def cn_en (y : Int32) : Nat := cn_st y + 1 + cn_ms (y >>> ((6 : Int32) &&& 31)) 5
def cn_rt (y : Int32) : Nat := 1 + cn_ms (y >>> ((11 : Int32) &&& 31)) 3
def cn_dl (y : Int32) : Nat := cn_ms (y >>> ((14 : Int32) &&& 31)) 3
def cn_sz (y : Int32) : Nat := 1 + cn_ms (y >>> ((4 : Int32) &&& 31)) 4
def cn_lm (y : Int32) : Nat := cn_ms (y >>> ((8 : Int32) &&& 31)) 7
def cn_tk (s r : Nat) : Nat := (s + r - 1) / r
theorem cn_ms_lt (x : Int32) (k : Nat) : cn_ms x k < 2 ^ k := Nat.mod_lt _ (Nat.two_pow_pos k)
theorem cn_fr_lt (x : Int32) : cn_fr x < 6 := Nat.mod_lt _ (by omega)
theorem cn_to_lt (x : Int32) : cn_to x < 6 := Nat.mod_lt _ (by omega)
theorem cn_ft (x : Int32) : cn_fr x ≠ cn_to x := by
  have h := cn_fr_lt x
  unfold cn_to
  have h2 : cn_ms (x >>> ((8 : Int32) &&& 31)) 8 % 5 < 5 := Nat.mod_lt _ (by omega)
  generalize cn_ms (x >>> ((8 : Int32) &&& 31)) 8 % 5 = z at h2 ⊢
  generalize cn_fr x = a at h ⊢
  omega
theorem cn_st_lt (y : Int32) : cn_st y < 64 := cn_ms_lt y 6
theorem cn_en_lt (y : Int32) : cn_st y < cn_en y ∧ cn_en y ≤ 95 := by
  have h := cn_st_lt y
  have h2 : cn_ms (y >>> ((6 : Int32) &&& 31)) 5 < 32 := cn_ms_lt _ 5
  unfold cn_en
  omega
theorem cn_rt_in (y : Int32) : 1 ≤ cn_rt y ∧ cn_rt y ≤ 8 := by
  have h2 : cn_ms (y >>> ((11 : Int32) &&& 31)) 3 < 8 := cn_ms_lt _ 3
  unfold cn_rt
  omega
theorem cn_dl_lt (y : Int32) : cn_dl y < 8 := cn_ms_lt _ 3
theorem cn_sz_in (y : Int32) : 1 ≤ cn_sz y ∧ cn_sz y ≤ 16 := by
  have h2 : cn_ms (y >>> ((4 : Int32) &&& 31)) 4 < 16 := cn_ms_lt _ 4
  unfold cn_sz
  omega
theorem cn_lm_lt (y : Int32) : cn_lm y < 128 := cn_ms_lt _ 7
theorem cn_tk_pos {s r : Nat} (hs : 1 ≤ s) (hr : 1 ≤ r) : 1 ≤ cn_tk s r := Nat.div_pos (by omega) (by omega)
theorem cn_tk_le {s r : Nat} (hs : 1 ≤ s) (hr : 1 ≤ r) : cn_tk s r ≤ s := by
  unfold cn_tk
  refine Nat.div_le_of_le_mul ?_
  obtain ⟨r', rfl⟩ : ∃ r', r = r' + 1 := ⟨r - 1, by omega⟩
  obtain ⟨s', rfl⟩ : ∃ s', s = s' + 1 := ⟨s - 1, by omega⟩
  rw [Nat.add_mul, Nat.mul_add]
  omega
theorem cn_l6 : (6 : Int32) = nI 6 := rfl
theorem cn_ed {a t : Nat} (ha : a < 6) (ht : t < 6) : nI (6 * a + t) / 6 = nI a := by
  rw [cn_l6, pk_div (by omega) (by omega) (by omega), show (6 * a + t) / 6 = a by omega]
theorem cn_er {a t : Nat} (ha : a < 6) (ht : t < 6) : nI (6 * a + t) - nI (6 * a + t) / 6 * 6 = nI t := by
  rw [cn_l6, pk_rem (by omega) (by omega) (by omega), show (6 * a + t) % 6 = t by omega]
theorem cn_ends {post : Int32 → Prop} {x : Int32} (h : post (nI (6 * cn_fr x + cn_to x))) : wpL_ends post () x := by
  have e1 : (x &&& 255) = nI (cn_ms x 8) := pk_and x 8 rfl
  have e2 : ((x >>> ((8 : Int32) &&& 31)) &&& 255) = nI (cn_ms (x >>> ((8 : Int32) &&& 31)) 8) := pk_and _ 8 rfl
  have l1 : cn_ms x 8 < 256 := cn_ms_lt x 8
  have l2 : cn_ms (x >>> ((8 : Int32) &&& 31)) 8 < 256 := cn_ms_lt _ 8
  have e3 : nI (cn_ms x 8) - nI (cn_ms x 8) / 6 * 6 = nI (cn_fr x) := pk_rem (d := 6) (by omega) (by omega) (by omega)
  have e4 : nI (cn_ms (x >>> ((8 : Int32) &&& 31)) 8) - nI (cn_ms (x >>> ((8 : Int32) &&& 31)) 8) / 5 * 5 = nI (cn_ms (x >>> ((8 : Int32) &&& 31)) 8 % 5) := pk_rem (d := 5) (by omega) (by omega) (by omega)
  have l3 := cn_fr_lt x
  have l4 : cn_ms (x >>> ((8 : Int32) &&& 31)) 8 % 5 < 5 := Nat.mod_lt _ (by omega)
  refine ⟨by decide, nm_r (e' := nI (cn_fr x)) (by rw [e1, e3]) ⟨by decide, by decide, ?_⟩⟩
  rw [e2, e4, nI_1, nI_add, cn_l6, pk_rem (by omega) (by omega) (by omega), pk_mul, nI_add]
  exact h
theorem cn_areEnds {post : Int32 → Prop} {a t : Nat} (ha : a < 6) (ht : t < 6) (h : a ≠ t) (hp : post 1) : wpX_areEnds post () (nI (6 * a + t)) :=
  br_f (nI_pos (by omega)) (pk_le 36 (6 * a + t) (fun z => absurd z (by omega)) (fun _ => ⟨by decide, by decide, pk_eq a t (fun z => absurd z h) (fun _ => hp) (cn_ed ha ht) (cn_er ha ht)⟩))
theorem cn_isSize {post : Int32 → Prop} {s : Nat} (h1 : 1 ≤ s) (h2 : s ≤ 30) (hp : post 1) : wpX_isSize post () (nI s) :=
  pk_lt s 1 (fun z => absurd z (by omega)) (fun _ => pk_lt 30 s (fun z => absurd z (by omega)) (fun _ => hp))
theorem cn_start {post : Int32 → Prop} {y : Int32} (h : post (nI (cn_st y))) : wpL_start post () y := by
  unfold wpL_start
  rw [pk_and y 6 rfl]
  exact h
theorem cn_stop {post : Int32 → Prop} {y : Int32} (h : post (nI (cn_en y))) : wpL_stop post () y := by
  unfold wpL_stop
  refine cn_start ?_
  rw [nI_1, pk_and _ 5 rfl, nI_add]
  exact h
theorem cn_rate {post : Int32 → Prop} {y : Int32} (h : post (nI (cn_rt y))) : wpL_rate post () y := by
  unfold wpL_rate
  rw [pk_and _ 3 rfl, show (1 : Int32) = nI 1 from rfl, nI_add]
  exact h
theorem cn_delay {post : Int32 → Prop} {y : Int32} (h : post (nI (cn_dl y))) : wpL_delay post () y := by
  unfold wpL_delay
  rw [pk_and _ 3 rfl]
  exact h
theorem cn_sze (y : Int32) : 1 + ((y >>> ((4 : Int32) &&& 31)) &&& 15) = nI (cn_sz y) := by
  rw [pk_and _ 4 rfl, show (1 : Int32) = nI 1 from rfl, nI_add]
  rfl
theorem cn_lme (y : Int32) : (y >>> ((8 : Int32) &&& 31)) &&& 127 = nI (cn_lm y) := pk_and _ 7 rfl
theorem cn_tke {s r : Nat} (hs : 1 ≤ s) (hs2 : s ≤ 1000) (hr : 1 ≤ r) (hr2 : r ≤ 1000) : (nI s + nI r - 1) / nI r = nI (cn_tk s r) := by
  rw [nI_add, show (1 : Int32) = nI 1 from rfl, pk_sub (by omega), pk_div (by omega) (by omega) (by omega)]
  rfl
theorem cn_ticks {post : Int32 → Prop} {s r : Nat} (hs : 1 ≤ s) (hs2 : s ≤ 1000) (hr : 1 ≤ r) (hr2 : r ≤ 1000) (h : post (nI (cn_tk s r))) : wpL_ticks post () (nI s) (nI r) := by
  refine ⟨nI_ne0 (by omega) (by omega), ?_⟩
  rw [cn_tke hs hs2 hr hr2]
  exact h
theorem cn_i101 (k t : Nat) : (101 : Int32) * nI k + nI t = nI (101 * k + t) := by rw [show (101 : Int32) = nI 101 from rfl, pk_mul, nI_add]
theorem cn_i100 (k t : Nat) : (100 : Int32) * nI k + nI t = nI (100 * k + t) := by rw [show (100 : Int32) = nI 100 from rfl, pk_mul, nI_add]
end
section
/-! routes, no program in sight: rounds (cn_E), ways of exactly n contacts (cn_P) -/
def cn_D (fr to : Nat → Nat) (ci : Nat → Nat → Nat) (e : Nat → Nat) : Nat → Nat → Nat
  | 0 => e
  | k + 1 => fun w => if w = to k then min (ci k (e (fr k))) (cn_D fr to ci e k w) else cn_D fr to ci e k w
def cn_E (C : Nat) (fr to : Nat → Nat) (ci : Nat → Nat → Nat) (v r : Nat) : Nat → Nat → Nat
  | 0 => fun w => if w = v then r else 1000000
  | n + 1 => cn_D fr to ci (cn_E C fr to ci v r n) C
def cn_P (C : Nat) (fr to : Nat → Nat) (ci : Nat → Nat → Nat) : Nat → Nat → Nat → Nat → Nat → Prop
  | 0 => fun v r w t => v = w ∧ r = t
  | n + 1 => fun v r w t => ∃ k, k < C ∧ fr k = v ∧ ci k r < 1000000 ∧ cn_P C fr to ci n (to k) (ci k r) w t
theorem cn_D_le {fr to : Nat → Nat} {ci : Nat → Nat → Nat} {e : Nat → Nat} : ∀ (k w : Nat), cn_D fr to ci e k w ≤ e w := by
  intro k
  induction k with
  | zero => exact fun w => Nat.le_refl _
  | succ k ih =>
    intro w
    show (if w = to k then min (ci k (e (fr k))) (cn_D fr to ci e k w) else cn_D fr to ci e k w) ≤ e w
    have := ih w
    split
    · omega
    · omega
theorem cn_D_ci {fr to : Nat → Nat} {ci : Nat → Nat → Nat} {e : Nat → Nat} : ∀ (n k : Nat), k < n → cn_D fr to ci e n (to k) ≤ ci k (e (fr k)) := by
  intro n
  induction n with
  | zero => exact fun k h => absurd h (by omega)
  | succ n ih =>
    intro k hk
    show (if to k = to n then min (ci n (e (fr n))) (cn_D fr to ci e n (to k)) else cn_D fr to ci e n (to k)) ≤ _
    by_cases hkn : k = n
    · subst hkn
      rw [if_pos rfl]
      omega
    · have := ih k (by omega)
      split
      · omega
      · exact this
theorem cn_D_ex {fr to : Nat → Nat} {ci : Nat → Nat → Nat} {e : Nat → Nat} : ∀ (n w : Nat), cn_D fr to ci e n w = e w ∨ ∃ k, k < n ∧ to k = w ∧ cn_D fr to ci e n w = ci k (e (fr k)) := by
  intro n
  induction n with
  | zero => exact fun w => Or.inl rfl
  | succ n ih =>
    intro w
    show (if w = to n then min (ci n (e (fr n))) (cn_D fr to ci e n w) else cn_D fr to ci e n w) = e w ∨ ∃ k, k < n + 1 ∧ to k = w ∧ (if w = to n then min (ci n (e (fr n))) (cn_D fr to ci e n w) else cn_D fr to ci e n w) = ci k (e (fr k))
    have keep : cn_D fr to ci e n w = e w ∨ ∃ k, k < n + 1 ∧ to k = w ∧ cn_D fr to ci e n w = ci k (e (fr k)) := by
      rcases ih w with h | ⟨k, h1, h2, h3⟩
      · exact Or.inl h
      · exact Or.inr ⟨k, by omega, h2, h3⟩
    by_cases hw : w = to n
    · rw [if_pos hw]
      rcases Nat.le_total (ci n (e (fr n))) (cn_D fr to ci e n w) with h | h
      · rw [Nat.min_eq_left h]
        exact Or.inr ⟨n, by omega, hw.symm, rfl⟩
      · rw [Nat.min_eq_right h]
        exact keep
    · rw [if_neg hw]
      exact keep
theorem cn_D_mono {fr to : Nat → Nat} {ci : Nat → Nat → Nat} {e e' : Nat → Nat} (hm : ∀ k r r', r ≤ r' → ci k r ≤ ci k r') (h : ∀ w, e w ≤ e' w) : ∀ (n w : Nat), cn_D fr to ci e n w ≤ cn_D fr to ci e' n w := by
  intro n
  induction n with
  | zero => exact h
  | succ n ih =>
    intro w
    show (if w = to n then min (ci n (e (fr n))) (cn_D fr to ci e n w) else cn_D fr to ci e n w) ≤ (if w = to n then min (ci n (e' (fr n))) (cn_D fr to ci e' n w) else cn_D fr to ci e' n w)
    have h1 := ih w
    have h2 := hm n _ _ (h (fr n))
    split
    · omega
    · exact h1
/-- what a coming-in function must do -/
def cn_good (ci : Nat → Nat → Nat) : Prop := (∀ k r r', r ≤ r' → ci k r ≤ ci k r') ∧ (∀ k r, 1000000 ≤ r → ci k r = 1000000) ∧ (∀ k r, ci k r ≤ 1000000)
theorem cn_E_le {C : Nat} {fr to : Nat → Nat} {ci : Nat → Nat → Nat} {v r : Nat} (n w : Nat) : cn_E C fr to ci v r (n + 1) w ≤ cn_E C fr to ci v r n w := cn_D_le C w
theorem cn_E_anti {C : Nat} {fr to : Nat → Nat} {ci : Nat → Nat → Nat} {v r : Nat} (w m : Nat) : ∀ d, cn_E C fr to ci v r (m + d) w ≤ cn_E C fr to ci v r m w := by
  intro d
  induction d with
  | zero => exact Nat.le_refl _
  | succ d ih => exact Nat.le_trans (cn_E_le (m + d) w) ih
theorem cn_E_max {C : Nat} {fr to : Nat → Nat} {ci : Nat → Nat → Nat} {v r : Nat} (hr : r ≤ 1000000) (n w : Nat) : cn_E C fr to ci v r n w ≤ 1000000 := by
  have h := cn_E_anti (C := C) (fr := fr) (to := to) (ci := ci) (v := v) (r := r) w 0 n
  have h0 : cn_E C fr to ci v r 0 w ≤ 1000000 := by
    show (if w = v then r else 1000000) ≤ 1000000
    split
    · exact hr
    · exact Nat.le_refl _
  rw [Nat.zero_add] at h
  omega
theorem cn_P_snoc {C : Nat} {fr to : Nat → Nat} {ci : Nat → Nat → Nat} {k : Nat} (hk : k < C) : ∀ (n v r s : Nat), cn_P C fr to ci n v r (fr k) s → ci k s < 1000000 → cn_P C fr to ci (n + 1) v r (to k) (ci k s) := by
  intro n
  induction n with
  | zero =>
    intro v r s h hc
    obtain ⟨h1, h2⟩ := h
    subst h2
    exact ⟨k, hk, h1.symm, hc, rfl, rfl⟩
  | succ n ih =>
    intro v r s h hc
    obtain ⟨j, h1, h2, h3, h4⟩ := h
    exact ⟨j, h1, h2, h3, ih _ _ _ h4 hc⟩
theorem cn_sound {C : Nat} {fr to : Nat → Nat} {ci : Nat → Nat → Nat} (g : cn_good ci) {v r : Nat} : ∀ (n w : Nat), cn_E C fr to ci v r n w < 1000000 → ∃ m, m ≤ n ∧ cn_P C fr to ci m v r w (cn_E C fr to ci v r n w) := by
  intro n
  induction n with
  | zero =>
    intro w h
    have h' : (if w = v then r else 1000000) < 1000000 := h
    refine ⟨0, Nat.le_refl _, ?_⟩
    show v = w ∧ r = (if w = v then r else 1000000)
    by_cases e : w = v
    · rw [if_pos e]
      exact ⟨e.symm, rfl⟩
    · rw [if_neg e] at h'
      omega
  | succ n ih =>
    intro w h
    rcases cn_D_ex (fr := fr) (to := to) (ci := ci) (e := cn_E C fr to ci v r n) C w with e | ⟨k, h1, h2, e⟩
    · have e' : cn_E C fr to ci v r (n + 1) w = cn_E C fr to ci v r n w := e
      rw [e'] at h ⊢
      obtain ⟨m, h1, h2⟩ := ih w h
      exact ⟨m, by omega, h2⟩
    · have e' : cn_E C fr to ci v r (n + 1) w = ci k (cn_E C fr to ci v r n (fr k)) := e
      rw [e'] at h ⊢
      have hlt : cn_E C fr to ci v r n (fr k) < 1000000 := by
        rcases Nat.lt_or_ge (cn_E C fr to ci v r n (fr k)) 1000000 with z | z
        · exact z
        · have := g.2.1 k _ z
          omega
      obtain ⟨m, h3, h4⟩ := ih (fr k) hlt
      refine ⟨m + 1, by omega, ?_⟩
      rw [← h2]
      exact cn_P_snoc h1 m v r _ h4 h
theorem cn_shift {C : Nat} {fr to : Nat → Nat} {ci : Nat → Nat → Nat} (g : cn_good ci) {v r k : Nat} (hk : k < C) (hr : r ≤ 1000000) (hv : fr k = v) : ∀ (n w : Nat), cn_E C fr to ci v r (n + 1) w ≤ cn_E C fr to ci (to k) (ci k r) n w := by
  intro n
  induction n with
  | zero =>
    intro w
    show cn_E C fr to ci v r (0 + 1) w ≤ (if w = to k then ci k r else 1000000)
    by_cases e : w = to k
    · rw [if_pos e, e]
      have h := cn_D_ci (fr := fr) (to := to) (ci := ci) (e := cn_E C fr to ci v r 0) C k hk
      have h0 : cn_E C fr to ci v r 0 (fr k) = r := if_pos hv
      rw [h0] at h
      exact h
    · rw [if_neg e]
      exact cn_E_max hr _ _
  | succ n ih =>
    intro w
    exact cn_D_mono g.1 ih C w
theorem cn_complete {C : Nat} {fr to : Nat → Nat} {ci : Nat → Nat → Nat} (g : cn_good ci) : ∀ (m v r w t : Nat), r ≤ 1000000 → cn_P C fr to ci m v r w t → cn_E C fr to ci v r m w ≤ t := by
  intro m
  induction m with
  | zero =>
    intro v r w t hr h
    obtain ⟨h1, h2⟩ := h
    show (if w = v then r else 1000000) ≤ t
    rw [if_pos h1.symm]
    omega
  | succ m ih =>
    intro v r w t hr h
    obtain ⟨k, h1, h2, h3, h4⟩ := h
    exact Nat.le_trans (cn_shift g h1 hr h2 m w) (ih _ _ _ _ (by omega) h4)
theorem cn_complete' {C : Nat} {fr to : Nat → Nat} {ci : Nat → Nat → Nat} (g : cn_good ci) {m n v r w t : Nat} (hr : r ≤ 1000000) (hmn : m ≤ n) (h : cn_P C fr to ci m v r w t) : cn_E C fr to ci v r n w ≤ t := by
  have h1 := cn_complete g m v r w t hr h
  have h2 := cn_E_anti (C := C) (fr := fr) (to := to) (ci := ci) (v := v) (r := r) w m (n - m)
  rw [show m + (n - m) = n by omega] at h2
  omega
/-- one more step of the route: some contact leads on -/
theorem cn_step {C : Nat} {fr to : Nat → Nat} {ci : Nat → Nat → Nat} (g : cn_good ci) {v r w best Lg j left at' time : Nat} (hb : best < 1000000) (hr : r ≤ 1000000) (ht : time ≤ 1000000) (hmin : ∀ m, m < Lg → best < cn_E C fr to ci v r m w) (hj : j + (left + 1) = Lg)
    (hP : cn_P C fr to ci j v r at' time) (hE : cn_E C fr to ci at' time (left + 1) w ≤ best) : ∃ k, k < C ∧ fr k = at' ∧ ci k time < 1000000 ∧ cn_E C fr to ci (to k) (ci k time) left w ≤ best := by
  obtain ⟨m, h1, h2⟩ := cn_sound g (left + 1) w (show cn_E C fr to ci at' time (left + 1) w < 1000000 by omega)
  cases m with
  | zero =>
    obtain ⟨h3, h4⟩ := h2
    rw [h3] at hP
    have h5 := cn_complete' g hr (Nat.le_refl j) hP
    have h6 := hmin j (by omega)
    rw [← h4] at hE
    omega
  | succ m =>
    obtain ⟨k, h3, h4, h5, h6⟩ := h2
    refine ⟨k, h3, h4, h5, ?_⟩
    have h7 := cn_complete' g (n := left) (by omega) (by omega) h6
    omega
/-- the end of the route: at the target, at the best time -/
theorem cn_last {C : Nat} {fr to : Nat → Nat} {ci : Nat → Nat → Nat} (g : cn_good ci) {v r w best Lg at' time : Nat} (hb : best = cn_E C fr to ci v r 5 w) (hb2 : best < 1000000) (hr : r ≤ 1000000) (hL : Lg ≤ 5)
    (hP : cn_P C fr to ci Lg v r at' time) (hE : cn_E C fr to ci at' time 0 w ≤ best) : at' = w ∧ time = best := by
  have hE' : (if w = at' then time else 1000000) ≤ best := hE
  by_cases e : w = at'
  · rw [if_pos e] at hE'
    rw [← e] at hP
    have := cn_complete' g hr hL hP
    exact ⟨e.symm, by omega⟩
  · rw [if_neg e] at hE'
    omega
/-! the least number with a property, as a function -/
theorem cn_fb_ex (p : Nat → Prop) : ∃ o : Option Nat, (o = none ∧ ∀ t, ¬ p t) ∨ (∃ t, o = some t ∧ p t ∧ ∀ s, s < t → ¬ p s) := by
  by_cases h : ∃ t, p t
  · obtain ⟨t, h1, h2⟩ := pk_least p h
    exact ⟨some t, Or.inr ⟨t, rfl, h1, h2⟩⟩
  · exact ⟨none, Or.inl ⟨rfl, fun t ht => h ⟨t, ht⟩⟩⟩
noncomputable def cn_fb (p : Nat → Prop) : Option Nat := Classical.choose (cn_fb_ex p)
theorem cn_fb_none {p : Nat → Prop} (h : ∀ t, ¬ p t) : cn_fb p = none := by
  rcases Classical.choose_spec (cn_fb_ex p) with ⟨e, _⟩ | ⟨t, _, ht, _⟩
  · exact e
  · exact absurd ht (h t)
theorem cn_fb_some {p : Nat → Prop} {t : Nat} (h : p t) (h2 : ∀ s, s < t → ¬ p s) : cn_fb p = some t := by
  rcases Classical.choose_spec (cn_fb_ex p) with ⟨_, e⟩ | ⟨s, e, hs, hl⟩
  · exact absurd h (e t)
  · have : s = t := by
      rcases Nat.lt_trichotomy s t with z | z | z
      · exact absurd hs (h2 s z)
      · exact z
      · exact absurd h (hl t z)
    subst this
    exact e
theorem cn_fb_cases (p : Nat → Prop) : (cn_fb p = none ∧ ∀ t, ¬ p t) ∨ (∃ t, cn_fb p = some t ∧ p t ∧ ∀ s, s < t → ¬ p s) := Classical.choose_spec (cn_fb_ex p)
/-- a begin that is possible on contact k with word y, from r on, for tk ticks -/
def cn_ok (a8 : Nat → Int32) (y : Int32) (k r tk t : Nat) : Prop := r ≤ t ∧ cn_st y ≤ t ∧ t + tk ≤ cn_en y ∧ ∀ j, t ≤ j → j < t + tk → a8 (101 * k + j) = 0
noncomputable def cn_ci (a1 a8 : Nat → Int32) (Y : Nat → Int32) (s k r : Nat) : Nat :=
  if a1 k = 0 ∧ r < 1000000 then (match cn_fb (cn_ok a8 (Y k) k r (cn_tk s (cn_rt (Y k)))) with | none => 1000000 | some t => t + cn_tk s (cn_rt (Y k)) + cn_dl (Y k)) else 1000000
theorem cn_ci_never {a1 a8 : Nat → Int32} {Y : Nat → Int32} {s k r : Nat} (h : ¬ (a1 k = 0 ∧ r < 1000000)) : cn_ci a1 a8 Y s k r = 1000000 := if_neg h
theorem cn_ci_none {a1 a8 : Nat → Int32} {Y : Nat → Int32} {s k r : Nat} (h : a1 k = 0 ∧ r < 1000000) (h2 : ∀ t, ¬ cn_ok a8 (Y k) k r (cn_tk s (cn_rt (Y k))) t) : cn_ci a1 a8 Y s k r = 1000000 := by
  unfold cn_ci
  rw [if_pos h, cn_fb_none h2]
theorem cn_ci_some {a1 a8 : Nat → Int32} {Y : Nat → Int32} {s k r t : Nat} (h : a1 k = 0 ∧ r < 1000000) (h2 : cn_ok a8 (Y k) k r (cn_tk s (cn_rt (Y k))) t) (h3 : ∀ j, j < t → ¬ cn_ok a8 (Y k) k r (cn_tk s (cn_rt (Y k))) j) : cn_ci a1 a8 Y s k r = t + cn_tk s (cn_rt (Y k)) + cn_dl (Y k) := by
  unfold cn_ci
  rw [if_pos h, cn_fb_some h2 h3]
/-- the cases of a coming in -/
theorem cn_ci_cases (a1 a8 : Nat → Int32) (Y : Nat → Int32) (s k r : Nat) : cn_ci a1 a8 Y s k r = 1000000 ∨ (a1 k = 0 ∧ r < 1000000 ∧ ∃ t, cn_ok a8 (Y k) k r (cn_tk s (cn_rt (Y k))) t ∧ (∀ j, j < t → ¬ cn_ok a8 (Y k) k r (cn_tk s (cn_rt (Y k))) j) ∧ cn_ci a1 a8 Y s k r = t + cn_tk s (cn_rt (Y k)) + cn_dl (Y k)) := by
  by_cases h : a1 k = 0 ∧ r < 1000000
  · rcases cn_fb_cases (cn_ok a8 (Y k) k r (cn_tk s (cn_rt (Y k)))) with ⟨_, h2⟩ | ⟨t, _, h2, h3⟩
    · exact Or.inl (cn_ci_none h h2)
    · exact Or.inr ⟨h.1, h.2, t, h2, h3, cn_ci_some h h2 h3⟩
  · exact Or.inl (cn_ci_never h)
theorem cn_ci_small {a1 a8 : Nat → Int32} {Y : Nat → Int32} {s k r : Nat} (h : cn_ci a1 a8 Y s k r ≠ 1000000) : r ≤ 95 ∧ cn_ci a1 a8 Y s k r ≤ 102 := by
  rcases cn_ci_cases a1 a8 Y s k r with e | ⟨_, _, t, h2, _, e⟩
  · exact absurd e h
  · have h4 := cn_en_lt (Y k)
    have h5 := cn_dl_lt (Y k)
    have h6 := h2.1
    have h7 := h2.2.2.1
    rw [e]
    omega
theorem cn_ci_good (a1 a8 : Nat → Int32) (Y : Nat → Int32) (s : Nat) : cn_good (cn_ci a1 a8 Y s) := by
  refine ⟨fun k r r' hr => ?_, fun k r hr => cn_ci_never (fun h => absurd h.2 (by omega)), fun k r => ?_⟩
  · rcases cn_ci_cases a1 a8 Y s k r' with e | ⟨h1, h2, t', h3, h4, e⟩
    · rw [e]
      by_cases z : cn_ci a1 a8 Y s k r = 1000000
      · omega
      · have := (cn_ci_small z).2
        omega
    · have h5 : cn_ok a8 (Y k) k r (cn_tk s (cn_rt (Y k))) t' := ⟨by have := h3.1; omega, h3.2⟩
      obtain ⟨t, h6, h7⟩ := pk_least _ ⟨t', h5⟩
      rw [e, cn_ci_some ⟨h1, by omega⟩ h6 h7]
      have : t ≤ t' := by
        rcases Nat.lt_or_ge t' t with z | z
        · exact absurd h5 (h7 t' z)
        · exact z
      omega
  · by_cases z : cn_ci a1 a8 Y s k r = 1000000
    · omega
    · have := (cn_ci_small z).2
      omega
/-- the rounds of the class, in its own words -/
noncomputable def cn_R (C : Nat) (X Y a1 a8 : Nat → Int32) (s v r m w : Nat) : Nat := cn_E C (fun k => cn_fr (X k)) (fun k => cn_to (X k)) (cn_ci a1 a8 Y s) v r m w
theorem cn_R_max {C : Nat} {X Y a1 a8 : Nat → Int32} {s v r : Nat} (hr : r ≤ 1000000) (m w : Nat) : cn_R C X Y a1 a8 s v r m w ≤ 1000000 := cn_E_max hr m w
/-- too late for any contact -/
theorem cn_R_late {C : Nat} {X Y a1 a8 : Nat → Int32} {s v r w : Nat} (m : Nat) (hr : 95 < r) (hr2 : r ≤ 1000000) (hv : v ≠ w) : cn_R C X Y a1 a8 s v r m w = 1000000 := by
  rcases Nat.lt_or_ge (cn_R C X Y a1 a8 s v r m w) 1000000 with z | z
  · obtain ⟨n, h1, h2⟩ := cn_sound (cn_ci_good a1 a8 Y s) m w z
    cases n with
    | zero => exact absurd h2.1 hv
    | succ n =>
      obtain ⟨k, _, _, h5, _⟩ := h2
      have := (cn_ci_small (show cn_ci a1 a8 Y s k r ≠ 1000000 by omega)).1
      omega
  · have := cn_R_max (C := C) (X := X) (Y := Y) (a1 := a1) (a8 := a8) (s := s) (v := v) hr2 m w
    omega
end
section
/-! going over a contact; spread -/
def cn_K (X Y : Nat → Int32) (C : Nat) (a2 a3 a4 a5 a6 a7 : Nat → Int32) : Prop := ∀ k, k < C → a2 k = nI (cn_fr (X k)) ∧ a3 k = nI (cn_to (X k)) ∧ a4 k = nI (cn_st (Y k)) ∧ a5 k = nI (cn_en (Y k)) ∧ a6 k = nI (cn_rt (Y k)) ∧ a7 k = nI (cn_dl (Y k))
theorem cn_ticksFor {post : Int32 → Prop} {fc fb fw fq : Int32} {a1 a2 a3 a4 a5 a6 a7 a8 a9 a10 a11 a12 a13 a14 a15 a16 a17 a18 a19 a20 a21 : Nat → Int32} {k s : Nat} {y : Int32} (hk : k < 10) (h6 : a6 k = nI (cn_rt y)) (hs : 1 ≤ s) (hs2 : s ≤ 30) (hp : post (nI (cn_tk s (cn_rt y)))) : wpX_ticksFor post (fc, fb, fw, fq, a1, a2, a3, a4, a5, a6, a7, a8, a9, a10, a11, a12, a13, a14, a15, a16, a17, a18, a19, a20, a21) (nI k) (nI s) := by
  have e : a6 (nI k).toNatClampNeg = nI (cn_rt y) := by rw [nI_clamp (by omega)]; exact h6
  have hr := cn_rt_in y
  refine ⟨pk_in k 10 hk, pk_in k 10 hk, ?_, ?_⟩
  · rw [e]
    exact nI_ne0 (by omega) (by omega)
  · rw [e, cn_tke hs (by omega) hr.1 (by omega)]
    exact hp
theorem cn_fb29 {post : Int32 → Prop} {fc fb fw fq : Int32} {a1 a2 a3 a4 a5 a6 a7 a8 a9 a10 a11 a12 a13 a14 a15 a16 a17 a18 a19 a20 a21 : Nat → Int32} {k r tk t0 : Nat} {y : Int32} (hk : k < 10) (ht : 1 ≤ tk) (ht2 : tk ≤ 100) (h5 : a5 k = nI (cn_en y)) (h0 : t0 = max r (cn_st y)) (hb : t0 < 2000000)
    (H0 : (∀ t, ¬ cn_ok a8 y k r tk t) → post (-1)) (H1 : ∀ t, cn_ok a8 y k r tk t → (∀ s, s < t → ¬ cn_ok a8 y k r tk s) → post (nI t)) :
    ∃ n, wX_firstBegin_29 post (nI k) (nI tk) fc fb fw fq a1 a2 a3 a4 a5 a6 a7 a8 a9 a10 a11 a12 a13 a14 a15 a16 a17 a18 a19 a20 a21 n 0 (nI t0) := by
  have hen := cn_en_lt y
  have e5 : a5 (nI k).toNatClampNeg = nI (cn_en y) := by rw [nI_clamp (by omega)]; exact h5
  refine pk_loop (fun n i (f : Nat) => wX_firstBegin_29 post (nI k) (nI tk) fc fb fw fq a1 a2 a3 a4 a5 a6 a7 a8 a9 a10 a11 a12 a13 a14 a15 a16 a17 a18 a19 a20 a21 n (nI f) (nI i)) (fun t f => t0 + f ≤ t ∧ f < tk ∧ (∀ j, t ≤ j + f → j < t → a8 (101 * k + j) = 0) ∧ (∀ s, t0 ≤ s → s + f < t → ¬ (∀ j, s ≤ j → j < s + tk → a8 (101 * k + j) = 0))) (max t0 (cn_en y)) t0 0 (by omega) ⟨by omega, by omega, fun j h1 h2 => absurd h1 (by omega), fun s h1 h2 => absurd h1 (by omega)⟩ ?_ ?_
  · intro n f ⟨i1, i2, i4, i5⟩
    refine ⟨pk_in k 10 hk, pk_le (cn_en y) (max t0 (cn_en y)) (fun _ => H0 ?_) (fun z => absurd z (by omega)) e5⟩
    intro s hs
    obtain ⟨s1, s2, s3, s4⟩ := hs
    exact i5 s (by omega) (by omega) s4
  · intro n t f ht' ⟨i1, i2, i4, i5⟩ hw
    have ltn : t < cn_en y := by omega
    have e8 : ((101 : Int32) * nI k + nI t).toNatClampNeg = 101 * k + t := by rw [cn_i101]; exact nI_clamp (by omega)
    refine ⟨pk_in k 10 hk, pk_le (cn_en y) t (fun z => absurd z (by omega)) (fun _ => ⟨pk_in (101 * k + t) 1010 (by omega) (cn_i101 k t), br_c (fun z => ?_) (fun z => ?_)⟩) e5⟩
    · rw [e8] at z
      have all : ∀ j, t ≤ j + f → j < t + 1 → a8 (101 * k + j) = 0 := by
        intro j h1 h2
        by_cases e : j = t
        · rw [e]
          exact z
        · exact i4 j h1 (by omega)
      refine pk_eq (f + 1) tk (fun g => ?_) (fun g => ?_) (nI_1 f)
      · have e : nI t - nI tk + 1 = nI (t - f) := by
          have e' : nI t - nI tk + 1 = (nI t + 1) - nI tk := by grind
          rw [e', nI_1, pk_sub (by omega), show t + 1 - tk = t - f by omega]
        rw [e]
        refine H1 (t - f) ⟨by omega, by omega, by omega, fun j h1 h2 => all j (by omega) (by omega)⟩ (fun s h1 hs => ?_)
        obtain ⟨s1, s2, s3, s4⟩ := hs
        exact i5 s (by omega) (by omega) s4
      · refine nm_r (nI_1 t) ?_
        rw [nI_1 f]
        exact hw (f + 1) ⟨by omega, by omega, fun j h1 h2 => all j (by omega) h2, fun s h1 h2 => i5 s h1 (by omega)⟩
    · rw [e8] at z
      refine pk_eq 0 tk (fun g => absurd g (by omega)) (fun _ => nm_r (nI_1 t) (hw 0 ⟨by omega, by omega, fun j h1 h2 => absurd h1 (by omega), fun s h1 h2 hs => ?_⟩))
      by_cases g : s + f < t
      · exact i5 s h1 g hs
      · exact z (hs t (by omega) (by omega))
theorem cn_firstBegin {post : Int32 → Prop} {fc fb fw fq : Int32} {a1 a2 a3 a4 a5 a6 a7 a8 a9 a10 a11 a12 a13 a14 a15 a16 a17 a18 a19 a20 a21 : Nat → Int32} {k r tk : Nat} {y : Int32} (hk : k < 10) (hr : r < 2000000) (ht : 1 ≤ tk) (ht2 : tk ≤ 100) (h4 : a4 k = nI (cn_st y)) (h5 : a5 k = nI (cn_en y))
    (H0 : (∀ t, ¬ cn_ok a8 y k r tk t) → post (-1)) (H1 : ∀ t, cn_ok a8 y k r tk t → (∀ s, s < t → ¬ cn_ok a8 y k r tk s) → post (nI t)) :
    wpX_firstBegin post (fc, fb, fw, fq, a1, a2, a3, a4, a5, a6, a7, a8, a9, a10, a11, a12, a13, a14, a15, a16, a17, a18, a19, a20, a21) (nI k) (nI r) (nI tk) := by
  have e4 : a4 (nI k).toNatClampNeg = nI (cn_st y) := by rw [nI_clamp (by omega)]; exact h4
  have hst := cn_st_lt y
  refine ⟨pk_in k 10 hk, pk_le r (cn_st y) (fun z => ⟨pk_in k 10 hk, nm_r e4 ?_⟩) (fun z => ?_) rfl e4⟩
  · exact cn_fb29 hk ht ht2 h5 (show cn_st y = max r (cn_st y) by omega) (by omega) H0 H1
  · exact cn_fb29 hk ht ht2 h5 (show r = max r (cn_st y) by omega) (by omega) H0 H1
theorem cn_comingIn {post : Int32 → Prop} {fc fb fw fq : Int32} {a1 a2 a3 a4 a5 a6 a7 a8 a9 a10 a11 a12 a13 a14 a15 a16 a17 a18 a19 a20 a21 : Nat → Int32} {X Y : Nat → Int32} {C k r s : Nat} (hK : cn_K X Y C a2 a3 a4 a5 a6 a7) (hC : C ≤ 10) (hk : k < C) (hr : r ≤ 1000000) (hs : 1 ≤ s) (hs2 : s ≤ 30) (hp : post (nI (cn_ci a1 a8 Y s k r))) : wpX_comingIn post (fc, fb, fw, fq, a1, a2, a3, a4, a5, a6, a7, a8, a9, a10, a11, a12, a13, a14, a15, a16, a17, a18, a19, a20, a21) (nI k) (nI r) (nI s) := by
  obtain ⟨k2, k3, k4, k5, k6, k7⟩ := hK k hk
  have hrt := cn_rt_in (Y k)
  have p1 := cn_tk_pos hs hrt.1
  have p2 := cn_tk_le hs hrt.1
  have hen := cn_en_lt (Y k)
  have ec : (nI k).toNatClampNeg = k := nI_clamp (by omega)
  refine ⟨pk_in k 10 (by omega), br_c (fun z => ?_) (fun z => ?_)⟩
  · rw [ec] at z
    refine pk_lt r 1000000 (fun g => ?_) (fun g => ?_)
    · refine cn_ticksFor (by omega) k6 hs hs2 ?_
      refine cn_firstBegin (y := Y k) (by omega) (by omega) p1 (by omega) k4 k5 (fun h => ?_) (fun t h1 h2 => ?_)
      · refine br_f (by decide) ?_
        rw [cn_ci_none ⟨z, g⟩ h] at hp
        exact hp
      · have h3 := h1.2.2.1
        refine br_t (nI_pos' (by omega)) ⟨pk_in k 10 (by omega), ?_⟩
        rw [ec, k7, nI_add, nI_add]
        rw [cn_ci_some ⟨z, g⟩ h1 h2] at hp
        exact hp
    · rw [cn_ci_never (fun h => absurd h.2 (by omega))] at hp
      exact hp
  · rw [ec] at z
    rw [cn_ci_never (fun h => z h.1)] at hp
    exact hp
theorem cn_up {g : Nat → Int32} {f f' : Nat → Nat} {j x N : Nat} (h : ∀ w, w < N → g w = nI (f w)) (hj : f' j = x) (ho : ∀ w, w ≠ j → f' w = f w) : ∀ w, w < N → upd g j (nI x) w = nI (f' w) := by
  intro w hw
  by_cases e : w = j
  · rw [e, pk_us, hj]
  · rw [pk_un e, ho w e]
    exact h w hw
theorem cn_sp78 {post : St1 → Prop} {J : Int32 → (Nat → Int32) → (Nat → Int32) → (Nat → Int32) → (Nat → Int32) → (Nat → Int32) → (Nat → Int32) → (Nat → Int32) → (Nat → Int32) → (Nat → Int32) → (Nat → Int32) → (Nat → Int32) → (Nat → Int32) → (Nat → Int32) → (Nat → Int32) → (Nat → Int32) → (Nat → Int32) → (Nat → Int32) → (Nat → Int32) → (Nat → Int32) → (Nat → Int32) → (Nat → Int32) → Prop} {x4 x5 : Int32} {fb fw fq : Int32} {a1 a2 a3 a4 a5 a6 a7 a8 a9 a10 a11 a12 a13 a14 a15 a16 a17 a18 a19 a20 a21 : Nat → Int32} {X Y : Nat → Int32} {C s : Nat} {e : Nat → Nat}
    (hK : cn_K X Y C a2 a3 a4 a5 a6 a7) (hC : C ≤ 10) (hs : 1 ≤ s) (hs2 : s ≤ 30) (he : ∀ w, e w ≤ 1000000) (h20 : ∀ w, w < 6 → a20 w = nI (e w)) (h21 : ∀ w, w < 6 → a21 w = nI (e w))
    (H : ∀ g, (∀ w, w < 6 → g w = nI (cn_D (fun k => cn_fr (X k)) (fun k => cn_to (X k)) (cn_ci a1 a8 Y s) e C w)) → J (x5 + 1) a1 a2 a3 a4 a5 a6 a7 a8 a9 a10 a11 a12 a13 a14 a15 a16 a17 a18 a19 g a21) :
    ∃ n, wX_spread_78 post J (nI s) x4 x5 (nI C) fb fw fq n 0 a1 a2 a3 a4 a5 a6 a7 a8 a9 a10 a11 a12 a13 a14 a15 a16 a17 a18 a19 a20 a21 := by
  refine pk_loop (fun n i (g : Nat → Int32) => wX_spread_78 post J (nI s) x4 x5 (nI C) fb fw fq n (nI i) a1 a2 a3 a4 a5 a6 a7 a8 a9 a10 a11 a12 a13 a14 a15 a16 a17 a18 a19 g a21) (fun i g => ∀ w, w < 6 → g w = nI (cn_D (fun k => cn_fr (X k)) (fun k => cn_to (X k)) (cn_ci a1 a8 Y s) e i w)) C 0 a20 (by omega) h20 ?_ ?_
  · intro n g hg
    exact pk_le C C (fun _ => nm_e (H g hg)) (fun z => absurd z (by omega))
  · intro n k g hk hg hw
    obtain ⟨k2, k3, k4, k5, k6, k7⟩ := hK k hk
    have l2 := cn_fr_lt (X k)
    have l3 := cn_to_lt (X k)
    have ec : (nI k).toNatClampNeg = k := nI_clamp (by omega)
    have ea2 : (a2 (nI k).toNatClampNeg).toNatClampNeg = cn_fr (X k) := by rw [ec, k2]; exact nI_clamp (by omega)
    have ea3 : (a3 (nI k).toNatClampNeg).toNatClampNeg = cn_to (X k) := by rw [ec, k3]; exact nI_clamp (by omega)
    have i2 : vp_in (a2 (nI k).toNatClampNeg) 6 := pk_in (cn_fr (X k)) 6 l2 (by rw [ec, k2])
    have i3 : vp_in (a3 (nI k).toNatClampNeg) 6 := pk_in (cn_to (X k)) 6 l3 (by rw [ec, k3])
    have ik : vp_in (nI k) 10 := pk_in k 10 (by omega)
    have hci := (cn_ci_good a1 a8 Y s).2.2 k (e (cn_fr (X k)))
    have hD := cn_D_le (fr := fun k => cn_fr (X k)) (to := fun k => cn_to (X k)) (ci := cn_ci a1 a8 Y s) (e := e) k (cn_to (X k))
    have hD2 := he (cn_to (X k))
    refine pk_le C k (fun z => absurd z (by omega)) (fun _ => ⟨ik, i2, ?_⟩)
    rw [ea2, h21 _ l2]
    refine cn_comingIn hK hC hk (he _) hs hs2 ⟨ik, ik, i3, ?_⟩
    rw [ea3, hg _ l3]
    have hne : ∀ w, w ≠ cn_to (X k) → cn_D (fun k => cn_fr (X k)) (fun k => cn_to (X k)) (cn_ci a1 a8 Y s) e (k + 1) w = cn_D (fun k => cn_fr (X k)) (fun k => cn_to (X k)) (cn_ci a1 a8 Y s) e k w := fun w hw => if_neg hw
    have heq : cn_D (fun k => cn_fr (X k)) (fun k => cn_to (X k)) (cn_ci a1 a8 Y s) e (k + 1) (cn_to (X k)) = min (cn_ci a1 a8 Y s k (e (cn_fr (X k)))) (cn_D (fun k => cn_fr (X k)) (fun k => cn_to (X k)) (cn_ci a1 a8 Y s) e k (cn_to (X k))) := if_pos rfl
    refine pk_le (cn_D (fun k => cn_fr (X k)) (fun k => cn_to (X k)) (cn_ci a1 a8 Y s) e k (cn_to (X k))) (cn_ci a1 a8 Y s k (e (cn_fr (X k)))) (fun z => ⟨ik, i3, i3, nm_e (nm_r (nI_1 k) (hw _ (cn_up hg (by rw [heq]; omega) hne)))⟩) (fun z => ⟨i3, nm_e (nm_r (nI_1 k) (hw _ (cn_up hg (by rw [heq]; omega) hne)))⟩)
theorem cn_sp48 {post : St1 → Prop} {J : Int32 → (Nat → Int32) → (Nat → Int32) → (Nat → Int32) → (Nat → Int32) → (Nat → Int32) → (Nat → Int32) → (Nat → Int32) → (Nat → Int32) → (Nat → Int32) → (Nat → Int32) → (Nat → Int32) → (Nat → Int32) → (Nat → Int32) → (Nat → Int32) → (Nat → Int32) → (Nat → Int32) → (Nat → Int32) → (Nat → Int32) → (Nat → Int32) → (Nat → Int32) → (Nat → Int32) → Prop} {x4 x5 : Int32} {fb fw fq : Int32} {a1 a2 a3 a4 a5 a6 a7 a8 a9 a10 a11 a12 a13 a14 a15 a16 a17 a18 a19 a20 a21 : Nat → Int32} {X Y : Nat → Int32} {C s : Nat} {e : Nat → Nat}
    (hK : cn_K X Y C a2 a3 a4 a5 a6 a7) (hC : C ≤ 10) (hs : 1 ≤ s) (hs2 : s ≤ 30) (he : ∀ w, e w ≤ 1000000) (h20 : ∀ w, w < 6 → a20 w = nI (e w))
    (H : ∀ g h, (∀ w, w < 6 → g w = nI (cn_D (fun k => cn_fr (X k)) (fun k => cn_to (X k)) (cn_ci a1 a8 Y s) e C w)) → J (x5 + 1) a1 a2 a3 a4 a5 a6 a7 a8 a9 a10 a11 a12 a13 a14 a15 a16 a17 a18 a19 g h) :
    ∃ n, wX_spread_48 post J (nI s) x4 x5 (nI C) fb fw fq n 0 a1 a2 a3 a4 a5 a6 a7 a8 a9 a10 a11 a12 a13 a14 a15 a16 a17 a18 a19 a20 a21 := by
  refine pk_loop (fun n i (h : Nat → Int32) => wX_spread_48 post J (nI s) x4 x5 (nI C) fb fw fq n (nI i) a1 a2 a3 a4 a5 a6 a7 a8 a9 a10 a11 a12 a13 a14 a15 a16 a17 a18 a19 a20 h) (fun i h => ∀ w, w < i → h w = nI (e w)) 6 0 a21 (by omega) (fun w hw => absurd hw (by omega)) ?_ ?_
  · intro n h hh
    exact pk_le 6 6 (fun _ => cn_sp78 hK hC hs hs2 he h20 hh (fun g hg => H g h hg)) (fun z => absurd z (by omega))
  · intro n i h hi hh hw
    have ec : (nI i).toNatClampNeg = i := nI_clamp (by omega)
    refine pk_le 6 i (fun z => absurd z (by omega)) (fun _ => ⟨pk_in i 6 hi, pk_in i 6 hi, nm_r (e' := upd h i (nI (e i))) (by rw [ec, h20 i hi]) (nm_r (nI_1 i) (hw _ ?_))⟩)
    intro w hw'
    by_cases ew : w = i
    · rw [ew, pk_us]
    · rw [pk_un ew]
      exact hh w (by omega)
theorem cn_sp38 {post : St1 → Prop} {fb fw fq : Int32} {a1 a2 a3 a4 a5 a6 a7 a8 a9 a10 a11 a12 a13 a14 a15 a16 a17 a18 a19 a20 a21 : Nat → Int32} {X Y : Nat → Int32} {C s v r m : Nat}
    (hK : cn_K X Y C a2 a3 a4 a5 a6 a7) (hC : C ≤ 10) (hs : 1 ≤ s) (hs2 : s ≤ 30) (hm : m ≤ 1000) (hr : r ≤ 1000000) (h20 : ∀ w, w < 6 → a20 w = nI (cn_R C X Y a1 a8 s v r 0 w))
    (H : ∀ g h, (∀ w, w < 6 → g w = nI (cn_R C X Y a1 a8 s v r m w)) → post (nI C, fb, fw, fq, a1, a2, a3, a4, a5, a6, a7, a8, a9, a10, a11, a12, a13, a14, a15, a16, a17, a18, a19, g, h)) :
    ∃ n, wX_spread_38 post (nI s) (nI m) (nI C) fb fw fq n 0 a1 a2 a3 a4 a5 a6 a7 a8 a9 a10 a11 a12 a13 a14 a15 a16 a17 a18 a19 a20 a21 := by
  refine pk_loop (fun n i (p : (Nat → Int32) × (Nat → Int32)) => wX_spread_38 post (nI s) (nI m) (nI C) fb fw fq n (nI i) a1 a2 a3 a4 a5 a6 a7 a8 a9 a10 a11 a12 a13 a14 a15 a16 a17 a18 a19 p.1 p.2) (fun i p => ∀ w, w < 6 → p.1 w = nI (cn_R C X Y a1 a8 s v r i w)) m 0 (a20, a21) (by omega) h20 ?_ ?_
  · intro n p hp
    exact pk_le m m (fun _ => H p.1 p.2 hp) (fun z => absurd z (by omega))
  · intro n i p hi hp hw
    refine pk_le m i (fun z => absurd z (by omega)) (fun _ => ?_)
    refine cn_sp48 (e := cn_R C X Y a1 a8 s v r i) hK hC hs hs2 (fun w => cn_R_max hr i w) hp (fun g h hg => ?_)
    rw [nI_1]
    exact hw (g, h) hg
theorem cn_spread {post : St1 → Prop} {fb fw fq : Int32} {a1 a2 a3 a4 a5 a6 a7 a8 a9 a10 a11 a12 a13 a14 a15 a16 a17 a18 a19 a20 a21 : Nat → Int32} {X Y : Nat → Int32} {C s v r m : Nat}
    (hK : cn_K X Y C a2 a3 a4 a5 a6 a7) (hC : C ≤ 10) (hs : 1 ≤ s) (hs2 : s ≤ 30) (hm : m ≤ 1000) (hr : r ≤ 1000000) (hv : v < 6)
    (H : ∀ g h, (∀ w, w < 6 → g w = nI (cn_R C X Y a1 a8 s v r m w)) → post (nI C, fb, fw, fq, a1, a2, a3, a4, a5, a6, a7, a8, a9, a10, a11, a12, a13, a14, a15, a16, a17, a18, a19, g, h)) :
    wpX_spread post (nI C, fb, fw, fq, a1, a2, a3, a4, a5, a6, a7, a8, a9, a10, a11, a12, a13, a14, a15, a16, a17, a18, a19, a20, a21) (nI v) (nI r) (nI s) (nI m) := by
  refine pk_loop (fun n i (g : Nat → Int32) => wX_spread_3 post (nI v) (nI r) (nI s) (nI m) (nI C) fb fw fq n (nI i) a1 a2 a3 a4 a5 a6 a7 a8 a9 a10 a11 a12 a13 a14 a15 a16 a17 a18 a19 g a21) (fun i g => ∀ w, w < i → g w = nI (cn_R C X Y a1 a8 s v r 0 w)) 6 0 a20 (by omega) (fun w hw => absurd hw (by omega)) ?_ ?_
  · intro n g hg
    exact pk_le 6 6 (fun _ => cn_sp38 hK hC hs hs2 hm hr hg H) (fun z => absurd z (by omega))
  · intro n i g hi hg hw
    have ec : (nI i).toNatClampNeg = i := nI_clamp (by omega)
    refine pk_le 6 i (fun z => absurd z (by omega)) (fun _ => pk_eq i v (fun z => ⟨pk_in i 6 hi, nm_r (e' := upd g i (nI r)) (by rw [ec]) (nm_r (nI_1 i) (hw _ ?_))⟩) (fun z => ⟨pk_in i 6 hi, nm_r (e' := upd g i (nI 1000000)) (by rw [ec]; rfl) (nm_r (nI_1 i) (hw _ ?_))⟩))
    · intro w hw'
      by_cases ew : w = i
      · rw [ew, pk_us]
        exact congrArg nI (if_pos z).symm
      · rw [pk_un ew]
        exact hg w (by omega)
    · intro w hw'
      by_cases ew : w = i
      · rw [ew, pk_us]
        exact congrArg nI (if_neg z).symm
      · rw [pk_un ew]
        exact hg w (by omega)
end
section
/-! the way of a row of hops: where it stands and when, ahead of its i-th hop -/
def cn_nd (X : Nat → Int32) (v : Nat) (rk : Nat → Nat) : Nat → Nat
  | 0 => v
  | i + 1 => cn_to (X (rk i))
def cn_tm (Y : Nat → Int32) (s r : Nat) (rk rb : Nat → Nat) : Nat → Nat
  | 0 => r
  | i + 1 => rb i + cn_tk s (cn_rt (Y (rk i))) + cn_dl (Y (rk i))
def cn_hop (C : Nat) (X Y : Nat → Int32) (s v r : Nat) (rk rb : Nat → Nat) (i : Nat) : Prop := rk i < C ∧ cn_fr (X (rk i)) = cn_nd X v rk i ∧ cn_tm Y s r rk rb i ≤ rb i ∧ cn_st (Y (rk i)) ≤ rb i ∧ rb i + cn_tk s (cn_rt (Y (rk i))) ≤ cn_en (Y (rk i))
def cn_free (a8 : Nat → Int32) (k t n : Nat) : Prop := ∀ j, t ≤ j → j < t + n → a8 (101 * k + j) = 0
def cn_ups (f : Nat → Nat) (j x : Nat) : Nat → Nat := fun i => if i = j then x else f i
theorem cn_ups_s {f : Nat → Nat} {j x : Nat} : cn_ups f j x j = x := if_pos rfl
theorem cn_ups_n {f : Nat → Nat} {j x i : Nat} (h : i ≠ j) : cn_ups f j x i = f i := if_neg h
theorem cn_nd_c {X : Nat → Int32} {v : Nat} {rk rk' : Nat → Nat} {n : Nat} (h : ∀ i, i < n → rk' i = rk i) : cn_nd X v rk' n = cn_nd X v rk n := by
  cases n with
  | zero => rfl
  | succ n =>
    show cn_to (X (rk' n)) = cn_to (X (rk n))
    rw [h n (by omega)]
theorem cn_tm_c {Y : Nat → Int32} {s r : Nat} {rk rk' rb rb' : Nat → Nat} {n : Nat} (h : ∀ i, i < n → rk' i = rk i) (h2 : ∀ i, i < n → rb' i = rb i) : cn_tm Y s r rk' rb' n = cn_tm Y s r rk rb n := by
  cases n with
  | zero => rfl
  | succ n =>
    show rb' n + cn_tk s (cn_rt (Y (rk' n))) + cn_dl (Y (rk' n)) = rb n + cn_tk s (cn_rt (Y (rk n))) + cn_dl (Y (rk n))
    rw [h n (by omega), h2 n (by omega)]
theorem cn_hop_c {C : Nat} {X Y : Nat → Int32} {s v r : Nat} {rk rk' rb rb' : Nat → Nat} {i : Nat} (h : ∀ j, j < i + 1 → rk' j = rk j) (h2 : ∀ j, j < i + 1 → rb' j = rb j) (hh : cn_hop C X Y s v r rk rb i) : cn_hop C X Y s v r rk' rb' i := by
  unfold cn_hop
  rw [cn_nd_c (X := X) (v := v) (n := i) (fun j hj => h j (by omega)), cn_tm_c (Y := Y) (s := s) (r := r) (n := i) (fun j hj => h j (by omega)) (fun j hj => h2 j (by omega)), h i (by omega), h2 i (by omega)]
  exact hh
theorem cn_nd_lt {X : Nat → Int32} {v : Nat} {rk : Nat → Nat} (hv : v < 6) (n : Nat) : cn_nd X v rk n < 6 := by
  cases n with
  | zero => exact hv
  | succ n => exact cn_to_lt _
/-- contact k leads on: behind it the target can be come in at by 'best', over 'left' more -/
def cn_lead (C : Nat) (X Y a1 a8 : Nat → Int32) (s v w t left best k : Nat) : Prop := cn_fr (X k) = v ∧ cn_ci a1 a8 Y s k t < 1000000 ∧ cn_R C X Y a1 a8 s (cn_to (X k)) (cn_ci a1 a8 Y s k t) left w ≤ best
theorem cn_leadsOn {post : Int32 → St1 → Prop} {fb fw fq : Int32} {a1 a2 a3 a4 a5 a6 a7 a8 a9 a10 a11 a12 a13 a14 a15 a16 a17 a18 a19 a20 a21 : Nat → Int32} {X Y : Nat → Int32} {C s v w t left best k : Nat}
    (hK : cn_K X Y C a2 a3 a4 a5 a6 a7) (hC : C ≤ 10) (hs : 1 ≤ s) (hs2 : s ≤ 30) (hk : k < C) (hv : v < 6) (hw : w < 6) (ht : t ≤ 1000000) (hl : left ≤ 100) (hb : best ≤ 1000000)
    (H0 : ¬ cn_lead C X Y a1 a8 s v w t left best k → ∀ g h, post 0 (nI C, fb, fw, fq, a1, a2, a3, a4, a5, a6, a7, a8, a9, a10, a11, a12, a13, a14, a15, a16, a17, a18, a19, g, h))
    (H1 : cn_lead C X Y a1 a8 s v w t left best k → ∀ g h, post 1 (nI C, fb, fw, fq, a1, a2, a3, a4, a5, a6, a7, a8, a9, a10, a11, a12, a13, a14, a15, a16, a17, a18, a19, g, h)) :
    wpX_leadsOn post (nI C, fb, fw, fq, a1, a2, a3, a4, a5, a6, a7, a8, a9, a10, a11, a12, a13, a14, a15, a16, a17, a18, a19, a20, a21) (nI k) (nI v) (nI w) (nI t) (nI s) (nI (left + 1)) (nI best) := by
  obtain ⟨k2, k3, k4, k5, k6, k7⟩ := hK k hk
  have ec : (nI k).toNatClampNeg = k := nI_clamp (by omega)
  have ew : (nI w).toNatClampNeg = w := nI_clamp (by omega)
  have l2 := cn_fr_lt (X k)
  have l3 := cn_to_lt (X k)
  have ea3 : a3 (nI k).toNatClampNeg = nI (cn_to (X k)) := by rw [ec, k3]
  have el : nI (left + 1) - 1 = nI left := nI_pred left
  have hci := (cn_ci_good a1 a8 Y s).2.2 k t
  refine ⟨pk_in k 10 (by omega), pk_eq (cn_fr (X k)) v (fun z => ?_) (fun z => H0 (fun h => z h.1) a20 a21) (by rw [ec, k2])⟩
  refine cn_comingIn hK hC hk ht hs hs2 ?_
  refine pk_lt (cn_ci a1 a8 Y s k t) 1000000 (fun g => ⟨pk_in k 10 (by omega), ?_⟩) (fun g => H0 (fun h => absurd h.2.1 (by omega)) a20 a21)
  rw [ea3, el]
  refine cn_spread hK hC hs hs2 (by omega) hci l3 (fun p q hp => ?_)
  have hR := cn_R_max (C := C) (X := X) (Y := Y) (a1 := a1) (a8 := a8) (s := s) (v := cn_to (X k)) hci left w
  refine ⟨pk_in w 6 hw, pk_lt best (cn_R C X Y a1 a8 s (cn_to (X k)) (cn_ci a1 a8 Y s k t) left w) (fun z' => H0 (fun h => absurd h.2.2 (by omega)) p q) (fun z' => H1 ⟨z, g, z'⟩ p q) rfl ?_⟩
  rw [ew]
  exact hp w hw
theorem cn_nextContact {post : Int32 → St1 → Prop} {fb fw fq : Int32} {a1 a2 a3 a4 a5 a6 a7 a8 a9 a10 a11 a12 a13 a14 a15 a16 a17 a18 a19 a20 a21 : Nat → Int32} {X Y : Nat → Int32} {C s v w t left best : Nat}
    (hK : cn_K X Y C a2 a3 a4 a5 a6 a7) (hC : C ≤ 10) (hs : 1 ≤ s) (hs2 : s ≤ 30) (hv : v < 6) (hw : w < 6) (ht : t ≤ 1000000) (hl : left ≤ 100) (hb : best ≤ 1000000)
    (hex : ∃ k, k < C ∧ cn_lead C X Y a1 a8 s v w t left best k)
    (H : ∀ k g h, k < C → cn_lead C X Y a1 a8 s v w t left best k → post (nI k) (nI C, fb, fw, fq, a1, a2, a3, a4, a5, a6, a7, a8, a9, a10, a11, a12, a13, a14, a15, a16, a17, a18, a19, g, h)) :
    wpX_nextContact post (nI C, fb, fw, fq, a1, a2, a3, a4, a5, a6, a7, a8, a9, a10, a11, a12, a13, a14, a15, a16, a17, a18, a19, a20, a21) (nI v) (nI w) (nI t) (nI s) (nI (left + 1)) (nI best) := by
  obtain ⟨k0, hk0, hl0⟩ := hex
  have ec1 : nI C - 1 = nI (C - 1) := pk_sub (b := 1) (by omega)
  refine pk_loop (fun n i (p : (Nat → Int32) × (Nat → Int32)) => wX_nextContact_3 post (nI v) (nI w) (nI t) (nI s) (nI (left + 1)) (nI best) n (nI i) (nI C) fb fw fq a1 a2 a3 a4 a5 a6 a7 a8 a9 a10 a11 a12 a13 a14 a15 a16 a17 a18 a19 p.1 p.2) (fun i _ => ∀ j, j < i → ¬ cn_lead C X Y a1 a8 s v w t left best j) (C - 1) 0 (a20, a21) (by omega) (fun j hj => absurd hj (by omega)) ?_ ?_
  · intro n p hp
    refine pk_le (C - 1) (C - 1) (fun _ => H (C - 1) p.1 p.2 (by omega) ?_) (fun z => absurd z (by omega)) ec1
    have : k0 = C - 1 := by
      rcases Nat.lt_or_ge k0 (C - 1) with z | z
      · exact absurd hl0 (hp k0 z)
      · omega
    rw [← this]
    exact hl0
  · intro n i p hi hp hw'
    refine pk_le (C - 1) i (fun z => absurd z (by omega)) (fun _ => ?_) ec1
    refine cn_leadsOn hK hC hs hs2 (by omega) hv hw ht hl hb (fun hn g h => ?_) (fun hn g h => ?_)
    · exact br_t rfl (nm_r (nI_1 i) (hw' (g, h) (lt_s hp hn)))
    · exact br_f (by decide) (H i g h (by omega) hn)
/-- a route of L contacts, from node v, ready at r, for size s -/
def cn_route (C : Nat) (X Y a8 : Nat → Int32) (s v r : Nat) (rk rb : Nat → Nat) (L : Nat) : Prop := ∀ i, i < L → cn_hop C X Y s v r rk rb i ∧ cn_free a8 (rk i) (rb i) (cn_tk s (cn_rt (Y (rk i))))
theorem cn_fr88 {post : Int32 → St1 → Prop} {fb fw : Int32} {a1 a2 a3 a4 a5 a6 a7 a8 a9 a10 a11 a12 a13 a14 a15 a16 a17 a18 a19 a20 a21 : Nat → Int32} {X Y : Nat → Int32} {C s v w r L : Nat}
    (hK : cn_K X Y C a2 a3 a4 a5 a6 a7) (hC : C ≤ 10) (hs : 1 ≤ s) (hs2 : s ≤ 30) (hv : v < 6) (hw : w < 6) (hr : r < 1000000) (hL : L ≤ 5) (hb : cn_R C X Y a1 a8 s v r 5 w < 1000000)
    (hmin : ∀ m, m < L → cn_R C X Y a1 a8 s v r 5 w < cn_R C X Y a1 a8 s v r m w) (hE : cn_R C X Y a1 a8 s v r L w ≤ cn_R C X Y a1 a8 s v r 5 w)
    (H : ∀ rk rb e18 e19 g h, cn_route C X Y a8 s v r rk rb L → cn_nd X v rk L = w → cn_tm Y s r rk rb L = cn_R C X Y a1 a8 s v r 5 w → (∀ i, i < L → e18 i = nI (rk i) ∧ e19 i = nI (rb i)) → post (nI (cn_R C X Y a1 a8 s v r 5 w)) (nI C, fb, fw, nI L, a1, a2, a3, a4, a5, a6, a7, a8, a9, a10, a11, a12, a13, a14, a15, a16, a17, e18, e19, g, h)) :
    ∃ n, wX_findRoute_88 post (nI w) (nI s) (nI (cn_R C X Y a1 a8 s v r 5 w)) n (nI v) (nI r) (nI L) (nI C) fb fw 0 a1 a2 a3 a4 a5 a6 a7 a8 a9 a10 a11 a12 a13 a14 a15 a16 a17 a18 a19 a20 a21 := by
  have good := cn_ci_good a1 a8 Y s
  generalize hbest : cn_R C X Y a1 a8 s v r 5 w = best at hb hmin hE H ⊢
  refine pk_loop (fun n j (p : Nat × Nat × (Nat → Int32) × (Nat → Int32) × (Nat → Int32) × (Nat → Int32)) => wX_findRoute_88 post (nI w) (nI s) (nI best) n (nI p.1) (nI p.2.1) (nI (L - j)) (nI C) fb fw (nI j) a1 a2 a3 a4 a5 a6 a7 a8 a9 a10 a11 a12 a13 a14 a15 a16 a17 p.2.2.1 p.2.2.2.1 p.2.2.2.2.1 p.2.2.2.2.2)
    (fun j p => ∃ rk rb, cn_route C X Y a8 s v r rk rb j ∧ p.1 = cn_nd X v rk j ∧ p.2.1 = cn_tm Y s r rk rb j ∧ (∀ i, i < j → p.2.2.1 i = nI (rk i) ∧ p.2.2.2.1 i = nI (rb i)) ∧ cn_P C (fun k => cn_fr (X k)) (fun k => cn_to (X k)) (cn_ci a1 a8 Y s) j v r p.1 p.2.1 ∧ cn_R C X Y a1 a8 s p.1 p.2.1 (L - j) w ≤ best ∧ p.2.1 < 1000000 ∧ p.1 < 6)
    L 0 (v, r, a18, a19, a20, a21) (by omega) ⟨fun _ => 0, fun _ => 0, fun i hi => absurd hi (by omega), rfl, rfl, fun i hi => absurd hi (by omega), ⟨rfl, rfl⟩, hE, hr, hv⟩ ?_ ?_
  · intro n p hp
    obtain ⟨rk, rb, h1, h2, h3, h4, h5, h6, h7, h8⟩ := hp
    rw [Nat.sub_self] at h6
    obtain ⟨q1, q2⟩ := cn_last good (show best = _ from hbest.symm) hb (by omega) hL h5 h6
    refine pk_le (L - L) 0 (fun _ => H rk rb p.2.2.1 p.2.2.2.1 p.2.2.2.2.1 p.2.2.2.2.2 h1 (by rw [← h2, q1]) (by rw [← h3, q2]) h4) (fun z => absurd z (by omega))
  · intro n j p hj hp hw'
    obtain ⟨at', tm, e18, e19, g, h⟩ := p
    obtain ⟨rk, rb, h1, h2, h3, h4, h5, h6, h7, h8⟩ := hp
    dsimp only at h2 h3 h4 h5 h6 h7 h8
    refine pk_le (L - j) 0 (fun z => absurd z (by omega)) (fun _ => ?_)
    obtain ⟨left, hleft⟩ : ∃ left, L - j = left + 1 := ⟨L - j - 1, by omega⟩
    have hleft' : L - (j + 1) = left := by omega
    rw [hleft] at h6
    have hstep := cn_step good (best := best) hb (by omega) (by omega) hmin (show j + (left + 1) = L by omega) h5 h6
    show wpX_nextContact _ (nI C, fb, fw, nI j, a1, a2, a3, a4, a5, a6, a7, a8, a9, a10, a11, a12, a13, a14, a15, a16, a17, e18, e19, g, h) (nI at') (nI w) (nI tm) (nI s) (nI (L - j)) (nI best)
    rw [hleft]
    refine cn_nextContact hK hC hs hs2 h8 hw (by omega) (by omega) (by omega) hstep (fun k g' h' hk hl => ?_)
    obtain ⟨k2, k3, k4, k5, k6, k7⟩ := hK k hk
    obtain ⟨l1, l2, l3⟩ := hl
    have hrt := cn_rt_in (Y k)
    have p1 := cn_tk_pos hs hrt.1
    have p2 := cn_tk_le hs hrt.1
    have ec : (nI k).toNatClampNeg = k := nI_clamp (by omega)
    have ej : (nI j).toNatClampNeg = j := nI_clamp (by omega)
    have ij : vp_in (nI j) 5 := pk_in j 5 (by omega)
    have ik : vp_in (nI k) 10 := pk_in k 10 (by omega)
    rcases cn_ci_cases a1 a8 Y s k tm with e | ⟨c1, c2, t', c3, c4, e⟩
    · omega
    refine cn_ticksFor (by omega) k6 hs hs2 ⟨ij, nm_r (e' := upd e18 j (nI k)) (by rw [ej]) ?_⟩
    refine cn_firstBegin (y := Y k) (r := tm) (by omega) (by omega) p1 (by omega) k4 k5 (fun hno => absurd c3 (hno t')) (fun t t1 t2 => ?_)
    have ett : t = t' := by
      rcases Nat.lt_trichotomy t t' with z | z | z
      · exact absurd t1 (c4 t z)
      · exact z
      · exact absurd c3 (t2 t' z)
    subst ett
    refine ⟨ij, nm_r (e' := upd e19 j (nI t)) (by rw [ej]) ⟨ij, ik, nm_r (e' := nI (cn_ci a1 a8 Y s k tm)) (by rw [ej, pk_us, ec, k7, nI_add, nI_add, e]) ⟨ik, nm_r (e' := nI (cn_to (X k))) (by rw [ec, k3]) (nm_r (nI_1 j) (nm_r (e' := nI (L - (j + 1))) (by rw [hleft']; exact pk_m1 left) ?_))⟩⟩⟩
    refine hw' (cn_to (X k), cn_ci a1 a8 Y s k tm, upd e18 j (nI k), upd e19 j (nI t), g', h') ⟨cn_ups rk j k, cn_ups rb j t, ?_, ?_, ?_, ?_, ?_, ?_, l2, cn_to_lt _⟩
    · intro i hi
      by_cases ei : i = j
      · subst ei
        refine ⟨⟨?_, ?_, ?_, ?_, ?_⟩, ?_⟩
        · rw [cn_ups_s]; exact hk
        · rw [cn_ups_s, cn_nd_c (fun i' hi' => cn_ups_n (by omega)), ← h2]; exact l1
        · rw [cn_ups_s, cn_tm_c (fun i' hi' => cn_ups_n (by omega)) (fun i' hi' => cn_ups_n (by omega)), ← h3]; exact t1.1
        · rw [cn_ups_s, cn_ups_s]; exact t1.2.1
        · rw [cn_ups_s, cn_ups_s]; exact t1.2.2.1
        · rw [cn_ups_s, cn_ups_s]; exact t1.2.2.2
      · obtain ⟨r1, r2⟩ := h1 i (by omega)
        refine ⟨cn_hop_c (fun i' hi' => cn_ups_n (by omega)) (fun i' hi' => cn_ups_n (by omega)) r1, ?_⟩
        rw [cn_ups_n ei, cn_ups_n ei]
        exact r2
    · show cn_to (X k) = cn_to (X (cn_ups rk j k j))
      rw [cn_ups_s]
    · show cn_ci a1 a8 Y s k tm = cn_ups rb j t j + cn_tk s (cn_rt (Y (cn_ups rk j k j))) + cn_dl (Y (cn_ups rk j k j))
      rw [cn_ups_s, cn_ups_s, e]
    · intro i hi
      show upd e18 j (nI k) i = nI (cn_ups rk j k i) ∧ upd e19 j (nI t) i = nI (cn_ups rb j t i)
      by_cases ei : i = j
      · rw [ei, pk_us, pk_us, cn_ups_s, cn_ups_s]
        exact ⟨rfl, rfl⟩
      · rw [pk_un ei, pk_un ei, cn_ups_n ei, cn_ups_n ei]
        exact h4 i (by omega)
    · show cn_P C (fun k => cn_fr (X k)) (fun k => cn_to (X k)) (cn_ci a1 a8 Y s) (j + 1) v r (cn_to (X k)) (cn_ci a1 a8 Y s k tm)
      rw [← l1] at h5
      exact cn_P_snoc (fr := fun k => cn_fr (X k)) (to := fun k => cn_to (X k)) hk j v r tm h5 l2
    · show cn_R C X Y a1 a8 s (cn_to (X k)) (cn_ci a1 a8 Y s k tm) (L - (j + 1)) w ≤ best
      rw [hleft']
      exact l3
theorem cn_fr40 {post : Int32 → St1 → Prop} {fb fw fq : Int32} {a1 a2 a3 a4 a5 a6 a7 a8 a9 a10 a11 a12 a13 a14 a15 a16 a17 a18 a19 a20 a21 : Nat → Int32} {X Y : Nat → Int32} {C s v w r : Nat}
    (hK : cn_K X Y C a2 a3 a4 a5 a6 a7) (hC : C ≤ 10) (hs : 1 ≤ s) (hs2 : s ≤ 30) (hv : v < 6) (hw : w < 6) (hvw : v ≠ w) (hr : r < 1000000) (hb : cn_R C X Y a1 a8 s v r 5 w < 1000000)
    (h20 : ∀ x, x < 6 → a20 x = nI (cn_R C X Y a1 a8 s v r 1 x))
    (H : ∀ L rk rb e18 e19 g h, 1 ≤ L → L ≤ 5 → cn_route C X Y a8 s v r rk rb L → cn_nd X v rk L = w → cn_tm Y s r rk rb L = cn_R C X Y a1 a8 s v r 5 w → (∀ i, i < L → e18 i = nI (rk i) ∧ e19 i = nI (rb i)) → post (nI (cn_R C X Y a1 a8 s v r 5 w)) (nI C, fb, fw, nI L, a1, a2, a3, a4, a5, a6, a7, a8, a9, a10, a11, a12, a13, a14, a15, a16, a17, e18, e19, g, h)) :
    ∃ n, wX_findRoute_40 post (nI v) (nI w) (nI r) (nI s) (nI (cn_R C X Y a1 a8 s v r 5 w)) n 1 (nI C) fb fw fq a1 a2 a3 a4 a5 a6 a7 a8 a9 a10 a11 a12 a13 a14 a15 a16 a17 a18 a19 a20 a21 := by
  have ew : (nI w).toNatClampNeg = w := nI_clamp (by omega)
  refine pk_loop (fun n j (p : (Nat → Int32) × (Nat → Int32)) => wX_findRoute_40 post (nI v) (nI w) (nI r) (nI s) (nI (cn_R C X Y a1 a8 s v r 5 w)) n (nI j) (nI C) fb fw fq a1 a2 a3 a4 a5 a6 a7 a8 a9 a10 a11 a12 a13 a14 a15 a16 a17 a18 a19 p.1 p.2)
    (fun j p => 1 ≤ j ∧ (∀ x, x < 6 → p.1 x = nI (cn_R C X Y a1 a8 s v r j x)) ∧ ∀ m, m < j → cn_R C X Y a1 a8 s v r 5 w < cn_R C X Y a1 a8 s v r m w) 5 1 (a20, a21) (by omega) ⟨by omega, h20, fun m hm => ?_⟩ ?_ ?_
  · have : m = 0 := by omega
    subst this
    have e : cn_R C X Y a1 a8 s v r 0 w = 1000000 := if_neg (fun h => hvw h.symm)
    omega
  · intro n p hp
    obtain ⟨h1, h2, h3⟩ := hp
    exact pk_le 5 5 (fun _ => cn_fr88 hK hC hs hs2 hv hw hr (by omega) hb h3 (Nat.le_refl _) (fun rk rb e18 e19 g h => H 5 rk rb e18 e19 g h (by omega) (by omega))) (fun z => absurd z (by omega))
  · intro n j p hj hp hw'
    obtain ⟨h1, h2, h3⟩ := hp
    have hm := cn_R_max (C := C) (X := X) (Y := Y) (a1 := a1) (a8 := a8) (s := s) (v := v) (show r ≤ 1000000 by omega) j w
    refine pk_le 5 j (fun z => absurd z (by omega)) (fun _ => ⟨pk_in w 6 hw, pk_le (cn_R C X Y a1 a8 s v r j w) (cn_R C X Y a1 a8 s v r 5 w) (fun z => ?_) (fun z => nm_r (nI_1 j) ?_) (by rw [ew]; exact h2 w hw)⟩)
    · exact cn_fr88 hK hC hs hs2 hv hw hr (by omega) hb h3 z (fun rk rb e18 e19 g h => H j rk rb e18 e19 g h h1 (by omega))
    · refine cn_spread hK hC hs hs2 (by omega) (by omega) hv (fun g h hg => ?_)
      exact hw' (g, h) ⟨by omega, hg, lt_s h3 z⟩
theorem cn_findRoute {post : Int32 → St1 → Prop} {fb fw fq : Int32} {a1 a2 a3 a4 a5 a6 a7 a8 a9 a10 a11 a12 a13 a14 a15 a16 a17 a18 a19 a20 a21 : Nat → Int32} {X Y : Nat → Int32} {C s v w r : Nat}
    (hK : cn_K X Y C a2 a3 a4 a5 a6 a7) (hC : C ≤ 10) (hs : 1 ≤ s) (hs2 : s ≤ 30) (hv : v < 6) (hw : w < 6) (hvw : v ≠ w) (hr : r < 1000000)
    (H0 : cn_R C X Y a1 a8 s v r 5 w = 1000000 → ∀ g h, post 1000000 (nI C, fb, fw, fq, a1, a2, a3, a4, a5, a6, a7, a8, a9, a10, a11, a12, a13, a14, a15, a16, a17, a18, a19, g, h))
    (H : cn_R C X Y a1 a8 s v r 5 w < 1000000 → ∀ L rk rb e18 e19 g h, 1 ≤ L → L ≤ 5 → cn_route C X Y a8 s v r rk rb L → cn_nd X v rk L = w → cn_tm Y s r rk rb L = cn_R C X Y a1 a8 s v r 5 w → (∀ i, i < L → e18 i = nI (rk i) ∧ e19 i = nI (rb i)) → post (nI (cn_R C X Y a1 a8 s v r 5 w)) (nI C, fb, fw, nI L, a1, a2, a3, a4, a5, a6, a7, a8, a9, a10, a11, a12, a13, a14, a15, a16, a17, e18, e19, g, h)) :
    wpX_findRoute post (nI C, fb, fw, fq, a1, a2, a3, a4, a5, a6, a7, a8, a9, a10, a11, a12, a13, a14, a15, a16, a17, a18, a19, a20, a21) (nI v) (nI w) (nI r) (nI s) := by
  have ew : (nI w).toNatClampNeg = w := nI_clamp (by omega)
  have hm := cn_R_max (C := C) (X := X) (Y := Y) (a1 := a1) (a8 := a8) (s := s) (v := v) (show r ≤ 1000000 by omega) 5 w
  refine cn_spread (m := 5) hK hC hs hs2 (by omega) (by omega) hv (fun g h hg => ?_)
  refine ⟨pk_in w 6 hw, nm_r (e' := nI (cn_R C X Y a1 a8 s v r 5 w)) (by rw [ew]; exact hg w hw) (pk_lt (cn_R C X Y a1 a8 s v r 5 w) 1000000 (fun z => ?_) (fun z => H0 (by omega) g h))⟩
  refine cn_spread (m := 1) hK hC hs hs2 (by omega) (by omega) hv (fun g' h' hg' => ?_)
  exact cn_fr40 hK hC hs hs2 hv hw hvw hr z hg' (H z)
end
section
/-! hops of the bundles, and how often a tick of a contact is covered by them -/
def cn_sum (f : Nat → Nat) : Nat → Nat
  | 0 => 0
  | n + 1 => cn_sum f n + f n
theorem cn_sum_c {f g : Nat → Nat} {n : Nat} (h : ∀ i, i < n → f i = g i) : cn_sum f n = cn_sum g n := by
  induction n with
  | zero => rfl
  | succ n ih =>
    show cn_sum f n + f n = cn_sum g n + g n
    rw [ih (fun i hi => h i (by omega)), h n (by omega)]
theorem cn_sum_up {f g : Nat → Nat} {n b d : Nat} (hb : b < n) (h : ∀ i, i < n → i ≠ b → g i = f i) (hd : g b = f b + d) : cn_sum g n = cn_sum f n + d := by
  induction n with
  | zero => omega
  | succ n ih =>
    show cn_sum g n + g n = cn_sum f n + f n + d
    by_cases e : b = n
    · subst e
      rw [cn_sum_c (f := g) (g := f) (fun i hi => h i (by omega) (by omega)), hd]
      omega
    · rw [ih (by omega) (fun i hi => h i (by omega)), h n (by omega) (by omega)]
      omega
theorem cn_sum_le {f : Nat → Nat} {n m : Nat} (h : n ≤ m) : cn_sum f n ≤ cn_sum f m := by
  induction m with
  | zero => rw [show n = 0 by omega]; exact Nat.le_refl _
  | succ m ih =>
    by_cases e : n = m + 1
    · rw [e]; exact Nat.le_refl _
    · have := ih (by omega)
      show cn_sum f n ≤ cn_sum f m + f m
      omega
theorem cn_sum_0 {f : Nat → Nat} {n : Nat} (h : ∀ i, i < n → f i = 0) : cn_sum f n = 0 := by
  induction n with
  | zero => rfl
  | succ n ih =>
    show cn_sum f n + f n = 0
    rw [ih (fun i hi => h i (by omega)), h n (by omega)]
theorem cn_sum_add (f g : Nat → Nat) (n : Nat) : cn_sum (fun i => f i + g i) n = cn_sum f n + cn_sum g n := by
  induction n with
  | zero => rfl
  | succ n ih =>
    show cn_sum (fun i => f i + g i) n + (f n + g n) = cn_sum f n + f n + (cn_sum g n + g n)
    rw [ih]
    omega
/-- sums may be swapped -/
theorem cn_sum_swap (f : Nat → Nat → Nat) (n m : Nat) : cn_sum (fun i => cn_sum (f i) m) n = cn_sum (fun j => cn_sum (fun i => f i j) n) m := by
  induction n with
  | zero => exact (cn_sum_0 (fun i _ => rfl)).symm
  | succ n ih =>
    show cn_sum (fun i => cn_sum (f i) m) n + cn_sum (f n) m = cn_sum (fun j => cn_sum (fun i => f i j) n + f n j) m
    rw [cn_sum_add, ih]
/-- a hop on contact k, from b on, for n ticks: does it cover tick t of contact k' -/
def cn_iv (k b n k' t : Nat) : Nat := if k = k' ∧ b ≤ t ∧ t < b + n then 1 else 0
theorem cn_iv_1 {k b n k' t : Nat} (h : k = k' ∧ b ≤ t ∧ t < b + n) : cn_iv k b n k' t = 1 := if_pos h
theorem cn_iv_0 {k b n k' t : Nat} (h : ¬ (k = k' ∧ b ≤ t ∧ t < b + n)) : cn_iv k b n k' t = 0 := if_neg h
theorem cn_iv_le (k b n k' t : Nat) : cn_iv k b n k' t ≤ 1 := by
  unfold cn_iv
  split <;> omega
/-- all the ticks of one hop -/
theorem cn_iv_sum {k b n : Nat} : ∀ m, cn_sum (fun t => cn_iv k b n k t) m = min (m - b) n := by
  intro m
  induction m with
  | zero => show 0 = min (0 - b) n; omega
  | succ m ih =>
    show cn_sum (fun t => cn_iv k b n k t) m + cn_iv k b n k m = min (m + 1 - b) n
    rw [ih]
    by_cases h : b ≤ m ∧ m < b + n
    · rw [cn_iv_1 ⟨rfl, h⟩]
      omega
    · rw [cn_iv_0 (fun z => h z.2)]
      omega
theorem cn_iv_sum0 {k b n k' : Nat} (h : k ≠ k') (m : Nat) : cn_sum (fun t => cn_iv k b n k' t) m = 0 := cn_sum_0 (fun t _ => cn_iv_0 (fun z => h z.1))
def cn_cb (Y : Nat → Int32) (s : Nat) (rk rb : Nat → Nat) (n k t : Nat) : Nat := cn_sum (fun i => cn_iv (rk i) (rb i) (cn_tk s (cn_rt (Y (rk i)))) k t) n
def cn_cv (Y V : Nat → Int32) (hc : Nat → Nat) (hk hb : Nat → Nat → Nat) (B k t : Nat) : Nat := cn_sum (fun b => cn_cb Y (cn_sz (V b)) (hk b) (hb b) (hc b) k t) B
theorem cn_cb_c {Y : Nat → Int32} {s : Nat} {rk rk' rb rb' : Nat → Nat} {n : Nat} (h : ∀ i, i < n → rk' i = rk i ∧ rb' i = rb i ∧ True) (k t : Nat) : cn_cb Y s rk' rb' n k t = cn_cb Y s rk rb n k t :=
  cn_sum_c (fun i hi => by rw [(h i hi).1, (h i hi).2.1])
theorem cn_cb_Y {Y Y' : Nat → Int32} {s : Nat} {rk rb : Nat → Nat} {n : Nat} (h : ∀ i, i < n → Y' (rk i) = Y (rk i)) (k t : Nat) : cn_cb Y' s rk rb n k t = cn_cb Y s rk rb n k t :=
  cn_sum_c (fun i hi => by rw [h i hi])
/-- the hops of all bundles are rows of hops, and no tick is covered twice -/
def cn_W (X Y U V : Nat → Int32) (C B : Nat) (hc : Nat → Nat) (hk hb : Nat → Nat → Nat) : Prop :=
  (∀ b, b < B → ∀ i, i < hc b → cn_hop C X Y (cn_sz (V b)) (cn_fr (U b)) 0 (hk b) (hb b) i) ∧ (∀ k t, cn_cv Y V hc hk hb B k t ≤ 1)
theorem cn_tm_ge {C : Nat} {X Y : Nat → Int32} {s v r : Nat} {rk rb : Nat → Nat} {n : Nat} (hs : 1 ≤ s) (h : ∀ i, i < n → cn_hop C X Y s v r rk rb i) : ∀ i, i ≤ n → i ≤ cn_tm Y s r rk rb i := by
  intro i
  induction i with
  | zero => exact fun _ => Nat.zero_le _
  | succ i ih =>
    intro hi
    have h1 := ih (by omega)
    have h2 := (h i (by omega)).2.2.1
    have h3 := cn_tk_pos hs (cn_rt_in (Y (rk i))).1
    show i + 1 ≤ rb i + cn_tk s (cn_rt (Y (rk i))) + cn_dl (Y (rk i))
    omega
theorem cn_hop_i {C : Nat} {X Y : Nat → Int32} {s v r : Nat} {rk rb : Nat → Nat} {n i : Nat} (hs : 1 ≤ s) (h : ∀ i, i < n → cn_hop C X Y s v r rk rb i) (hi : i < n) : i ≤ rb i ∧ rb i ≤ 94 := by
  have h1 := cn_tm_ge hs h i (by omega)
  obtain ⟨_, _, h2, _, h3⟩ := h i hi
  have h4 := cn_tk_pos hs (cn_rt_in (Y (rk i))).1
  have h5 := (cn_en_lt (Y (rk i))).2
  omega
theorem cn_hop_n {C : Nat} {X Y : Nat → Int32} {s v r : Nat} {rk rb : Nat → Nat} {n : Nat} (hs : 1 ≤ s) (h : ∀ i, i < n → cn_hop C X Y s v r rk rb i) : n ≤ 95 := by
  cases n with
  | zero => omega
  | succ n =>
    have := cn_hop_i hs h (show n < n + 1 by omega)
    omega
theorem cn_tm_lt {C : Nat} {X Y : Nat → Int32} {s v r : Nat} {rk rb : Nat → Nat} {n : Nat} (h : ∀ i, i < n → cn_hop C X Y s v r rk rb i) (hn : 0 < n) : cn_tm Y s r rk rb n ≤ 102 := by
  cases n with
  | zero => omega
  | succ n =>
    obtain ⟨_, _, _, _, h3⟩ := h n (by omega)
    have h5 := (cn_en_lt (Y (rk n))).2
    have h6 := cn_dl_lt (Y (rk n))
    show rb n + cn_tk s (cn_rt (Y (rk n))) + cn_dl (Y (rk n)) ≤ 102
    omega
theorem cn_W_n {X Y U V : Nat → Int32} {C B b : Nat} {hc : Nat → Nat} {hk hb : Nat → Nat → Nat} (h : cn_W X Y U V C B hc hk hb) (hB : b < B) : hc b ≤ 95 := cn_hop_n (cn_sz_in (V b)).1 (h.1 b hB)
/-- the cover with one more hop -/
theorem cn_cv_add {Y V : Nat → Int32} {hc : Nat → Nat} {hk hb : Nat → Nat → Nat} {B b n : Nat} (hB : b < B) (hn : hc b = n) (k t : Nat) : cn_cv Y V (cn_ups hc b (n + 1)) hk hb B k t = cn_cv Y V hc hk hb B k t + cn_iv (hk b n) (hb b n) (cn_tk (cn_sz (V b)) (cn_rt (Y (hk b n)))) k t := by
  refine cn_sum_up hB (fun i hi e => ?_) ?_
  · show cn_cb Y (cn_sz (V i)) (hk i) (hb i) (cn_ups hc b (n + 1) i) k t = _
    rw [cn_ups_n e]
  · show cn_cb Y (cn_sz (V b)) (hk b) (hb b) (cn_ups hc b (n + 1) b) k t = cn_cb Y (cn_sz (V b)) (hk b) (hb b) (hc b) k t + _
    rw [cn_ups_s, hn]
    rfl
/-- one more hop -/
theorem cn_W_add {X Y U V : Nat → Int32} {C B b n : Nat} {hc : Nat → Nat} {hk hb : Nat → Nat → Nat} (h : cn_W X Y U V C B hc hk hb) (hB : b < B) (hn : hc b = n) (hh : cn_hop C X Y (cn_sz (V b)) (cn_fr (U b)) 0 (hk b) (hb b) n)
    (hf : ∀ t, hb b n ≤ t → t < hb b n + cn_tk (cn_sz (V b)) (cn_rt (Y (hk b n))) → cn_cv Y V hc hk hb B (hk b n) t = 0) : cn_W X Y U V C B (cn_ups hc b (n + 1)) hk hb := by
  refine ⟨fun b' hb' i hi => ?_, fun k t => ?_⟩
  · by_cases e : b' = b
    · subst e
      rw [cn_ups_s] at hi
      by_cases ei : i = n
      · rw [ei]; exact hh
      · exact h.1 b' hb' i (by omega)
    · rw [cn_ups_n e] at hi
      exact h.1 b' hb' i hi
  · rw [cn_cv_add hB hn]
    by_cases z : hk b n = k ∧ hb b n ≤ t ∧ t < hb b n + cn_tk (cn_sz (V b)) (cn_rt (Y (hk b n)))
    · have := hf t z.2.1 z.2.2
      rw [z.1] at this
      rw [this]
      have := cn_iv_le (hk b n) (hb b n) (cn_tk (cn_sz (V b)) (cn_rt (Y (hk b n)))) k t
      omega
    · rw [cn_iv_0 z]
      exact h.2 k t
/-- other hops behind the counts change nothing -/
theorem cn_cv_c {Y V : Nat → Int32} {hc : Nat → Nat} {hk hk' hb hb' : Nat → Nat → Nat} {B : Nat} (h : ∀ b, b < B → ∀ i, i < hc b → hk' b i = hk b i ∧ hb' b i = hb b i) (k t : Nat) : cn_cv Y V hc hk' hb' B k t = cn_cv Y V hc hk hb B k t :=
  cn_sum_c (fun b hb => cn_cb_c (fun i hi => ⟨(h b hb i hi).1, (h b hb i hi).2, trivial⟩) k t)
theorem cn_W_c {X Y U V : Nat → Int32} {C B : Nat} {hc : Nat → Nat} {hk hk' hb hb' : Nat → Nat → Nat} (h : ∀ b, b < B → ∀ i, i < hc b → hk' b i = hk b i ∧ hb' b i = hb b i) (hW : cn_W X Y U V C B hc hk hb) : cn_W X Y U V C B hc hk' hb' :=
  ⟨fun b hB i hi => cn_hop_c (fun j hj => (h b hB j (by omega)).1) (fun j hj => (h b hB j (by omega)).2) (hW.1 b hB i hi), fun k t => by rw [cn_cv_c h]; exact hW.2 k t⟩
/-- fewer hops -/
theorem cn_cv_less {Y V : Nat → Int32} {hc : Nat → Nat} {hk hb : Nat → Nat → Nat} {B b n : Nat} (hB : b < B) (hn : n ≤ hc b) (k t : Nat) : cn_cv Y V hc hk hb B k t = cn_cv Y V (cn_ups hc b n) hk hb B k t + (cn_cb Y (cn_sz (V b)) (hk b) (hb b) (hc b) k t - cn_cb Y (cn_sz (V b)) (hk b) (hb b) n k t) := by
  refine cn_sum_up hB (fun i hi e => ?_) ?_
  · show _ = cn_cb Y (cn_sz (V i)) (hk i) (hb i) (cn_ups hc b n i) k t
    rw [cn_ups_n e]
  · show cn_cb Y (cn_sz (V b)) (hk b) (hb b) (hc b) k t = cn_cb Y (cn_sz (V b)) (hk b) (hb b) (cn_ups hc b n b) k t + _
    rw [cn_ups_s]
    have : cn_cb Y (cn_sz (V b)) (hk b) (hb b) n k t ≤ cn_cb Y (cn_sz (V b)) (hk b) (hb b) (hc b) k t := cn_sum_le hn
    omega
theorem cn_W_less {X Y U V : Nat → Int32} {C B b n : Nat} {hc : Nat → Nat} {hk hb : Nat → Nat → Nat} (h : cn_W X Y U V C B hc hk hb) (hB : b < B) (hn : n ≤ hc b) : cn_W X Y U V C B (cn_ups hc b n) hk hb := by
  refine ⟨fun b' hb' i hi => ?_, fun k t => ?_⟩
  · by_cases e : b' = b
    · subst e
      rw [cn_ups_s] at hi
      exact h.1 b' hb' i (by omega)
    · rw [cn_ups_n e] at hi
      exact h.1 b' hb' i hi
  · have h1 := h.2 k t
    rw [cn_cv_less hB hn] at h1
    omega
/-- the arrays hold the picture -/
def cn_H (Y V : Nat → Int32) (B : Nat) (hc : Nat → Nat) (hk hb : Nat → Nat → Nat) (a8 a15 a16 a17 : Nat → Int32) : Prop :=
  (∀ b, b < B → a15 b = nI (hc b) ∧ ∀ i, i < hc b → a16 (100 * b + i) = nI (hk b i) ∧ a17 (100 * b + i) = nI (hb b i)) ∧ (∀ k t, k < 10 → t < 101 → a8 (101 * k + t) = nI (cn_cv Y V hc hk hb B k t))
def cn_S (U V : Nat → Int32) (B : Nat) (a9 a10 a11 a12 : Nat → Int32) : Prop := ∀ b, b < B → a9 b = nI (cn_fr (U b)) ∧ a10 b = nI (cn_to (U b)) ∧ a11 b = nI (cn_sz (V b)) ∧ a12 b = nI (cn_lm (V b))
theorem cn_H_c {Y V : Nat → Int32} {B : Nat} {hc : Nat → Nat} {hk hk' hb hb' : Nat → Nat → Nat} {a8 a15 a16 a17 : Nat → Int32} (h : ∀ b, b < B → ∀ i, i < hc b → hk' b i = hk b i ∧ hb' b i = hb b i) (hH : cn_H Y V B hc hk hb a8 a15 a16 a17) : cn_H Y V B hc hk' hb' a8 a15 a16 a17 :=
  ⟨fun b hB => ⟨(hH.1 b hB).1, fun i hi => by rw [(h b hB i hi).1, (h b hB i hi).2]; exact (hH.1 b hB).2 i hi⟩, fun k t h1 h2 => by rw [cn_cv_c h]; exact hH.2 k t h1 h2⟩
/-- a run of n places from p on is filled with x -/
def cn_fill (a : Nat → Int32) (p n : Nat) (x : Int32) : Nat → Int32 := fun j => if p ≤ j ∧ j < p + n then x else a j
theorem cn_fill_0 (a : Nat → Int32) (p : Nat) (x : Int32) : cn_fill a p 0 x = a := by
  funext j
  exact if_neg (by omega)
theorem cn_fill_s (a : Nat → Int32) (p n : Nat) (x : Int32) : upd (cn_fill a p n x) (p + n) x = cn_fill a p (n + 1) x := by
  funext j
  by_cases e : j = p + n
  · rw [e, pk_us]
    exact (if_pos (by omega)).symm
  · rw [pk_un e]
    unfold cn_fill
    by_cases h : p ≤ j ∧ j < p + n
    · rw [if_pos h, if_pos (by omega)]
    · rw [if_neg h, if_neg (by omega)]
theorem cn_fill_in {a : Nat → Int32} {p n j : Nat} {x : Int32} (h : p ≤ j ∧ j < p + n) : cn_fill a p n x j = x := if_pos h
theorem cn_fill_out {a : Nat → Int32} {p n j : Nat} {x : Int32} (h : ¬ (p ≤ j ∧ j < p + n)) : cn_fill a p n x j = a j := if_neg h
/-- the arrays with one more hop -/
theorem cn_H_add {X Y U V : Nat → Int32} {C B b n : Nat} {hc : Nat → Nat} {hk hb : Nat → Nat → Nat} {a8 a15 a16 a17 : Nat → Int32} (hW : cn_W X Y U V C B hc hk hb) (hH : cn_H Y V B hc hk hb a8 a15 a16 a17) (hB : b < B) (hn : hc b = n) (hn2 : n < 100) (he : hb b n + cn_tk (cn_sz (V b)) (cn_rt (Y (hk b n))) ≤ 101)
    (hf : ∀ t, hb b n ≤ t → t < hb b n + cn_tk (cn_sz (V b)) (cn_rt (Y (hk b n))) → cn_cv Y V hc hk hb B (hk b n) t = 0) :
    cn_H Y V B (cn_ups hc b (n + 1)) hk hb (cn_fill a8 (101 * hk b n + hb b n) (cn_tk (cn_sz (V b)) (cn_rt (Y (hk b n)))) 1) (upd a15 b (nI (n + 1))) (upd a16 (100 * b + n) (nI (hk b n))) (upd a17 (100 * b + n) (nI (hb b n))) := by
  refine ⟨fun b' hB' => ?_, fun k t h1 h2 => ?_⟩
  · by_cases e : b' = b
    · subst e
      rw [cn_ups_s]
      refine ⟨pk_us, fun i hi => ?_⟩
      by_cases ei : i = n
      · rw [ei, pk_us, pk_us]
        exact ⟨rfl, rfl⟩
      · rw [pk_un (by omega), pk_un (by omega)]
        exact (hH.1 b' hB').2 i (by omega)
    · rw [cn_ups_n e]
      have h95 := cn_W_n hW hB'
      refine ⟨by rw [pk_un e]; exact (hH.1 b' hB').1, fun i hi => ?_⟩
      rw [pk_un (by omega), pk_un (by omega)]
      exact (hH.1 b' hB').2 i hi
  · rw [cn_cv_add hB hn]
    by_cases z : hk b n = k ∧ hb b n ≤ t ∧ t < hb b n + cn_tk (cn_sz (V b)) (cn_rt (Y (hk b n)))
    · rw [cn_iv_1 z, cn_fill_in (by omega)]
      have := hf t z.2.1 z.2.2
      rw [z.1] at this
      rw [this]
      rfl
    · rw [cn_iv_0 z, cn_fill_out (by omega)]
      exact hH.2 k t h1 h2
end
section
/-! bookings; plan -/
def cn_I (X Y U V : Nat → Int32) (C B : Nat) (hc : Nat → Nat) (hk hb : Nat → Nat → Nat) (a2 a3 a4 a5 a6 a7 a8 a9 a10 a11 a12 a15 a16 a17 : Nat → Int32) : Prop :=
  C ≤ 10 ∧ B ≤ 10 ∧ cn_K X Y C a2 a3 a4 a5 a6 a7 ∧ cn_S U V B a9 a10 a11 a12 ∧ cn_W X Y U V C B hc hk hb ∧ cn_H Y V B hc hk hb a8 a15 a16 a17
theorem cn_setBusy {post : St1 → Prop} {fc fb fw fq : Int32} {a1 a2 a3 a4 a5 a6 a7 a8 a9 a10 a11 a12 a13 a14 a15 a16 a17 a18 a19 a20 a21 : Nat → Int32} {k t n : Nat} {v : Int32} (hv : vp_nar .boolean v = v) (hk : k < 10) (ht : t + n ≤ 101) (H : post (fc, fb, fw, fq, a1, a2, a3, a4, a5, a6, a7, cn_fill a8 (101 * k + t) n v, a9, a10, a11, a12, a13, a14, a15, a16, a17, a18, a19, a20, a21)) : wpX_setBusy post (fc, fb, fw, fq, a1, a2, a3, a4, a5, a6, a7, a8, a9, a10, a11, a12, a13, a14, a15, a16, a17, a18, a19, a20, a21) (nI k) (nI t) (nI n) v := by
  refine pk_loop (fun m i (g : Nat → Int32) => wX_setBusy_3 post (nI k) (nI t) (nI n) v fc fb fw fq m (nI i) a1 a2 a3 a4 a5 a6 a7 g a9 a10 a11 a12 a13 a14 a15 a16 a17 a18 a19 a20 a21) (fun i g => t ≤ i ∧ g = cn_fill a8 (101 * k + t) (i - t) v) (t + n) t a8 (by omega) ⟨Nat.le_refl _, by rw [Nat.sub_self, cn_fill_0]⟩ ?_ ?_
  · intro m g hg
    obtain ⟨_, hg⟩ := hg
    rw [show t + n - t = n by omega] at hg
    subst hg
    exact pk_le (t + n) (t + n) (fun _ => H) (fun z => absurd z (by omega)) (nI_add t n)
  · intro m i g hi hg hw
    obtain ⟨hti, hg⟩ := hg
    have e : ((101 : Int32) * nI k + nI i).toNatClampNeg = 101 * k + i := by rw [cn_i101]; exact nI_clamp (by omega)
    refine pk_le (t + n) i (fun z => absurd z (by omega)) (fun _ => ⟨pk_in (101 * k + i) 1010 (by omega) (cn_i101 k i), nm_r (e' := upd g (101 * k + i) v) (by rw [e, hv]) (nm_r (nI_1 i) (hw _ ⟨by omega, ?_⟩))⟩) (nI_add t n)
    rw [hg, show i + 1 - t = (i - t) + 1 by omega, ← cn_fill_s, show 101 * k + t + (i - t) = 101 * k + i by omega]
theorem cn_comesInBy {post : Int32 → Prop} {fc fb fw fq : Int32} {a1 a2 a3 a4 a5 a6 a7 a8 a9 a10 a11 a12 a13 a14 a15 a16 a17 a18 a19 a20 a21 : Nat → Int32} {X Y U V : Nat → Int32} {C B b i : Nat} {hc : Nat → Nat} {hk hb : Nat → Nat → Nat} (hI : cn_I X Y U V C B hc hk hb a2 a3 a4 a5 a6 a7 a8 a9 a10 a11 a12 a15 a16 a17) (hB : b < B) (hi : i < hc b)
    (hp : post (nI (cn_tm Y (cn_sz (V b)) 0 (hk b) (hb b) (i + 1)))) : wpX_comesInBy post (fc, fb, fw, fq, a1, a2, a3, a4, a5, a6, a7, a8, a9, a10, a11, a12, a13, a14, a15, a16, a17, a18, a19, a20, a21) (nI b) (nI i) := by
  obtain ⟨hC, hB10, hK, hS, hW, hH⟩ := hI
  have h95 := cn_W_n hW hB
  obtain ⟨s9, s10, s11, s12⟩ := hS b hB
  obtain ⟨h15, h1617⟩ := hH.1 b hB
  obtain ⟨h16, h17⟩ := h1617 i hi
  have hkC : hk b i < C := (hW.1 b hB i hi).1
  obtain ⟨k2, k3, k4, k5, k6, k7⟩ := hK _ hkC
  have hsz := cn_sz_in (V b)
  have e : ((100 : Int32) * nI b + nI i).toNatClampNeg = 100 * b + i := by rw [cn_i100]; exact nI_clamp (by omega)
  have eb : (nI b).toNatClampNeg = b := nI_clamp (by omega)
  have ek : (nI (hk b i)).toNatClampNeg = hk b i := nI_clamp (by omega)
  refine ⟨pk_in (100 * b + i) 1000 (by omega) (cn_i100 b i), nm_r (e' := nI (hk b i)) (by rw [e]; exact h16) ⟨pk_in (100 * b + i) 1000 (by omega) (cn_i100 b i), pk_in b 10 (by omega), ?_⟩⟩
  rw [eb, s11, e]
  refine cn_ticksFor (by omega) k6 hsz.1 (by omega) ⟨pk_in (hk b i) 10 (by omega), ?_⟩
  rw [h17, ek, k7, nI_add, nI_add]
  exact hp
theorem cn_lastNode {post : Int32 → Prop} {fc fb fw fq : Int32} {a1 a2 a3 a4 a5 a6 a7 a8 a9 a10 a11 a12 a13 a14 a15 a16 a17 a18 a19 a20 a21 : Nat → Int32} {X Y U V : Nat → Int32} {C B b : Nat} {hc : Nat → Nat} {hk hb : Nat → Nat → Nat} (hI : cn_I X Y U V C B hc hk hb a2 a3 a4 a5 a6 a7 a8 a9 a10 a11 a12 a15 a16 a17) (hB : b < B)
    (hp : post (nI (cn_nd X (cn_fr (U b)) (hk b) (hc b)))) : wpX_lastNode post (fc, fb, fw, fq, a1, a2, a3, a4, a5, a6, a7, a8, a9, a10, a11, a12, a13, a14, a15, a16, a17, a18, a19, a20, a21) (nI b) := by
  obtain ⟨hC, hB10, hK, hS, hW, hH⟩ := hI
  have h95 := cn_W_n hW hB
  obtain ⟨s9, s10, s11, s12⟩ := hS b hB
  obtain ⟨h15, h1617⟩ := hH.1 b hB
  have eb : (nI b).toNatClampNeg = b := nI_clamp (by omega)
  have e15 : a15 (nI b).toNatClampNeg = nI (hc b) := by rw [eb]; exact h15
  have ib : vp_in (nI b) 10 := pk_in b 10 (by omega)
  refine ⟨ib, pk_eq (hc b) 0 (fun z => ⟨ib, ?_⟩) (fun z => ?_) e15⟩
  · rw [eb, s9]
    rw [z] at hp
    exact hp
  · obtain ⟨n, hn⟩ : ∃ n, hc b = n + 1 := ⟨hc b - 1, by omega⟩
    obtain ⟨h16, h17⟩ := h1617 n (by omega)
    have hkC : hk b n < C := (hW.1 b hB n (by omega)).1
    obtain ⟨k2, k3, k4, k5, k6, k7⟩ := hK _ hkC
    have ix : ((100 : Int32) * nI b + a15 (nI b).toNatClampNeg) - 1 = nI (100 * b + n) := by rw [e15, hn, cn_i100, ← Nat.add_assoc, nI_pred]
    have ei : (((100 : Int32) * nI b + a15 (nI b).toNatClampNeg) - 1).toNatClampNeg = 100 * b + n := by rw [ix]; exact nI_clamp (by omega)
    have ek : (nI (hk b n)).toNatClampNeg = hk b n := nI_clamp (by omega)
    refine ⟨ib, pk_in (100 * b + n) 1000 (by omega) ix, pk_in (hk b n) 10 (by omega) (by rw [ei]; exact h16), ?_⟩
    rw [ei, h16, ek, k3]
    rw [hn] at hp
    exact hp
theorem cn_ups_ups (f : Nat → Nat) (j x y : Nat) : cn_ups (cn_ups f j x) j y = cn_ups f j y := by
  funext i
  by_cases e : i = j
  · rw [e, cn_ups_s, cn_ups_s]
  · rw [cn_ups_n e, cn_ups_n e, cn_ups_n e]
theorem cn_ups_id {f : Nat → Nat} {j x : Nat} (h : f j = x) : cn_ups f j x = f := by
  funext i
  by_cases e : i = j
  · rw [e, cn_ups_s, h]
  · rw [cn_ups_n e]
theorem cn_pl138 {post : St1 → Prop} {fw : Int32} {a1 a2 a3 a4 a5 a6 a7 a8 a9 a10 a11 a12 a13 a14 a15 a16 a17 a18 a19 a20 a21 : Nat → Int32} {X Y U V : Nat → Int32} {C B b h0 L : Nat} {hc : Nat → Nat} {hk hb : Nat → Nat → Nat} (hI : cn_I X Y U V C B hc hk hb a2 a3 a4 a5 a6 a7 a8 a9 a10 a11 a12 a15 a16 a17) (hB : b < B) (hh0 : hc b = h0) (hL : L ≤ 5)
    (hh : ∀ i, i < h0 + L → cn_hop C X Y (cn_sz (V b)) (cn_fr (U b)) 0 (hk b) (hb b) i)
    (hf : ∀ i, i < L → ∀ t, hb b (h0 + i) ≤ t → t < hb b (h0 + i) + cn_tk (cn_sz (V b)) (cn_rt (Y (hk b (h0 + i)))) → cn_cv Y V hc hk hb B (hk b (h0 + i)) t = 0)
    (h1819 : ∀ i, i < L → a18 i = nI (hk b (h0 + i)) ∧ a19 i = nI (hb b (h0 + i)))
    (H : ∀ b8 b15 b16 b17, cn_I X Y U V C B (cn_ups hc b (h0 + L)) hk hb a2 a3 a4 a5 a6 a7 b8 a9 a10 a11 a12 b15 b16 b17 → post (nI C, nI B, fw, nI L, a1, a2, a3, a4, a5, a6, a7, b8, a9, a10, a11, a12, a13, a14, b15, b16, b17, a18, a19, a20, a21)) :
    ∃ n, wX_plan_138 post (nI b) n 0 (nI C) (nI B) fw (nI L) a1 a2 a3 a4 a5 a6 a7 a8 a9 a10 a11 a12 a13 a14 a15 a16 a17 a18 a19 a20 a21 := by
  obtain ⟨hC, hB10, hK, hS, hW, hH⟩ := hI
  obtain ⟨s9, s10, s11, s12⟩ := hS b hB
  have hsz := cn_sz_in (V b)
  have eb : (nI b).toNatClampNeg = b := nI_clamp (by omega)
  have e11 : a11 (nI b).toNatClampNeg = nI (cn_sz (V b)) := by rw [eb]; exact s11
  have ib : vp_in (nI b) 10 := pk_in b 10 (by omega)
  refine pk_loop (fun n i (p : (Nat → Int32) × (Nat → Int32) × (Nat → Int32) × (Nat → Int32)) => wX_plan_138 post (nI b) n (nI i) (nI C) (nI B) fw (nI L) a1 a2 a3 a4 a5 a6 a7 p.1 a9 a10 a11 a12 a13 a14 p.2.1 p.2.2.1 p.2.2.2 a18 a19 a20 a21)
    (fun i p => cn_W X Y U V C B (cn_ups hc b (h0 + i)) hk hb ∧ cn_H Y V B (cn_ups hc b (h0 + i)) hk hb p.1 p.2.1 p.2.2.1 p.2.2.2 ∧ ∀ k t, cn_tm Y (cn_sz (V b)) 0 (hk b) (hb b) (h0 + i) ≤ t → cn_cv Y V (cn_ups hc b (h0 + i)) hk hb B k t = cn_cv Y V hc hk hb B k t)
    L 0 (a8, a15, a16, a17) (by omega) ?_ ?_ ?_
  · show cn_W X Y U V C B (cn_ups hc b h0) hk hb ∧ cn_H Y V B (cn_ups hc b h0) hk hb a8 a15 a16 a17 ∧ _
    rw [Nat.add_zero, cn_ups_id hh0]
    exact ⟨hW, hH, fun k t _ => rfl⟩
  · intro n p hp
    exact pk_le L L (fun _ => H p.1 p.2.1 p.2.2.1 p.2.2.2 ⟨hC, hB10, hK, hS, hp.1, hp.2.1⟩) (fun z => absurd z (by omega))
  · intro n i p hi hp hw
    obtain ⟨g8, g15, g16, g17⟩ := p
    obtain ⟨w1, w2, w3⟩ := hp
    dsimp only at w2
    have hci : cn_ups hc b (h0 + i) b = h0 + i := cn_ups_s
    have hhi := hh (h0 + i) (by omega)
    have hx := cn_hop_i hsz.1 hh (show h0 + i < h0 + L by omega)
    obtain ⟨q1, q2, q3, q4, q5⟩ := hhi
    have hen := cn_en_lt (Y (hk b (h0 + i)))
    obtain ⟨k2, k3, k4, k5, k6, k7⟩ := hK _ q1
    obtain ⟨r18, r19⟩ := h1819 i hi
    have ei : (nI i).toNatClampNeg = i := nI_clamp (by omega)
    have e15 : g15 (nI b).toNatClampNeg = nI (h0 + i) := by rw [eb, (w2.1 b hB).1, hci]
    have ix : (100 : Int32) * nI b + g15 (nI b).toNatClampNeg = nI (100 * b + (h0 + i)) := by rw [e15, cn_i100]
    have exc : ((100 : Int32) * nI b + g15 (nI b).toNatClampNeg).toNatClampNeg = 100 * b + (h0 + i) := by rw [ix]; exact nI_clamp (by omega)
    have iix : vp_in ((100 : Int32) * nI b + g15 (nI b).toNatClampNeg) 1000 := pk_in (100 * b + (h0 + i)) 1000 (by omega) ix
    have i5 : vp_in (nI i) 5 := pk_in i 5 (by omega)
    have hf' : ∀ t, hb b (h0 + i) ≤ t → t < hb b (h0 + i) + cn_tk (cn_sz (V b)) (cn_rt (Y (hk b (h0 + i)))) → cn_cv Y V (cn_ups hc b (h0 + i)) hk hb B (hk b (h0 + i)) t = 0 := by
      intro t t1 t2
      rw [w3 _ _ (by omega)]
      exact hf i hi t t1 t2
    show wX_plan_138 post (nI b) (n + 1) (nI i) (nI C) (nI B) fw (nI L) a1 a2 a3 a4 a5 a6 a7 g8 a9 a10 a11 a12 a13 a14 g15 g16 g17 a18 a19 a20 a21
    refine pk_le L i (fun z => absurd z (by omega)) (fun _ => ⟨ib, pk_le 100 (h0 + i) (fun z => absurd z (by omega)) (fun _ => ⟨i5, nm_r (e' := nI (hk b (h0 + i))) (by rw [ei]; exact r18) ⟨ib, iix, nm_r (e' := upd g16 (100 * b + (h0 + i)) (nI (hk b (h0 + i)))) (by rw [exc]) ⟨ib, i5, iix, nm_r (e' := upd g17 (100 * b + (h0 + i)) (nI (hb b (h0 + i)))) (by rw [exc, ei, r19]) ⟨ib, ib, nm_r (e' := upd g15 b (nI (h0 + i + 1))) (by rw [e15, eb, nI_1]) ⟨ib, ?_⟩⟩⟩⟩⟩) rfl e15⟩)
    rw [e11]
    refine cn_ticksFor (by omega) k6 hsz.1 (by omega) ⟨i5, ?_⟩
    rw [ei, r19]
    refine cn_setBusy (v := 1) rfl (by omega) (by omega) (nm_r (nI_1 i) (hw (_, _, _, _) ⟨?_, ?_, ?_⟩))
    · have := cn_W_add w1 hB hci (hh (h0 + i) (by omega)) hf'
      rw [cn_ups_ups] at this
      exact this
    · have := cn_H_add w1 w2 hB hci (by omega) (by omega) hf'
      rw [cn_ups_ups] at this
      exact this
    · intro k t ht
      have ht' : hb b (h0 + i) + cn_tk (cn_sz (V b)) (cn_rt (Y (hk b (h0 + i)))) + cn_dl (Y (hk b (h0 + i))) ≤ t := ht
      have h1 := cn_cv_add (Y := Y) (V := V) (hk := hk) (hb := hb) hB hci k t
      rw [cn_ups_ups, cn_iv_0 (by omega), w3 k t (by omega)] at h1
      exact h1
/-- two rows of hops, one behind the other -/
def cn_cat (f : Nat → Nat) (n : Nat) (g : Nat → Nat) : Nat → Nat := fun j => if j < n then f j else g (j - n)
theorem cn_cat_l {f g : Nat → Nat} {n j : Nat} (h : j < n) : cn_cat f n g j = f j := if_pos h
theorem cn_cat_r {f g : Nat → Nat} {n j : Nat} : cn_cat f n g (n + j) = g j := by
  unfold cn_cat
  rw [if_neg (by omega), show n + j - n = j by omega]
theorem cn_cat_nd {X : Nat → Int32} {v : Nat} {f g : Nat → Nat} {n : Nat} (j : Nat) : cn_nd X v (cn_cat f n g) (n + j) = cn_nd X (cn_nd X v f n) g j := by
  cases j with
  | zero => exact cn_nd_c (fun i hi => cn_cat_l hi)
  | succ j =>
    show cn_to (X (cn_cat f n g (n + j))) = cn_to (X (g j))
    rw [cn_cat_r]
theorem cn_cat_tm {Y : Nat → Int32} {s r r' : Nat} {f g fb gb : Nat → Nat} {n : Nat} (j : Nat) : cn_tm Y s r (cn_cat f n g) (cn_cat fb n gb) (n + (j + 1)) = cn_tm Y s r' g gb (j + 1) := by
  show cn_cat fb n gb (n + j) + cn_tk s (cn_rt (Y (cn_cat f n g (n + j)))) + cn_dl (Y (cn_cat f n g (n + j))) = gb j + cn_tk s (cn_rt (Y (g j))) + cn_dl (Y (g j))
  rw [cn_cat_r, cn_cat_r]
theorem cn_cat_hop {C : Nat} {X Y : Nat → Int32} {s v r : Nat} {f g fb gb : Nat → Nat} {n j : Nat} (hr : cn_tm Y s 0 f fb n ≤ r) (h : cn_hop C X Y s (cn_nd X v f n) r g gb j) : cn_hop C X Y s v 0 (cn_cat f n g) (cn_cat fb n gb) (n + j) := by
  obtain ⟨h1, h2, h3, h4, h5⟩ := h
  unfold cn_hop
  rw [cn_cat_nd, cn_cat_r, cn_cat_r]
  refine ⟨h1, h2, ?_, h4, h5⟩
  cases j with
  | zero =>
    have e : cn_tm Y s 0 (cn_cat f n g) (cn_cat fb n gb) (n + 0) = cn_tm Y s 0 f fb n := cn_tm_c (fun i hi => cn_cat_l hi) (fun i hi => cn_cat_l hi)
    rw [e]
    have h3' : r ≤ gb 0 := h3
    omega
  | succ j =>
    rw [cn_cat_tm (r' := r)]
    exact h3
def cn_up2 (f : Nat → Nat → Nat) (b : Nat) (g : Nat → Nat) : Nat → Nat → Nat := fun b' => if b' = b then g else f b'
theorem cn_up2_s {f : Nat → Nat → Nat} {b : Nat} {g : Nat → Nat} : cn_up2 f b g b = g := if_pos rfl
theorem cn_up2_n {f : Nat → Nat → Nat} {b b' : Nat} {g : Nat → Nat} (h : b' ≠ b) : cn_up2 f b g b' = f b' := if_neg h
def cn_done (X U : Nat → Int32) (hc : Nat → Nat) (hk : Nat → Nat → Nat) (b : Nat) : Prop := 0 < hc b ∧ cn_nd X (cn_fr (U b)) (hk b) (hc b) = cn_to (U b)
/-- what plan does -/
def cn_PL (X Y U V : Nat → Int32) (C N b : Nat) (a1 a8 a13 : Nat → Int32) (hc : Nat → Nat) (hk hb : Nat → Nat → Nat) (hc' : Nat → Nat) (hk' hb' : Nat → Nat → Nat) (b13 : Nat → Int32) : Prop :=
  (∀ b', b' ≠ b → b13 b' = a13 b' ∧ hc' b' = hc b' ∧ hk' b' = hk b' ∧ hb' b' = hb b') ∧ (b13 b ≠ 0 → cn_done X U hc' hk' b) ∧
  (hc b = 0 → ((cn_R C X Y a1 a8 (cn_sz (V b)) (cn_fr (U b)) N 5 (cn_to (U b)) < 1000000 ∧ cn_R C X Y a1 a8 (cn_sz (V b)) (cn_fr (U b)) N 5 (cn_to (U b)) ≤ cn_lm (V b)) → b13 b = 1 ∧ cn_tm Y (cn_sz (V b)) 0 (hk' b) (hb' b) (hc' b) = cn_R C X Y a1 a8 (cn_sz (V b)) (cn_fr (U b)) N 5 (cn_to (U b))) ∧
    (¬ (cn_R C X Y a1 a8 (cn_sz (V b)) (cn_fr (U b)) N 5 (cn_to (U b)) < 1000000 ∧ cn_R C X Y a1 a8 (cn_sz (V b)) (cn_fr (U b)) N 5 (cn_to (U b)) ≤ cn_lm (V b)) → b13 b = 0))
theorem cn_pl45 {post : St1 → Prop} {fq : Int32} {a1 a2 a3 a4 a5 a6 a7 a8 a9 a10 a11 a12 a13 a14 a15 a16 a17 a18 a19 a20 a21 : Nat → Int32} {X Y U V : Nat → Int32} {C B N b r : Nat} {hc : Nat → Nat} {hk hb : Nat → Nat → Nat} (hI : cn_I X Y U V C B hc hk hb a2 a3 a4 a5 a6 a7 a8 a9 a10 a11 a12 a15 a16 a17) (hB : b < B) (hr : r < 1000000)
    (hr2 : cn_tm Y (cn_sz (V b)) 0 (hk b) (hb b) (hc b) ≤ r) (hr3 : hc b = 0 → r = N)
    (H : ∀ q b8 b13 b15 b16 b17 b18 b19 b20 b21 hc' hk' hb', cn_I X Y U V C B hc' hk' hb' a2 a3 a4 a5 a6 a7 b8 a9 a10 a11 a12 b15 b16 b17 → cn_PL X Y U V C N b a1 a8 a13 hc hk hb hc' hk' hb' b13 → post (nI C, nI B, nI N, q, a1, a2, a3, a4, a5, a6, a7, b8, a9, a10, a11, a12, b13, a14, b15, b16, b17, b18, b19, b20, b21)) :
    wX_plan_45 post (nI b) (nI r) (nI C) (nI B) (nI N) fq a1 a2 a3 a4 a5 a6 a7 a8 a9 a10 a11 a12 a13 a14 a15 a16 a17 a18 a19 a20 a21 := by
  unfold wX_plan_45
  have hI' := hI
  obtain ⟨hC, hB10, hK, hS, hW, hH⟩ := hI'
  obtain ⟨s9, s10, s11, s12⟩ := hS b hB
  have h95 := cn_W_n hW hB
  have hsz := cn_sz_in (V b)
  have hlm := cn_lm_lt (V b)
  have hto := cn_to_lt (U b)
  have eb : (nI b).toNatClampNeg = b := nI_clamp (by omega)
  have e10 : a10 (nI b).toNatClampNeg = nI (cn_to (U b)) := by rw [eb]; exact s10
  have e11 : a11 (nI b).toNatClampNeg = nI (cn_sz (V b)) := by rw [eb]; exact s11
  have e12 : a12 (nI b).toNatClampNeg = nI (cn_lm (V b)) := by rw [eb]; exact s12
  have e15 : a15 (nI b).toNatClampNeg = nI (hc b) := by rw [eb]; exact (hH.1 b hB).1
  have ib : vp_in (nI b) 10 := pk_in b 10 (by omega)
  have hnd : cn_nd X (cn_fr (U b)) (hk b) (hc b) < 6 := cn_nd_lt (cn_fr_lt _) _
  have e0 : hc b = 0 → cn_R C X Y a1 a8 (cn_sz (V b)) (cn_nd X (cn_fr (U b)) (hk b) (hc b)) r 5 (cn_to (U b)) = cn_R C X Y a1 a8 (cn_sz (V b)) (cn_fr (U b)) N 5 (cn_to (U b)) := by
    intro z
    rw [z, hr3 z]
    rfl
  have oth : ∀ x y : Int32, ∀ b', b' ≠ b → upd (upd a13 b x) b y b' = a13 b' := fun x y b' h => by rw [pk_un h, pk_un h]
  refine cn_lastNode hI hB ⟨ib, nm_r (e' := upd a13 b 0) (by rw [eb]) ⟨ib, pk_eq (cn_nd X (cn_fr (U b)) (hk b) (hc b)) (cn_to (U b)) (fun z => ⟨ib, pk_le (hc b) 0 (fun z0 => ?_) (fun z0 => ⟨ib, nm_r (e' := upd (upd a13 b 0) b 1) (by rw [eb]) ?_⟩) e15⟩) (fun z => ⟨ib, ib, ?_⟩) rfl e10⟩⟩
  · rw [show hc b = 0 by omega] at z
    exact absurd z (cn_ft (U b))
  · refine H fq a8 _ a15 a16 a17 a18 a19 a20 a21 hc hk hb hI ⟨fun b' h => ⟨oth 0 1 b' h, rfl, rfl, rfl⟩, fun _ => ⟨z0, z⟩, fun h => absurd h (by omega)⟩
  · rw [e10, e11]
    refine cn_findRoute hK hC hsz.1 (by omega) hnd hto z hr (fun hnv g h => ?_) (fun hlt L rk rb e18 e19 g h l1 l2 hr1 hr4 hr5 hr6 => ?_)
    · refine br_t (by decide) (H fq a8 _ a15 a16 a17 a18 a19 g h hc hk hb hI ⟨fun b' h => ⟨pk_un h, rfl, rfl, rfl⟩, fun h => absurd pk_us h, fun h => ⟨fun h2 => ?_, fun _ => pk_us⟩⟩)
      rw [e0 h] at hnv
      exact absurd h2.1 (by omega)
    · refine pk_le 1000000 (cn_R C X Y a1 a8 (cn_sz (V b)) (cn_nd X (cn_fr (U b)) (hk b) (hc b)) r 5 (cn_to (U b))) (fun z => absurd z (by omega)) (fun _ => ⟨ib, pk_le (cn_R C X Y a1 a8 (cn_sz (V b)) (cn_nd X (cn_fr (U b)) (hk b) (hc b)) r 5 (cn_to (U b))) (cn_lm (V b)) (fun zl => ⟨ib, nm_r (e' := upd (upd a13 b 0) b 1) (by rw [eb]) ?_⟩) (fun zl => ?_) rfl e12⟩)
      · have hcl : ∀ b', b' < B → ∀ i, i < hc b' → cn_up2 hk b (cn_cat (hk b) (hc b) rk) b' i = hk b' i ∧ cn_up2 hb b (cn_cat (hb b) (hc b) rb) b' i = hb b' i := by
          intro b' hb' i hi
          by_cases e : b' = b
          · subst e
            rw [cn_up2_s, cn_up2_s, cn_cat_l hi, cn_cat_l hi]
            exact ⟨rfl, rfl⟩
          · rw [cn_up2_n e, cn_up2_n e]
            exact ⟨rfl, rfl⟩
        refine cn_pl138 (hk := cn_up2 hk b (cn_cat (hk b) (hc b) rk)) (hb := cn_up2 hb b (cn_cat (hb b) (hc b) rb)) ⟨hC, hB10, hK, hS, cn_W_c hcl hW, cn_H_c hcl hH⟩ hB rfl l2 ?_ ?_ ?_ (fun b8 b15 b16 b17 hI2 => H (nI L) b8 _ b15 b16 b17 e18 e19 g h _ _ _ hI2 ⟨fun b' h => ⟨oth 0 1 b' h, cn_ups_n h, cn_up2_n h, cn_up2_n h⟩, fun _ => ⟨?_, ?_⟩, fun h => ⟨fun _ => ⟨pk_us, ?_⟩, fun h2 => ?_⟩⟩)
        · intro i hi
          rw [cn_up2_s, cn_up2_s]
          by_cases hi2 : i < hc b
          · exact cn_hop_c (fun j hj => cn_cat_l (by omega)) (fun j hj => cn_cat_l (by omega)) (hW.1 b hB i hi2)
          · obtain ⟨j, rfl⟩ : ∃ j, i = hc b + j := ⟨i - hc b, by omega⟩
            exact cn_cat_hop hr2 (hr1 j (by omega)).1
        · intro i hi
          rw [cn_up2_s, cn_up2_s, cn_cat_r, cn_cat_r]
          intro t t1 t2
          rw [cn_cv_c hcl]
          obtain ⟨⟨q1, q2, q3, q4, q5⟩, q6⟩ := hr1 i hi
          have hen := cn_en_lt (Y (rk i))
          have h8 := hH.2 (rk i) t (by omega) (by omega)
          rw [q6 t t1 t2] at h8
          have hle := hW.2 (rk i) t
          exact ((nI_eq (a := 0) (by omega) (by omega)).mp h8).symm
        · intro i hi
          rw [cn_up2_s, cn_up2_s, cn_cat_r, cn_cat_r]
          exact hr6 i hi
        · rw [cn_ups_s]
          omega
        · rw [cn_ups_s, cn_up2_s, cn_cat_nd]
          exact hr4
        · rw [cn_ups_s, cn_up2_s, cn_up2_s]
          obtain ⟨L', rfl⟩ : ∃ L', L = L' + 1 := ⟨L - 1, by omega⟩
          rw [cn_cat_tm (r' := r), hr5]
          exact e0 h
        · rw [← e0 h] at h2
          exact absurd ⟨hlt, zl⟩ h2
      · refine H (nI L) a8 _ a15 a16 a17 e18 e19 g h hc hk hb hI ⟨fun b' h => ⟨pk_un h, rfl, rfl, rfl⟩, fun h => absurd pk_us h, fun h => ⟨fun h2 => ?_, fun _ => pk_us⟩⟩
        rw [← e0 h] at h2
        exact absurd h2.2 (by omega)
theorem cn_plan {post : St1 → Prop} {fq : Int32} {a1 a2 a3 a4 a5 a6 a7 a8 a9 a10 a11 a12 a13 a14 a15 a16 a17 a18 a19 a20 a21 : Nat → Int32} {X Y U V : Nat → Int32} {C B N b : Nat} {hc : Nat → Nat} {hk hb : Nat → Nat → Nat} (hI : cn_I X Y U V C B hc hk hb a2 a3 a4 a5 a6 a7 a8 a9 a10 a11 a12 a15 a16 a17) (hB : b < B) (hN : N ≤ 10000)
    (H : ∀ q b8 b13 b15 b16 b17 b18 b19 b20 b21 hc' hk' hb', cn_I X Y U V C B hc' hk' hb' a2 a3 a4 a5 a6 a7 b8 a9 a10 a11 a12 b15 b16 b17 → cn_PL X Y U V C N b a1 a8 a13 hc hk hb hc' hk' hb' b13 → post (nI C, nI B, nI N, q, a1, a2, a3, a4, a5, a6, a7, b8, a9, a10, a11, a12, b13, a14, b15, b16, b17, b18, b19, b20, b21)) :
    wpX_plan post (nI C, nI B, nI N, fq, a1, a2, a3, a4, a5, a6, a7, a8, a9, a10, a11, a12, a13, a14, a15, a16, a17, a18, a19, a20, a21) (nI b) := by
  have hI' := hI
  obtain ⟨hC, hB10, hK, hS, hW, hH⟩ := hI'
  have h95 := cn_W_n hW hB
  have eb : (nI b).toNatClampNeg = b := nI_clamp (by omega)
  have e15 : a15 (nI b).toNatClampNeg = nI (hc b) := by rw [eb]; exact (hH.1 b hB).1
  have ib : vp_in (nI b) 10 := pk_in b 10 (by omega)
  refine ⟨ib, pk_le (hc b) 0 (fun z => ?_) (fun z => ⟨ib, ?_⟩) e15⟩
  · refine cn_pl45 hI hB (by omega) ?_ (fun _ => rfl) H
    rw [show hc b = 0 by omega]
    exact Nat.zero_le _
  · obtain ⟨n, hn⟩ : ∃ n, hc b = n + 1 := ⟨hc b - 1, by omega⟩
    have htm := cn_tm_lt (hW.1 b hB) (by omega)
    rw [hn] at htm
    rw [e15, hn, nI_pred]
    refine cn_comesInBy hI hB (by omega) (pk_le (cn_tm Y (cn_sz (V b)) 0 (hk b) (hb b) (n + 1)) N (fun z2 => ?_) (fun z2 => ?_))
    · exact cn_pl45 hI hB (by omega) (by rw [hn]; exact z2) (fun h => absurd h (by omega)) H
    · exact cn_pl45 hI hB (by omega) (by rw [hn]; exact Nat.le_refl _) (fun h => absurd h (by omega)) H
end
section
/-! retry, contact, send, cancel -/
/-- every routed bundle is done -/
def cn_Q (X U : Nat → Int32) (B : Nat) (a13 : Nat → Int32) (hc : Nat → Nat) (hk : Nat → Nat → Nat) : Prop := ∀ b, b < B → a13 b ≠ 0 → cn_done X U hc hk b
theorem cn_done_c {X U : Nat → Int32} {hc hc' : Nat → Nat} {hk hk' : Nat → Nat → Nat} {b : Nat} (h1 : hc' b = hc b) (h2 : hk' b = hk b) (h : cn_done X U hc hk b) : cn_done X U hc' hk' b := by
  unfold cn_done
  rw [h1, h2]
  exact h
theorem cn_retry {post : St1 → Prop} {fq : Int32} {a1 a2 a3 a4 a5 a6 a7 a8 a9 a10 a11 a12 a13 a14 a15 a16 a17 a18 a19 a20 a21 : Nat → Int32} {X Y U V : Nat → Int32} {C B N : Nat} {hc : Nat → Nat} {hk hb : Nat → Nat → Nat} (hI : cn_I X Y U V C B hc hk hb a2 a3 a4 a5 a6 a7 a8 a9 a10 a11 a12 a15 a16 a17) (hQ : cn_Q X U B a13 hc hk) (hN : N ≤ 10000)
    (H : ∀ q b8 b13 b15 b16 b17 b18 b19 b20 b21 hc' hk' hb', cn_I X Y U V C B hc' hk' hb' a2 a3 a4 a5 a6 a7 b8 a9 a10 a11 a12 b15 b16 b17 → cn_Q X U B b13 hc' hk' → post (nI C, nI B, nI N, q, a1, a2, a3, a4, a5, a6, a7, b8, a9, a10, a11, a12, b13, a14, b15, b16, b17, b18, b19, b20, b21)) :
    wpX_retry post (nI C, nI B, nI N, fq, a1, a2, a3, a4, a5, a6, a7, a8, a9, a10, a11, a12, a13, a14, a15, a16, a17, a18, a19, a20, a21) := by
  have hB10 := hI.2.1
  refine pk_loop (fun n i (p : Int32 × (Nat → Int32) × (Nat → Int32) × (Nat → Int32) × (Nat → Int32) × (Nat → Int32) × (Nat → Int32) × (Nat → Int32) × (Nat → Int32) × (Nat → Int32)) => wX_retry_2 post n (nI i) (nI C) (nI B) (nI N) p.1 a1 a2 a3 a4 a5 a6 a7 p.2.1 a9 a10 a11 a12 p.2.2.1 a14 p.2.2.2.1 p.2.2.2.2.1 p.2.2.2.2.2.1 p.2.2.2.2.2.2.1 p.2.2.2.2.2.2.2.1 p.2.2.2.2.2.2.2.2.1 p.2.2.2.2.2.2.2.2.2)
    (fun i p => ∃ hc' hk' hb', cn_I X Y U V C B hc' hk' hb' a2 a3 a4 a5 a6 a7 p.2.1 a9 a10 a11 a12 p.2.2.2.1 p.2.2.2.2.1 p.2.2.2.2.2.1 ∧ cn_Q X U B p.2.2.1 hc' hk')
    B 0 (fq, a8, a13, a15, a16, a17, a18, a19, a20, a21) (by omega) ⟨hc, hk, hb, hI, hQ⟩ ?_ ?_
  · intro n p hp
    obtain ⟨hc', hk', hb', h1, h2⟩ := hp
    exact pk_le B B (fun _ => H _ _ _ _ _ _ _ _ _ _ hc' hk' hb' h1 h2) (fun z => absurd z (by omega))
  · intro n i p hi hp hw
    obtain ⟨q, b8, b13, b15, b16, b17, b18, b19, b20, b21⟩ := p
    obtain ⟨hc', hk', hb', h1, h2⟩ := hp
    dsimp only at h1 h2
    refine pk_le B i (fun z => absurd z (by omega)) (fun _ => ⟨pk_in i 10 (by omega), br_c (fun z => ?_) (fun z => nm_r (nI_1 i) (hw (q, b8, b13, b15, b16, b17, b18, b19, b20, b21) ⟨hc', hk', hb', h1, h2⟩))⟩)
    refine cn_plan h1 hi hN (fun q' d8 d13 d15 d16 d17 d18 d19 d20 d21 hc2 hk2 hb2 hI2 hP => nm_r (nI_1 i) (hw (q', d8, d13, d15, d16, d17, d18, d19, d20, d21) ⟨hc2, hk2, hb2, hI2, fun b hb hz => ?_⟩))
    by_cases e : b = i
    · rw [e]
      rw [e] at hz
      exact hP.2.1 hz
    · obtain ⟨p1, p2, p3, p4⟩ := hP.1 b e
      have hz' : d13 b ≠ 0 := hz
      rw [show d13 b = b13 b from p1] at hz'
      exact cn_done_c p2 p3 (h2 b hb hz')
theorem cn_hop_X {C C' : Nat} {X X' Y Y' : Nat → Int32} {s v r : Nat} {rk rb : Nat → Nat} {n i : Nat} (hC : C ≤ C') (hX : ∀ k, k < C → X' k = X k ∧ Y' k = Y k) (h : ∀ j, j < n → cn_hop C X Y s v r rk rb j) (hi : i < n) : cn_hop C' X' Y' s v r rk rb i := by
  have hk : ∀ j, j < n → rk j < C := fun j hj => (h j hj).1
  obtain ⟨h1, h2, h3, h4, h5⟩ := h i hi
  have e1 : cn_nd X' v rk i = cn_nd X v rk i := by
    cases i with
    | zero => rfl
    | succ i =>
      show cn_to (X' (rk i)) = cn_to (X (rk i))
      rw [(hX _ (hk i (by omega))).1]
  have e2 : cn_tm Y' s r rk rb i = cn_tm Y s r rk rb i := by
    cases i with
    | zero => rfl
    | succ i =>
      show rb i + cn_tk s (cn_rt (Y' (rk i))) + cn_dl (Y' (rk i)) = rb i + cn_tk s (cn_rt (Y (rk i))) + cn_dl (Y (rk i))
      rw [(hX _ (hk i (by omega))).2]
  unfold cn_hop
  rw [e1, e2, (hX _ h1).1, (hX _ h1).2]
  exact ⟨by omega, h2, h3, h4, h5⟩
theorem cn_cv_Y {X Y Y' U V : Nat → Int32} {C B : Nat} {hc : Nat → Nat} {hk hb : Nat → Nat → Nat} (hY : ∀ k, k < C → Y' k = Y k) (hW : cn_W X Y U V C B hc hk hb) (k t : Nat) : cn_cv Y' V hc hk hb B k t = cn_cv Y V hc hk hb B k t :=
  cn_sum_c (fun b hb => cn_cb_Y (fun i hi => hY _ (hW.1 b hb i hi).1) k t)
theorem cn_W_X {X X' Y Y' U V : Nat → Int32} {C C' B : Nat} {hc : Nat → Nat} {hk hb : Nat → Nat → Nat} (hC : C ≤ C') (hX : ∀ k, k < C → X' k = X k ∧ Y' k = Y k) (hW : cn_W X Y U V C B hc hk hb) : cn_W X' Y' U V C' B hc hk hb :=
  ⟨fun b hB i hi => cn_hop_X hC hX (hW.1 b hB) hi, fun k t => by rw [cn_cv_Y (fun k hk => (hX k hk).2) hW]; exact hW.2 k t⟩
theorem cn_Q_X {X X' Y U V : Nat → Int32} {C B : Nat} {a13 : Nat → Int32} {hc : Nat → Nat} {hk hb : Nat → Nat → Nat} (hX : ∀ k, k < C → X' k = X k) (hW : cn_W X Y U V C B hc hk hb) (hQ : cn_Q X U B a13 hc hk) : cn_Q X' U B a13 hc hk := by
  intro b hB hz
  obtain ⟨h1, h2⟩ := hQ b hB hz
  refine ⟨h1, ?_⟩
  rw [← h2]
  obtain ⟨n, hn⟩ : ∃ n, hc b = n + 1 := ⟨hc b - 1, by omega⟩
  rw [hn]
  show cn_to (X' (hk b n)) = cn_to (X (hk b n))
  rw [hX _ (hW.1 b hB n (by omega)).1]
theorem cn_upK {g : Nat → Int32} {f f' : Nat → Nat} {C x : Nat} {y : Int32} (h : ∀ k, k < C → g k = nI (f k)) (ho : ∀ k, k < C → f' k = f k) (hx : f' C = x) (hy : y = nI x) : ∀ k, k < C + 1 → upd g C y k = nI (f' k) := by
  intro k hk
  by_cases e : k = C
  · rw [e, pk_us, hx, hy]
  · rw [pk_un e, ho k (by omega)]
    exact h k (by omega)
theorem cn_contact {post : Int32 → St1 → Prop} {fq : Int32} {a1 a2 a3 a4 a5 a6 a7 a8 a9 a10 a11 a12 a13 a14 a15 a16 a17 a18 a19 a20 a21 : Nat → Int32} {X Y U V X' Y' : Nat → Int32} {C B N : Nat} {hc : Nat → Nat} {hk hb : Nat → Nat → Nat} {x y : Int32} (hI : cn_I X Y U V C B hc hk hb a2 a3 a4 a5 a6 a7 a8 a9 a10 a11 a12 a15 a16 a17) (hQ : cn_Q X U B a13 hc hk) (hN : N ≤ 10000)
    (hX : ∀ k, k < C → X' k = X k ∧ Y' k = Y k) (hx : X' C = x) (hy : Y' C = y)
    (H0 : 10 ≤ C → post (-3) (nI C, nI B, nI N, fq, a1, a2, a3, a4, a5, a6, a7, a8, a9, a10, a11, a12, a13, a14, a15, a16, a17, a18, a19, a20, a21))
    (H : C < 10 → ∀ q b2 b3 b4 b5 b6 b7 b8 b13 b15 b16 b17 b18 b19 b20 b21 hc' hk' hb', cn_I X' Y' U V (C + 1) B hc' hk' hb' b2 b3 b4 b5 b6 b7 b8 a9 a10 a11 a12 b15 b16 b17 → cn_Q X' U B b13 hc' hk' → post (nI C) (nI (C + 1), nI B, nI N, q, a1, b2, b3, b4, b5, b6, b7, b8, a9, a10, a11, a12, b13, a14, b15, b16, b17, b18, b19, b20, b21)) :
    wpX_contact post (nI C, nI B, nI N, fq, a1, a2, a3, a4, a5, a6, a7, a8, a9, a10, a11, a12, a13, a14, a15, a16, a17, a18, a19, a20, a21) (nI (6 * cn_fr x + cn_to x)) (nI (101 * cn_st y + cn_en y)) (nI (10 * cn_rt y + cn_dl y)) := by
  unfold wpX_contact
  dsimp only
  have hen := cn_en_lt y
  have hrt := cn_rt_in y
  have hdl := cn_dl_lt y
  have hst := cn_st_lt y
  have l2 := cn_fr_lt x
  have l3 := cn_to_lt x
  have l101 : (101 : Int32) = nI 101 := rfl
  have l10 : (10 : Int32) = nI 10 := rfl
  have d1 : nI (101 * cn_st y + cn_en y) / 101 = nI (cn_st y) := by rw [l101, pk_div (by omega) (by omega) (by omega), show (101 * cn_st y + cn_en y) / 101 = cn_st y by omega]
  have d2 : nI (101 * cn_st y + cn_en y) - nI (101 * cn_st y + cn_en y) / 101 * 101 = nI (cn_en y) := by rw [l101, pk_rem (by omega) (by omega) (by omega), show (101 * cn_st y + cn_en y) % 101 = cn_en y by omega]
  have d3 : nI (10 * cn_rt y + cn_dl y) / 10 = nI (cn_rt y) := by rw [l10, pk_div (by omega) (by omega) (by omega), show (10 * cn_rt y + cn_dl y) / 10 = cn_rt y by omega]
  have d4 : nI (10 * cn_rt y + cn_dl y) - nI (10 * cn_rt y + cn_dl y) / 10 * 10 = nI (cn_dl y) := by rw [l10, pk_rem (by omega) (by omega) (by omega), show (10 * cn_rt y + cn_dl y) % 10 = cn_dl y by omega]
  obtain ⟨hC, hB10, hK, hS, hW, hH⟩ := hI
  have ec : (nI C).toNatClampNeg = C := nI_clamp (by omega)
  have n101 : ¬ (101 : Int32) = 0 := by decide
  have n10 : ¬ (10 : Int32) = 0 := by decide
  have n6 : ¬ (6 : Int32) = 0 := by decide
  refine cn_areEnds l2 l3 (cn_ft x) (br_f (by decide) ?_)
  refine br_f (nI_pos (by omega)) ⟨n101, n101, pk_le (cn_en y) (cn_st y) (fun z => absurd z (by omega)) (fun _ => ⟨n101, pk_le 101 (cn_st y) (fun z => absurd z (by omega)) (fun _ => ?_) rfl d1⟩) d2 d1⟩
  refine br_f (by decide) ?_
  refine pk_lt (10 * cn_rt y + cn_dl y) 10 (fun z => absurd z (by omega)) (fun _ => pk_le 100 (10 * cn_rt y + cn_dl y) (fun z => absurd z (by omega)) (fun _ => br_f (by decide) ?_))
  refine pk_lt C 10 (fun z => ?_) (fun z => H0 z)
  have iC : vp_in (nI C) 10 := pk_in C 10 z
  refine nm_r (nI_1 C) ⟨n6, iC, nm_r (e' := upd a2 C (nI (cn_fr x))) (by rw [ec, cn_ed l2 l3]) ⟨n6, iC, nm_r (e' := upd a3 C (nI (cn_to x))) (by rw [ec, cn_er l2 l3]) ⟨n101, iC, nm_r (e' := upd a4 C (nI (cn_st y))) (by rw [ec, d1]) ⟨n101, iC, nm_r (e' := upd a5 C (nI (cn_en y))) (by rw [ec, d2]) ⟨n10, iC, nm_r (e' := upd a6 C (nI (cn_rt y))) (by rw [ec, d3]) ⟨n10, iC, nm_r (e' := upd a7 C (nI (cn_dl y))) (by rw [ec, d4]) ?_⟩⟩⟩⟩⟩⟩
  refine cn_retry (X := X') (Y := Y') (hc := hc) (hk := hk) (hb := hb) ⟨by omega, hB10, ?_, hS, cn_W_X (by omega) hX hW, ?_⟩ (cn_Q_X (fun k hk => (hX k hk).1) hW hQ) hN (fun q b8 b13 b15 b16 b17 b18 b19 b20 b21 hc' hk' hb' h1 h2 => H z q _ _ _ _ _ _ b8 b13 b15 b16 b17 b18 b19 b20 b21 hc' hk' hb' h1 h2)
  · intro k hk
    refine ⟨?_, ?_, ?_, ?_, ?_, ?_⟩
    · exact cn_upK (f := fun k => cn_fr (X k)) (f' := fun k => cn_fr (X' k)) (fun k hk => (hK k hk).1) (fun k hk => by rw [(hX k hk).1]) (by rw [hx]) rfl k hk
    · exact cn_upK (f := fun k => cn_to (X k)) (f' := fun k => cn_to (X' k)) (fun k hk => (hK k hk).2.1) (fun k hk => by rw [(hX k hk).1]) (by rw [hx]) rfl k hk
    · exact cn_upK (f := fun k => cn_st (Y k)) (f' := fun k => cn_st (Y' k)) (fun k hk => (hK k hk).2.2.1) (fun k hk => by rw [(hX k hk).2]) (by rw [hy]) rfl k hk
    · exact cn_upK (f := fun k => cn_en (Y k)) (f' := fun k => cn_en (Y' k)) (fun k hk => (hK k hk).2.2.2.1) (fun k hk => by rw [(hX k hk).2]) (by rw [hy]) rfl k hk
    · exact cn_upK (f := fun k => cn_rt (Y k)) (f' := fun k => cn_rt (Y' k)) (fun k hk => (hK k hk).2.2.2.2.1) (fun k hk => by rw [(hX k hk).2]) (by rw [hy]) rfl k hk
    · exact cn_upK (f := fun k => cn_dl (Y k)) (f' := fun k => cn_dl (Y' k)) (fun k hk => (hK k hk).2.2.2.2.2) (fun k hk => by rw [(hX k hk).2]) (by rw [hy]) rfl k hk
  · exact ⟨hH.1, fun k t h1 h2 => by rw [cn_cv_Y (fun k hk => (hX k hk).2) hW]; exact hH.2 k t h1 h2⟩
/-- a bundle more, with no hops yet -/
theorem cn_W_B {Y U U' V V' : Nat → Int32} {B : Nat} {hc : Nat → Nat} {hk hb : Nat → Nat → Nat} (hU : ∀ b, b < B → U' b = U b ∧ V' b = V b) (k t : Nat) : cn_cv Y V' (cn_ups hc B 0) hk hb (B + 1) k t = cn_cv Y V hc hk hb B k t := by
  have e : cn_cv Y V' (cn_ups hc B 0) hk hb B k t = cn_cv Y V hc hk hb B k t := cn_sum_c (fun b hb' => by
    show cn_cb Y (cn_sz (V' b)) (hk b) (hb b) (cn_ups hc B 0 b) k t = cn_cb Y (cn_sz (V b)) (hk b) (hb b) (hc b) k t
    rw [cn_ups_n (by omega), (hU b hb').2])
  have e2 : cn_cb Y (cn_sz (V' B)) (hk B) (hb B) (cn_ups hc B 0 B) k t = 0 := by
    rw [cn_ups_s]
    rfl
  show cn_cv Y V' (cn_ups hc B 0) hk hb B k t + cn_cb Y (cn_sz (V' B)) (hk B) (hb B) (cn_ups hc B 0 B) k t = _
  rw [e, e2, Nat.add_zero]
theorem cn_send {post : Int32 → St1 → Prop} {fq : Int32} {a1 a2 a3 a4 a5 a6 a7 a8 a9 a10 a11 a12 a13 a14 a15 a16 a17 a18 a19 a20 a21 : Nat → Int32} {X Y U V U' V' : Nat → Int32} {C B N : Nat} {hc : Nat → Nat} {hk hb : Nat → Nat → Nat} {x y : Int32} (hI : cn_I X Y U V C B hc hk hb a2 a3 a4 a5 a6 a7 a8 a9 a10 a11 a12 a15 a16 a17) (hQ : cn_Q X U B a13 hc hk) (hN : N ≤ 10000)
    (hU : ∀ b, b < B → U' b = U b ∧ V' b = V b) (hx : U' B = x) (hy : V' B = y)
    (H0 : 10 ≤ B → post (-3) (nI C, nI B, nI N, fq, a1, a2, a3, a4, a5, a6, a7, a8, a9, a10, a11, a12, a13, a14, a15, a16, a17, a18, a19, a20, a21))
    (H : B < 10 → ∀ q b8 b9 b10 b11 b12 b13 b15 b16 b17 b18 b19 b20 b21 hc' hk' hb', cn_I X Y U' V' C (B + 1) hc' hk' hb' a2 a3 a4 a5 a6 a7 b8 b9 b10 b11 b12 b15 b16 b17 → cn_Q X U' (B + 1) b13 hc' hk' →
      ((cn_R C X Y a1 a8 (cn_sz y) (cn_fr x) N 5 (cn_to x) < 1000000 ∧ cn_R C X Y a1 a8 (cn_sz y) (cn_fr x) N 5 (cn_to x) ≤ cn_lm y) → b13 B = 1 ∧ cn_tm Y (cn_sz (V' B)) 0 (hk' B) (hb' B) (hc' B) = cn_R C X Y a1 a8 (cn_sz y) (cn_fr x) N 5 (cn_to x)) →
      (¬ (cn_R C X Y a1 a8 (cn_sz y) (cn_fr x) N 5 (cn_to x) < 1000000 ∧ cn_R C X Y a1 a8 (cn_sz y) (cn_fr x) N 5 (cn_to x) ≤ cn_lm y) → b13 B = 0) →
      post (nI B) (nI C, nI (B + 1), nI N, q, a1, a2, a3, a4, a5, a6, a7, b8, b9, b10, b11, b12, b13, a14, b15, b16, b17, b18, b19, b20, b21)) :
    wpX_send post (nI C, nI B, nI N, fq, a1, a2, a3, a4, a5, a6, a7, a8, a9, a10, a11, a12, a13, a14, a15, a16, a17, a18, a19, a20, a21) (nI (6 * cn_fr x + cn_to x)) (nI (cn_sz y)) (nI (cn_lm y)) := by
  unfold wpX_send
  dsimp only
  have l2 := cn_fr_lt x
  have l3 := cn_to_lt x
  have hsz := cn_sz_in y
  obtain ⟨hC, hB10, hK, hS, hW, hH⟩ := hI
  have ec : (nI B).toNatClampNeg = B := nI_clamp (by omega)
  have n6 : ¬ (6 : Int32) = 0 := by decide
  refine cn_areEnds l2 l3 (cn_ft x) (br_f (by decide) (cn_isSize hsz.1 (by omega) (br_f (by decide) ?_)))
  refine pk_lt B 10 (fun z => ?_) (fun z => H0 z)
  have iB : vp_in (nI B) 10 := pk_in B 10 z
  refine nm_r (nI_1 B) ⟨n6, iB, nm_r (e' := upd a9 B (nI (cn_fr x))) (by rw [ec, cn_ed l2 l3]) ⟨n6, iB, nm_r (e' := upd a10 B (nI (cn_to x))) (by rw [ec, cn_er l2 l3]) ⟨iB, nm_r (e' := upd a11 B (nI (cn_sz y))) (by rw [ec]) ⟨iB, nm_r (e' := upd a12 B (nI (cn_lm y))) (by rw [ec]) ⟨iB, nm_r (e' := upd a15 B (nI 0)) (by rw [ec]; rfl) ?_⟩⟩⟩⟩⟩
  refine cn_plan (U := U') (V := V') (hc := cn_ups hc B 0) (hk := hk) (hb := hb) (B := B + 1) ⟨hC, by omega, hK, ?_, ⟨?_, ?_⟩, ⟨?_, ?_⟩⟩ (by omega) hN (fun q b8 b13 b15 b16 b17 b18 b19 b20 b21 hc' hk' hb' h1 h2 => ?_)
  · intro b hb'
    refine ⟨?_, ?_, ?_, ?_⟩
    · exact cn_upK (f := fun k => cn_fr (U k)) (f' := fun k => cn_fr (U' k)) (fun k hk => (hS k hk).1) (fun k hk => by rw [(hU k hk).1]) (by rw [hx]) rfl b hb'
    · exact cn_upK (f := fun k => cn_to (U k)) (f' := fun k => cn_to (U' k)) (fun k hk => (hS k hk).2.1) (fun k hk => by rw [(hU k hk).1]) (by rw [hx]) rfl b hb'
    · exact cn_upK (f := fun k => cn_sz (V k)) (f' := fun k => cn_sz (V' k)) (fun k hk => (hS k hk).2.2.1) (fun k hk => by rw [(hU k hk).2]) (by rw [hy]) rfl b hb'
    · exact cn_upK (f := fun k => cn_lm (V k)) (f' := fun k => cn_lm (V' k)) (fun k hk => (hS k hk).2.2.2) (fun k hk => by rw [(hU k hk).2]) (by rw [hy]) rfl b hb'
  · intro b hb' i hi
    by_cases e : b = B
    · rw [e, cn_ups_s] at hi
      omega
    · rw [cn_ups_n e] at hi
      rw [(hU b (by omega)).1, (hU b (by omega)).2]
      exact hW.1 b (by omega) i hi
  · intro k t
    rw [cn_W_B hU]
    exact hW.2 k t
  · intro b hb'
    by_cases e : b = B
    · rw [e, pk_us, cn_ups_s]
      exact ⟨rfl, fun i hi => absurd hi (by omega)⟩
    · rw [pk_un e, cn_ups_n e]
      exact hH.1 b (by omega)
  · intro k t k1 k2
    rw [cn_W_B hU]
    exact hH.2 k t k1 k2
  · obtain ⟨p1, p2, p3⟩ := h2
    have p4 := p3 cn_ups_s
    rw [hx, hy] at p4
    refine H z q b8 _ _ _ _ b13 b15 b16 b17 b18 b19 b20 b21 hc' hk' hb' h1 (fun b hb' hz => ?_) (by rw [hy]; exact p4.1) p4.2
    by_cases e : b = B
    · rw [e]
      rw [e] at hz
      exact p2 hz
    · obtain ⟨o1, o2, o3, o4⟩ := p1 b e
      rw [o1] at hz
      refine cn_done_c (o2.trans (cn_ups_n e)) o3 ?_
      unfold cn_done
      rw [(hU b (by omega)).1]
      exact hQ b (by omega) hz
end
section
/-! openBooking, loseFrom, cancel -/
theorem cn_openBooking {post : Int32 → Prop} {fc fb fw fq : Int32} {a1 a2 a3 a4 a5 a6 a7 a8 a9 a10 a11 a12 a13 a14 a15 a16 a17 a18 a19 a20 a21 : Nat → Int32} {X Y U V : Nat → Int32} {C B b k : Nat} {hc : Nat → Nat} {hk hb : Nat → Nat → Nat} (hI : cn_I X Y U V C B hc hk hb a2 a3 a4 a5 a6 a7 a8 a9 a10 a11 a12 a15 a16 a17) (hB : b < B) (hkC : k < C)
    (H0 : post (-1)) (H1 : ∀ i, i < hc b → post (nI i)) : wpX_openBooking post (fc, fb, fw, fq, a1, a2, a3, a4, a5, a6, a7, a8, a9, a10, a11, a12, a13, a14, a15, a16, a17, a18, a19, a20, a21) (nI b) (nI k) := by
  obtain ⟨hC, hB10, hK, hS, hW, hH⟩ := hI
  have h95 := cn_W_n hW hB
  obtain ⟨s9, s10, s11, s12⟩ := hS b hB
  obtain ⟨k2, k3, k4, k5, k6, k7⟩ := hK k hkC
  have hsz := cn_sz_in (V b)
  have eb : (nI b).toNatClampNeg = b := nI_clamp (by omega)
  have e11 : a11 (nI b).toNatClampNeg = nI (cn_sz (V b)) := by rw [eb]; exact s11
  have e15 : a15 (nI b).toNatClampNeg = nI (hc b) := by rw [eb]; exact (hH.1 b hB).1
  have ib : vp_in (nI b) 10 := pk_in b 10 (by omega)
  refine pk_loop (fun n i (_ : Unit) => wX_openBooking_2 post (nI b) (nI k) fc fb fw fq a1 a2 a3 a4 a5 a6 a7 a8 a9 a10 a11 a12 a13 a14 a15 a16 a17 a18 a19 a20 a21 n (nI i)) (fun _ _ => True) (hc b) 0 () (by omega) trivial ?_ ?_
  · intro n _ _
    exact ⟨ib, pk_le (hc b) (hc b) (fun _ => H0) (fun z => absurd z (by omega)) e15⟩
  · intro n i _ hi _ hw
    have ii : vp_in ((100 : Int32) * nI b + nI i) 1000 := pk_in (100 * b + i) 1000 (by omega) (cn_i100 b i)
    refine ⟨ib, pk_le (hc b) i (fun z => absurd z (by omega)) (fun _ => ⟨ii, ib, ?_⟩) e15⟩
    rw [e11]
    refine cn_ticksFor (by omega) k6 hsz.1 (by omega) (br_c (fun _ => ⟨ii, br_c (fun _ => br_t rfl (nm_r (nI_1 i) (hw () trivial))) (fun _ => nm_r (nI_1 i) (hw () trivial))⟩) (fun _ => ⟨ii, br_c (fun _ => br_f (by decide) (H1 i hi)) (fun _ => nm_r (nI_1 i) (hw () trivial))⟩))
theorem cn_cb_s {Y : Nat → Int32} {s : Nat} {rk rb : Nat → Nat} {n k t : Nat} : cn_cb Y s rk rb (n + 1) k t = cn_cb Y s rk rb n k t + cn_iv (rk n) (rb n) (cn_tk s (cn_rt (Y (rk n)))) k t := rfl
theorem cn_loseFrom {post : St1 → Prop} {fc fb fw fq : Int32} {a1 a2 a3 a4 a5 a6 a7 a8 a9 a10 a11 a12 a13 a14 a15 a16 a17 a18 a19 a20 a21 : Nat → Int32} {X Y U V : Nat → Int32} {C B b i : Nat} {hc : Nat → Nat} {hk hb : Nat → Nat → Nat} (hI : cn_I X Y U V C B hc hk hb a2 a3 a4 a5 a6 a7 a8 a9 a10 a11 a12 a15 a16 a17) (hB : b < B) (hi : i < hc b)
    (H : ∀ b8 b15, cn_I X Y U V C B (cn_ups hc b i) hk hb a2 a3 a4 a5 a6 a7 b8 a9 a10 a11 a12 b15 a16 a17 → post (fc, fb, fw, fq, a1, a2, a3, a4, a5, a6, a7, b8, a9, a10, a11, a12, a13, a14, b15, a16, a17, a18, a19, a20, a21)) : wpX_loseFrom post (fc, fb, fw, fq, a1, a2, a3, a4, a5, a6, a7, a8, a9, a10, a11, a12, a13, a14, a15, a16, a17, a18, a19, a20, a21) (nI b) (nI i) := by
  obtain ⟨hC, hB10, hK, hS, hW, hH⟩ := hI
  have h95 := cn_W_n hW hB
  obtain ⟨s9, s10, s11, s12⟩ := hS b hB
  have hsz := cn_sz_in (V b)
  have eb : (nI b).toNatClampNeg = b := nI_clamp (by omega)
  have e11 : a11 (nI b).toNatClampNeg = nI (cn_sz (V b)) := by rw [eb]; exact s11
  have e15 : a15 (nI b).toNatClampNeg = nI (hc b) := by rw [eb]; exact (hH.1 b hB).1
  have ib : vp_in (nI b) 10 := pk_in b 10 (by omega)
  refine pk_loop (fun n j (g : Nat → Int32) => wX_loseFrom_2 post (nI b) (nI i) n (nI j) fc fb fw fq a1 a2 a3 a4 a5 a6 a7 g a9 a10 a11 a12 a13 a14 a15 a16 a17 a18 a19 a20 a21)
    (fun j g => i ≤ j ∧ ∀ k t, k < 10 → t < 101 → g (101 * k + t) = nI (cn_cv Y V (cn_ups hc b i) hk hb B k t + (cn_cb Y (cn_sz (V b)) (hk b) (hb b) (hc b) k t - cn_cb Y (cn_sz (V b)) (hk b) (hb b) j k t)))
    (hc b) i a8 (by omega) ⟨Nat.le_refl _, fun k t h1 h2 => ?_⟩ ?_ ?_
  · rw [hH.2 k t h1 h2, cn_cv_less hB (show i ≤ hc b by omega)]
  · intro n g hg
    refine ⟨ib, pk_le (hc b) (hc b) (fun _ => ⟨ib, nm_r (e' := upd a15 b (nI i)) (by rw [eb]) (H g _ ⟨hC, hB10, hK, hS, cn_W_less hW hB (by omega), ⟨fun b' hB' => ?_, fun k t h1 h2 => ?_⟩⟩)⟩) (fun z => absurd z (by omega)) e15⟩
    · by_cases e : b' = b
      · rw [e, pk_us, cn_ups_s]
        exact ⟨rfl, fun j hj => (hH.1 b hB).2 j (by omega)⟩
      · rw [pk_un e, cn_ups_n e]
        exact hH.1 b' hB'
    · rw [hg.2 k t h1 h2, Nat.sub_self, Nat.add_zero]
  · intro n j g hj hg hw
    obtain ⟨hij, hg⟩ := hg
    obtain ⟨r16, r17⟩ := (hH.1 b hB).2 j hj
    obtain ⟨q1, q2, q3, q4, q5⟩ := hW.1 b hB j hj
    obtain ⟨k2, k3, k4, k5, k6, k7⟩ := hK _ q1
    have hen := cn_en_lt (Y (hk b j))
    have ii : vp_in ((100 : Int32) * nI b + nI j) 1000 := pk_in (100 * b + j) 1000 (by omega) (cn_i100 b j)
    have ei : ((100 : Int32) * nI b + nI j).toNatClampNeg = 100 * b + j := by rw [cn_i100]; exact nI_clamp (by omega)
    refine ⟨ib, pk_le (hc b) j (fun z => absurd z (by omega)) (fun _ => ⟨ii, nm_r (e' := nI (hk b j)) (by rw [ei]; exact r16) ⟨ib, ?_⟩⟩) e15⟩
    rw [e11]
    refine cn_ticksFor (by omega) k6 hsz.1 (by omega) ⟨ii, ?_⟩
    rw [ei, r17]
    refine cn_setBusy (v := 0) rfl (by omega) (by omega) (nm_r (nI_1 j) (hw _ ⟨by omega, fun k t h1 h2 => ?_⟩))
    have c1 : cn_cb Y (cn_sz (V b)) (hk b) (hb b) (j + 1) k t = cn_cb Y (cn_sz (V b)) (hk b) (hb b) j k t + cn_iv (hk b j) (hb b j) (cn_tk (cn_sz (V b)) (cn_rt (Y (hk b j)))) k t := rfl
    by_cases z : hk b j = k ∧ hb b j ≤ t ∧ t < hb b j + cn_tk (cn_sz (V b)) (cn_rt (Y (hk b j)))
    · rw [cn_fill_in (by omega)]
      rw [cn_iv_1 z] at c1
      have c2 : cn_cb Y (cn_sz (V b)) (hk b) (hb b) i k t ≤ cn_cb Y (cn_sz (V b)) (hk b) (hb b) j k t := cn_sum_le hij
      have c3 : cn_cb Y (cn_sz (V b)) (hk b) (hb b) (j + 1) k t ≤ cn_cb Y (cn_sz (V b)) (hk b) (hb b) (hc b) k t := cn_sum_le (by omega)
      have c4 := cn_cv_less (Y := Y) (V := V) (hk := hk) (hb := hb) hB (show i ≤ hc b by omega) k t
      have c5 := hW.2 k t
      rw [show cn_cv Y V (cn_ups hc b i) hk hb B k t + (cn_cb Y (cn_sz (V b)) (hk b) (hb b) (hc b) k t - cn_cb Y (cn_sz (V b)) (hk b) (hb b) (j + 1) k t) = 0 by omega]
      rfl
    · rw [cn_fill_out (by omega), hg k t h1 h2, c1, cn_iv_0 z, Nat.add_zero]
theorem cn_c85 {post : Int32 → St1 → Prop} {x2 : Int32} {fq : Int32} {a1 a2 a3 a4 a5 a6 a7 a8 a9 a10 a11 a12 a13 a14 a15 a16 a17 a18 a19 a20 a21 : Nat → Int32} {X Y U V : Nat → Int32} {C B N : Nat} {hc : Nat → Nat} {hk hb : Nat → Nat → Nat} (hI : cn_I X Y U V C B hc hk hb a2 a3 a4 a5 a6 a7 a8 a9 a10 a11 a12 a15 a16 a17) (hQ : ∀ b, b < B → a14 b = 0 → a13 b ≠ 0 → cn_done X U hc hk b) (hN : N ≤ 10000)
    (H : ∀ q b8 b13 b15 b16 b17 b18 b19 b20 b21 hc' hk' hb', cn_I X Y U V C B hc' hk' hb' a2 a3 a4 a5 a6 a7 b8 a9 a10 a11 a12 b15 b16 b17 → cn_Q X U B b13 hc' hk' → post x2 (nI C, nI B, nI N, q, a1, a2, a3, a4, a5, a6, a7, b8, a9, a10, a11, a12, b13, a14, b15, b16, b17, b18, b19, b20, b21)) :
    ∃ n, wX_cancel_85 post x2 n 0 (nI C) (nI B) (nI N) fq a1 a2 a3 a4 a5 a6 a7 a8 a9 a10 a11 a12 a13 a14 a15 a16 a17 a18 a19 a20 a21 := by
  have hB10 := hI.2.1
  refine pk_loop (fun n i (p : Int32 × (Nat → Int32) × (Nat → Int32) × (Nat → Int32) × (Nat → Int32) × (Nat → Int32) × (Nat → Int32) × (Nat → Int32) × (Nat → Int32) × (Nat → Int32)) => wX_cancel_85 post x2 n (nI i) (nI C) (nI B) (nI N) p.1 a1 a2 a3 a4 a5 a6 a7 p.2.1 a9 a10 a11 a12 p.2.2.1 a14 p.2.2.2.1 p.2.2.2.2.1 p.2.2.2.2.2.1 p.2.2.2.2.2.2.1 p.2.2.2.2.2.2.2.1 p.2.2.2.2.2.2.2.2.1 p.2.2.2.2.2.2.2.2.2)
    (fun i p => ∃ hc' hk' hb', cn_I X Y U V C B hc' hk' hb' a2 a3 a4 a5 a6 a7 p.2.1 a9 a10 a11 a12 p.2.2.2.1 p.2.2.2.2.1 p.2.2.2.2.2.1 ∧ ∀ b, b < B → (b < i ∨ a14 b = 0) → p.2.2.1 b ≠ 0 → cn_done X U hc' hk' b)
    B 0 (fq, a8, a13, a15, a16, a17, a18, a19, a20, a21) (by omega) ⟨hc, hk, hb, hI, fun b hb' h => hQ b hb' (h.resolve_left (by omega))⟩ ?_ ?_
  · intro n p hp
    obtain ⟨q, b8, b13, b15, b16, b17, b18, b19, b20, b21⟩ := p
    obtain ⟨hc', hk', hb', h1, h2⟩ := hp
    dsimp only at h1 h2
    exact pk_le B B (fun _ => cn_retry h1 (fun b hb' => h2 b hb' (Or.inl hb')) hN H) (fun z => absurd z (by omega))
  · intro n i p hi hp hw
    obtain ⟨q, b8, b13, b15, b16, b17, b18, b19, b20, b21⟩ := p
    obtain ⟨hc', hk', hb', h1, h2⟩ := hp
    dsimp only at h1 h2
    have ei : (nI i).toNatClampNeg = i := nI_clamp (by omega)
    refine pk_le B i (fun z => absurd z (by omega)) (fun _ => ⟨pk_in i 10 (by omega), br_c (fun z => nm_r (nI_1 i) (hw (q, b8, b13, b15, b16, b17, b18, b19, b20, b21) ⟨hc', hk', hb', h1, fun b hb' hor => h2 b hb' ?_⟩)) (fun z => ?_)⟩)
    · rw [ei] at z
      by_cases e : b = i
      · rw [e]
        exact Or.inr z
      · rcases hor with h | h
        · exact Or.inl (by omega)
        · exact Or.inr h
    refine cn_plan h1 hi hN (fun q' d8 d13 d15 d16 d17 d18 d19 d20 d21 hc2 hk2 hb2 hI2 hP => nm_r (nI_1 i) (hw (q', d8, d13, d15, d16, d17, d18, d19, d20, d21) ⟨hc2, hk2, hb2, hI2, fun b hb hor hz => ?_⟩))
    by_cases e : b = i
    · rw [e]
      rw [e] at hz
      exact hP.2.1 hz
    · obtain ⟨p1, p2, p3, p4⟩ := hP.1 b e
      have hz' : d13 b ≠ 0 := hz
      rw [show d13 b = b13 b from p1] at hz'
      refine cn_done_c p2 p3 (h2 b hb ?_ hz')
      rcases hor with h | h
      · exact Or.inl (by omega)
      · exact Or.inr h
theorem cn_c30 {post : Int32 → St1 → Prop} {fq : Int32} {a1 a2 a3 a4 a5 a6 a7 a8 a9 a10 a11 a12 a13 a14 a15 a16 a17 a18 a19 a20 a21 : Nat → Int32} {X Y U V : Nat → Int32} {C B N k : Nat} {hc : Nat → Nat} {hk hb : Nat → Nat → Nat} (hI : cn_I X Y U V C B hc hk hb a2 a3 a4 a5 a6 a7 a8 a9 a10 a11 a12 a15 a16 a17) (hQ : cn_Q X U B a13 hc hk) (hN : N ≤ 10000) (hkC : k < C)
    (H : ∀ x q b8 b13 b14 b15 b16 b17 b18 b19 b20 b21 hc' hk' hb', cn_I X Y U V C B hc' hk' hb' a2 a3 a4 a5 a6 a7 b8 a9 a10 a11 a12 b15 b16 b17 → cn_Q X U B b13 hc' hk' → post x (nI C, nI B, nI N, q, a1, a2, a3, a4, a5, a6, a7, b8, a9, a10, a11, a12, b13, b14, b15, b16, b17, b18, b19, b20, b21)) :
    ∃ n, wX_cancel_30 post (nI k) n 0 0 (nI C) (nI B) (nI N) fq a1 a2 a3 a4 a5 a6 a7 a8 a9 a10 a11 a12 a13 a14 a15 a16 a17 a18 a19 a20 a21 := by
  have hB10 := hI.2.1
  refine pk_loop (fun n i (p : Int32 × (Nat → Int32) × (Nat → Int32) × (Nat → Int32)) => wX_cancel_30 post (nI k) n p.1 (nI i) (nI C) (nI B) (nI N) fq a1 a2 a3 a4 a5 a6 a7 p.2.1 a9 a10 a11 a12 a13 p.2.2.1 p.2.2.2 a16 a17 a18 a19 a20 a21)
    (fun i p => ∃ hc', cn_I X Y U V C B hc' hk hb a2 a3 a4 a5 a6 a7 p.2.1 a9 a10 a11 a12 p.2.2.2 a16 a17 ∧ ∀ b, b < B → (i ≤ b ∨ p.2.2.1 b = 0) → a13 b ≠ 0 → cn_done X U hc' hk b)
    B 0 (0, a8, a14, a15) (by omega) ⟨hc, hI, fun b hb' _ => hQ b hb'⟩ ?_ ?_
  · intro n p hp
    obtain ⟨x2, b8, b14, b15⟩ := p
    obtain ⟨hc', h1, h2⟩ := hp
    dsimp only at h1 h2
    exact pk_le B B (fun _ => cn_c85 h1 (fun b hb' h => h2 b hb' (Or.inr h)) hN (fun q d8 d13 d15 d16 d17 d18 d19 d20 d21 => H x2 q d8 d13 b14 d15 d16 d17 d18 d19 d20 d21)) (fun z => absurd z (by omega))
  · intro n i p hi hp hw
    obtain ⟨x2, b8, b14, b15⟩ := p
    obtain ⟨hc', h1, h2⟩ := hp
    dsimp only at h1 h2
    have ei : (nI i).toNatClampNeg = i := nI_clamp (by omega)
    have ii : vp_in (nI i) 10 := pk_in i 10 (by omega)
    have h95 := cn_W_n h1.2.2.2.2.1 hi
    refine pk_le B i (fun z => absurd z (by omega)) (fun _ => ?_)
    refine cn_openBooking h1 hi hkC (br_t (by decide) ⟨ii, nm_r (e' := upd b14 i 0) (by rw [ei]; rfl) (br_t (by decide) (nm_r (nI_1 i) (hw (x2, b8, upd b14 i 0, b15) ⟨hc', h1, fun b hb' hor => h2 b hb' ?_⟩)))⟩) (fun j hj => br_f (nI_pos (by omega)) ⟨ii, nm_r (e' := upd b14 i 1) (by rw [ei]; rfl) (br_f (nI_pos (by omega)) ?_)⟩)
    · dsimp only at hor
      by_cases e : b = i
      · exact Or.inl (by omega)
      · rw [pk_un e] at hor
        rcases hor with h | h
        · exact Or.inl (by omega)
        · exact Or.inr h
    · refine cn_loseFrom h1 hi hj (fun d8 d15 hI2 => nm_e (nm_r (nI_1 i) (hw (x2 + 1, d8, upd b14 i 1, d15) ⟨_, hI2, fun b hb' hor hz => ?_⟩)))
      dsimp only at hor
      by_cases e : b = i
      · rw [e, pk_us] at hor
        rcases hor with h | h
        · omega
        · exact absurd h (by decide)
      · rw [pk_un e] at hor
        refine cn_done_c (cn_ups_n e) rfl (h2 b hb' ?_ hz)
        rcases hor with h | h
        · exact Or.inl (by omega)
        · exact Or.inr h
theorem cn_cancel {post : Int32 → St1 → Prop} {fq : Int32} {a1 a2 a3 a4 a5 a6 a7 a8 a9 a10 a11 a12 a13 a14 a15 a16 a17 a18 a19 a20 a21 : Nat → Int32} {X Y U V : Nat → Int32} {C B N k : Nat} {hc : Nat → Nat} {hk hb : Nat → Nat → Nat} (hI : cn_I X Y U V C B hc hk hb a2 a3 a4 a5 a6 a7 a8 a9 a10 a11 a12 a15 a16 a17) (hQ : cn_Q X U B a13 hc hk) (hN : N ≤ 10000) (hk8 : k < 8)
    (H : ∀ x q b1 b8 b13 b14 b15 b16 b17 b18 b19 b20 b21 hc' hk' hb', cn_I X Y U V C B hc' hk' hb' a2 a3 a4 a5 a6 a7 b8 a9 a10 a11 a12 b15 b16 b17 → cn_Q X U B b13 hc' hk' → post x (nI C, nI B, nI N, q, b1, a2, a3, a4, a5, a6, a7, b8, a9, a10, a11, a12, b13, b14, b15, b16, b17, b18, b19, b20, b21)) :
    wpX_cancel post (nI C, nI B, nI N, fq, a1, a2, a3, a4, a5, a6, a7, a8, a9, a10, a11, a12, a13, a14, a15, a16, a17, a18, a19, a20, a21) (nI k) := by
  unfold wpX_cancel
  dsimp only
  have hC := hI.1
  have ek : (nI k).toNatClampNeg = k := nI_clamp (by omega)
  have same := fun x => H x fq a1 a8 a13 a14 a15 a16 a17 a18 a19 a20 a21 hc hk hb hI hQ
  refine br_f (nI_pos (by omega)) (pk_le C k (fun z => br_t rfl (same _)) (fun z => br_f (by decide) ⟨pk_in k 10 (by omega), br_c (fun _ => ⟨pk_in k 10 (by omega), nm_r (e' := upd a1 k 1) (by rw [ek]) ?_⟩) (fun _ => same _)⟩))
  exact cn_c30 hI hQ hN z (fun x q b8 b13 b14 b15 b16 b17 b18 b19 b20 b21 => H x q _ b8 b13 b14 b15 b16 b17 b18 b19 b20 b21)
end
section
/-! what the law asks -/
theorem cn_isBundle {post : Int32 → Prop} {fc fw fq : Int32} {a1 a2 a3 a4 a5 a6 a7 a8 a9 a10 a11 a12 a13 a14 a15 a16 a17 a18 a19 a20 a21 : Nat → Int32} {B b : Nat} (hB : b < B) (hB10 : B ≤ 10) (hp : post 1) : wpX_isBundle post (fc, nI B, fw, fq, a1, a2, a3, a4, a5, a6, a7, a8, a9, a10, a11, a12, a13, a14, a15, a16, a17, a18, a19, a20, a21) (nI b) :=
  br_f (nI_pos (by omega)) (pk_le B b (fun z => absurd z (by omega)) (fun _ => hp))
theorem cn_hops {post : Int32 → Prop} {fc fw fq : Int32} {a1 a2 a3 a4 a5 a6 a7 a8 a9 a10 a11 a12 a13 a14 a15 a16 a17 a18 a19 a20 a21 : Nat → Int32} {X Y U V : Nat → Int32} {C B b : Nat} {hc : Nat → Nat} {hk hb : Nat → Nat → Nat} (hI : cn_I X Y U V C B hc hk hb a2 a3 a4 a5 a6 a7 a8 a9 a10 a11 a12 a15 a16 a17) (hB : b < B) (hp : post (nI (hc b))) : wpX_hops post (fc, nI B, fw, fq, a1, a2, a3, a4, a5, a6, a7, a8, a9, a10, a11, a12, a13, a14, a15, a16, a17, a18, a19, a20, a21) (nI b) := by
  unfold wpX_hops
  dsimp only
  have hB10 := hI.2.1
  have eb : (nI b).toNatClampNeg = b := nI_clamp (by omega)
  refine cn_isBundle hB hB10 (br_f (by decide) ⟨pk_in b 10 (by omega), ?_⟩)
  rw [eb, (hI.2.2.2.2.2.1 b hB).1]
  exact hp
theorem cn_hop_ {post : Int32 → Prop} {fc fw fq : Int32} {a1 a2 a3 a4 a5 a6 a7 a8 a9 a10 a11 a12 a13 a14 a15 a16 a17 a18 a19 a20 a21 : Nat → Int32} {X Y U V : Nat → Int32} {C B b i : Nat} {hc : Nat → Nat} {hk hb : Nat → Nat → Nat} (hI : cn_I X Y U V C B hc hk hb a2 a3 a4 a5 a6 a7 a8 a9 a10 a11 a12 a15 a16 a17) (hB : b < B) (hi : i < hc b) (hp : post (nI (1000 * hk b i + hb b i))) : wpX_hop post (fc, nI B, fw, fq, a1, a2, a3, a4, a5, a6, a7, a8, a9, a10, a11, a12, a13, a14, a15, a16, a17, a18, a19, a20, a21) (nI b) (nI i) := by
  unfold wpX_hop
  dsimp only
  have hB10 := hI.2.1
  have h95 := cn_W_n hI.2.2.2.2.1 hB
  obtain ⟨h15, h1617⟩ := hI.2.2.2.2.2.1 b hB
  obtain ⟨h16, h17⟩ := h1617 i hi
  have eb : (nI b).toNatClampNeg = b := nI_clamp (by omega)
  have ei : ((100 : Int32) * nI b + nI i).toNatClampNeg = 100 * b + i := by rw [cn_i100]; exact nI_clamp (by omega)
  have ii : vp_in ((100 : Int32) * nI b + nI i) 1000 := pk_in (100 * b + i) 1000 (by omega) (cn_i100 b i)
  refine cn_isBundle hB hB10 (br_f (by decide) (br_f (nI_pos (by omega)) ⟨pk_in b 10 (by omega), pk_lt i (hc b) (fun _ => ⟨ii, ii, ?_⟩) (fun z => absurd z (by omega)) rfl (by rw [eb]; exact h15)⟩))
  rw [ei, h16, h17, show (1000 : Int32) = nI 1000 from rfl, pk_mul, nI_add]
  exact hp
theorem cn_state {post : Int32 → Prop} {fc fq : Int32} {a1 a2 a3 a4 a5 a6 a7 a8 a9 a10 a11 a12 a13 a14 a15 a16 a17 a18 a19 a20 a21 : Nat → Int32} {X Y U V : Nat → Int32} {C B N b : Nat} {hc : Nat → Nat} {hk hb : Nat → Nat → Nat} (hI : cn_I X Y U V C B hc hk hb a2 a3 a4 a5 a6 a7 a8 a9 a10 a11 a12 a15 a16 a17) (hQ : cn_Q X U B a13 hc hk) (hB : b < B) (hN : N ≤ 10000)
    (H0 : a13 b = 0 → post 0) (H1 : a13 b ≠ 0 → N < cn_tm Y (cn_sz (V b)) 0 (hk b) (hb b) (hc b) → post 1) (H2 : a13 b ≠ 0 → cn_tm Y (cn_sz (V b)) 0 (hk b) (hb b) (hc b) ≤ N → post 2) : wpX_state post (fc, nI B, nI N, fq, a1, a2, a3, a4, a5, a6, a7, a8, a9, a10, a11, a12, a13, a14, a15, a16, a17, a18, a19, a20, a21) (nI b) := by
  unfold wpX_state
  dsimp only
  have hB10 := hI.2.1
  have eb : (nI b).toNatClampNeg = b := nI_clamp (by omega)
  have h95 := cn_W_n hI.2.2.2.2.1 hB
  have e15 : a15 (nI b).toNatClampNeg = nI (hc b) := by rw [eb]; exact (hI.2.2.2.2.2.1 b hB).1
  have ib : vp_in (nI b) 10 := pk_in b 10 (by omega)
  refine cn_isBundle hB hB10 (br_f (by decide) ⟨ib, br_c (fun z => H0 (by rw [eb] at z; exact z)) (fun z => ⟨ib, ?_⟩)⟩)
  rw [eb] at z
  have h0 := (hQ b hB z).1
  have htm := cn_tm_lt (hI.2.2.2.2.1.1 b hB) h0
  obtain ⟨n, hn⟩ : ∃ n, hc b = n + 1 := ⟨hc b - 1, by omega⟩
  rw [e15]
  rw [hn] at htm H1 H2 ⊢
  rw [nI_pred]
  exact cn_comesInBy hI hB (by omega) (pk_lt N _ (fun g => H1 z g) (fun g => H2 z g))
theorem cn_arrival {post : Int32 → Prop} {fc fw fq : Int32} {a1 a2 a3 a4 a5 a6 a7 a8 a9 a10 a11 a12 a13 a14 a15 a16 a17 a18 a19 a20 a21 : Nat → Int32} {X Y U V : Nat → Int32} {C B b : Nat} {hc : Nat → Nat} {hk hb : Nat → Nat → Nat} (hI : cn_I X Y U V C B hc hk hb a2 a3 a4 a5 a6 a7 a8 a9 a10 a11 a12 a15 a16 a17) (hQ : cn_Q X U B a13 hc hk) (hB : b < B)
    (H0 : a13 b = 0 → post (-2)) (H1 : a13 b ≠ 0 → post (nI (cn_tm Y (cn_sz (V b)) 0 (hk b) (hb b) (hc b)))) : wpX_arrival post (fc, nI B, fw, fq, a1, a2, a3, a4, a5, a6, a7, a8, a9, a10, a11, a12, a13, a14, a15, a16, a17, a18, a19, a20, a21) (nI b) := by
  unfold wpX_arrival
  dsimp only
  have hB10 := hI.2.1
  have eb : (nI b).toNatClampNeg = b := nI_clamp (by omega)
  have h95 := cn_W_n hI.2.2.2.2.1 hB
  have e15 : a15 (nI b).toNatClampNeg = nI (hc b) := by rw [eb]; exact (hI.2.2.2.2.2.1 b hB).1
  have ib : vp_in (nI b) 10 := pk_in b 10 (by omega)
  refine cn_isBundle hB hB10 (br_f (by decide) ⟨ib, br_c (fun z => H0 (by rw [eb] at z; exact z)) (fun z => ⟨ib, ?_⟩)⟩)
  rw [eb] at z
  have h0 := (hQ b hB z).1
  obtain ⟨n, hn⟩ : ∃ n, hc b = n + 1 := ⟨hc b - 1, by omega⟩
  rw [e15]
  rw [hn] at H1 ⊢
  rw [nI_pred]
  exact cn_comesInBy hI hB (by omega) (H1 z)
theorem cn_booked {post : Int32 → Prop} {fb fw fq : Int32} {a1 a2 a3 a4 a5 a6 a7 a8 a9 a10 a11 a12 a13 a14 a15 a16 a17 a18 a19 a20 a21 : Nat → Int32} {X Y U V : Nat → Int32} {C B k : Nat} {hc : Nat → Nat} {hk hb : Nat → Nat → Nat} (hI : cn_I X Y U V C B hc hk hb a2 a3 a4 a5 a6 a7 a8 a9 a10 a11 a12 a15 a16 a17) (hkC : k < C)
    (H0 : a1 k ≠ 0 → post (-2)) (H1 : a1 k = 0 → post (nI (cn_sum (fun t => cn_cv Y V hc hk hb B k t) 101))) : wpX_booked post (nI C, fb, fw, fq, a1, a2, a3, a4, a5, a6, a7, a8, a9, a10, a11, a12, a13, a14, a15, a16, a17, a18, a19, a20, a21) (nI k) := by
  unfold wpX_booked
  dsimp only
  obtain ⟨hC, hB10, hK, hS, hW, hH⟩ := hI
  have ek : (nI k).toNatClampNeg = k := nI_clamp (by omega)
  refine br_f (nI_pos (by omega)) (pk_le C k (fun z => absurd z (by omega)) (fun _ => br_f (by decide) ⟨pk_in k 10 (by omega), br_c (fun z1 => ?_) (fun z1 => H0 (by rw [ek] at z1; exact z1))⟩))
  rw [ek] at z1
  refine pk_loop (fun n i (x : Nat) => wX_booked_26 post (nI k) (nI C) fb fw fq a1 a2 a3 a4 a5 a6 a7 a8 a9 a10 a11 a12 a13 a14 a15 a16 a17 a18 a19 a20 a21 n (nI x) (nI i)) (fun i x => x = cn_sum (fun t => cn_cv Y V hc hk hb B k t) i) 101 0 0 (by omega) rfl ?_ ?_
  · intro n x hx
    subst hx
    exact pk_le 101 101 (fun _ => H1 z1) (fun z => absurd z (by omega))
  · intro n i x hi hx hw
    have e8 : ((101 : Int32) * nI k + nI i).toNatClampNeg = 101 * k + i := by rw [cn_i101]; exact nI_clamp (by omega)
    have hle := hW.2 k i
    have hs : cn_sum (fun t => cn_cv Y V hc hk hb B k t) (i + 1) = cn_sum (fun t => cn_cv Y V hc hk hb B k t) i + cn_cv Y V hc hk hb B k i := rfl
    refine pk_le 101 i (fun z => absurd z (by omega)) (fun _ => ⟨pk_in (101 * k + i) 1010 (by omega) (cn_i101 k i), pk_eq (cn_cv Y V hc hk hb B k i) 0 (fun z => nm_r (e' := nI x) ?_ (nm_r (nI_1 i) (hw x (by rw [hs, z, hx, Nat.add_zero])))) (fun z => nm_r (nI_1 x) (nm_r (nI_1 i) (hw (x + 1) (by rw [hs, hx]; omega)))) (by rw [e8]; exact hH.2 k i (by omega) hi)⟩)
    rw [show (0 : Int32) = nI 0 from rfl, nI_add, Nat.add_zero]
theorem cn_quote {post : Int32 → St1 → Prop} {fb fq : Int32} {a1 a2 a3 a4 a5 a6 a7 a8 a9 a10 a11 a12 a13 a14 a15 a16 a17 a18 a19 a20 a21 : Nat → Int32} {X Y : Nat → Int32} {C N s : Nat} {x : Int32} (hK : cn_K X Y C a2 a3 a4 a5 a6 a7) (hC : C ≤ 10) (hs : 1 ≤ s) (hs2 : s ≤ 30) (hN : N ≤ 10000)
    (H0 : cn_R C X Y a1 a8 s (cn_fr x) N 5 (cn_to x) = 1000000 → ∀ g h, post (-2) (nI C, fb, nI N, fq, a1, a2, a3, a4, a5, a6, a7, a8, a9, a10, a11, a12, a13, a14, a15, a16, a17, a18, a19, g, h))
    (H1 : cn_R C X Y a1 a8 s (cn_fr x) N 5 (cn_to x) < 1000000 → ∀ g h, post (nI (cn_R C X Y a1 a8 s (cn_fr x) N 5 (cn_to x))) (nI C, fb, nI N, fq, a1, a2, a3, a4, a5, a6, a7, a8, a9, a10, a11, a12, a13, a14, a15, a16, a17, a18, a19, g, h)) :
    wpX_quote post (nI C, fb, nI N, fq, a1, a2, a3, a4, a5, a6, a7, a8, a9, a10, a11, a12, a13, a14, a15, a16, a17, a18, a19, a20, a21) (nI (6 * cn_fr x + cn_to x)) (nI s) := by
  unfold wpX_quote
  dsimp only
  have l2 := cn_fr_lt x
  have l3 := cn_to_lt x
  have n6 : ¬ (6 : Int32) = 0 := by decide
  have hm := cn_R_max (C := C) (X := X) (Y := Y) (a1 := a1) (a8 := a8) (s := s) (v := cn_fr x) (show N ≤ 1000000 by omega) 5 (cn_to x)
  refine cn_areEnds l2 l3 (cn_ft x) (br_f (by decide) (cn_isSize hs hs2 (br_f (by decide) ⟨n6, ?_⟩)))
  rw [cn_ed l2 l3]
  refine cn_spread (m := 5) hK hC hs hs2 (by omega) (by omega) l2 (fun g h hg => ⟨n6, ?_⟩)
  rw [← cn_ed l2 l3, cn_er l2 l3]
  refine ⟨pk_in (cn_to x) 6 l3, nm_r (e' := nI (cn_R C X Y a1 a8 s (cn_fr x) N 5 (cn_to x))) (by rw [nI_clamp (by omega)]; exact hg _ l3) (pk_lt _ 1000000 (fun z => H1 z g h) (fun z => H0 (by omega) g h))⟩
theorem cn_isInTime {post : Int32 → St1 → Prop} {fb fw fq : Int32} {a1 a2 a3 a4 a5 a6 a7 a8 a9 a10 a11 a12 a13 a14 a15 a16 a17 a18 a19 a20 a21 : Nat → Int32} {X Y : Nat → Int32} {C r s d : Nat} {x : Int32} (hK : cn_K X Y C a2 a3 a4 a5 a6 a7) (hC : C ≤ 10) (hs : 1 ≤ s) (hs2 : s ≤ 30) (hr : r ≤ 10000) (hd : d ≤ 10000)
    (H0 : ¬ (cn_R C X Y a1 a8 s (cn_fr x) r 5 (cn_to x) < 1000000 ∧ cn_R C X Y a1 a8 s (cn_fr x) r 5 (cn_to x) ≤ d) → ∀ g h, post 0 (nI C, fb, fw, fq, a1, a2, a3, a4, a5, a6, a7, a8, a9, a10, a11, a12, a13, a14, a15, a16, a17, a18, a19, g, h))
    (H1 : (cn_R C X Y a1 a8 s (cn_fr x) r 5 (cn_to x) < 1000000 ∧ cn_R C X Y a1 a8 s (cn_fr x) r 5 (cn_to x) ≤ d) → ∀ g h, post 1 (nI C, fb, fw, fq, a1, a2, a3, a4, a5, a6, a7, a8, a9, a10, a11, a12, a13, a14, a15, a16, a17, a18, a19, g, h)) :
    wpX_isInTime post (nI C, fb, fw, fq, a1, a2, a3, a4, a5, a6, a7, a8, a9, a10, a11, a12, a13, a14, a15, a16, a17, a18, a19, a20, a21) (nI (6 * cn_fr x + cn_to x)) (nI s) (nI r) (nI d) := by
  unfold wpX_isInTime
  dsimp only
  have l2 := cn_fr_lt x
  have l3 := cn_to_lt x
  have n6 : ¬ (6 : Int32) = 0 := by decide
  have hm := cn_R_max (C := C) (X := X) (Y := Y) (a1 := a1) (a8 := a8) (s := s) (v := cn_fr x) (show r ≤ 1000000 by omega) 5 (cn_to x)
  refine ⟨n6, ?_⟩
  rw [cn_ed l2 l3]
  refine cn_spread (m := 5) hK hC hs hs2 (by omega) (by omega) l2 (fun g h hg => ⟨n6, ?_⟩)
  rw [← cn_ed l2 l3, cn_er l2 l3]
  refine ⟨pk_in (cn_to x) 6 l3, nm_r (e' := nI (cn_R C X Y a1 a8 s (cn_fr x) r 5 (cn_to x))) (by rw [nI_clamp (by omega)]; exact hg _ l3) (pk_le 1000000 _ (fun z => H0 (by omega) g h) (fun z => pk_lt d _ (fun z2 => H0 (by omega) g h) (fun z2 => H1 ⟨z, z2⟩ g h)))⟩
theorem cn_lt55 {post : Int32 → St1 → Prop} {fb fw fq : Int32} {a1 a2 a3 a4 a5 a6 a7 a8 a9 a10 a11 a12 a13 a14 a15 a16 a17 a18 a19 a20 a21 : Nat → Int32} {X Y : Nat → Int32} {C N s d : Nat} {x : Int32} (hK : cn_K X Y C a2 a3 a4 a5 a6 a7) (hC : C ≤ 10) (hs : 1 ≤ s) (hs2 : s ≤ 30) (hN : N ≤ 100) (hd : d ≤ 10000)
    (H1 : ∀ low, N ≤ low → low ≤ 100 → ∀ g h, post (nI low) (nI C, fb, fw, fq, a1, a2, a3, a4, a5, a6, a7, a8, a9, a10, a11, a12, a13, a14, a15, a16, a17, a18, a19, g, h)) :
    ∃ n, wX_latest_55 post (nI (6 * cn_fr x + cn_to x)) (nI s) (nI d) n (nI N) 100 0 (nI C) fb fw fq a1 a2 a3 a4 a5 a6 a7 a8 a9 a10 a11 a12 a13 a14 a15 a16 a17 a18 a19 a20 a21 := by
  refine pk_loop (fun n i (p : Nat × Nat × (Nat → Int32) × (Nat → Int32)) => wX_latest_55 post (nI (6 * cn_fr x + cn_to x)) (nI s) (nI d) n (nI p.1) (nI p.2.1) (nI i) (nI C) fb fw fq a1 a2 a3 a4 a5 a6 a7 a8 a9 a10 a11 a12 a13 a14 a15 a16 a17 a18 a19 p.2.2.1 p.2.2.2)
    (fun i p => N ≤ p.1 ∧ p.1 ≤ p.2.1 ∧ p.2.1 ≤ 100) 8 0 (N, 100, a20, a21) (by omega) ⟨Nat.le_refl _, hN, Nat.le_refl _⟩ ?_ ?_
  · intro n p hp
    exact pk_le 8 8 (fun _ => H1 p.1 hp.1 (by omega) _ _) (fun z => absurd z (by omega))
  · intro n i p hi hp hw
    obtain ⟨low, high, g, h⟩ := p
    obtain ⟨h1, h2, h3⟩ := hp
    dsimp only at h1 h2 h3
    show wX_latest_55 post (nI (6 * cn_fr x + cn_to x)) (nI s) (nI d) (n + 1) (nI low) (nI high) (nI i) (nI C) fb fw fq a1 a2 a3 a4 a5 a6 a7 a8 a9 a10 a11 a12 a13 a14 a15 a16 a17 a18 a19 g h
    refine pk_le 8 i (fun z => absurd z (by omega)) (fun _ => pk_le high low (fun _ => H1 low h1 (by omega) g h) (fun z => nm_r (e' := nI ((low + high + 1) / 2)) ?_ ?_))
    · rw [nI_add, nI_1]
      exact pk_shrN (by omega) _ 1 rfl
    · refine cn_isInTime hK hC hs hs2 (by omega) hd (fun _ g' h' => br_t rfl ?_) (fun _ g' h' => br_f (by decide) ?_)
      · exact nm_r (e' := nI ((low + high + 1) / 2 - 1)) (pk_sub (b := 1) (by omega)) (nm_r (nI_1 i) (hw (low, (low + high + 1) / 2 - 1, g', h') ⟨h1, by dsimp only; omega, by dsimp only; omega⟩))
      · exact nm_r (nI_1 i) (hw ((low + high + 1) / 2, high, g', h') ⟨by dsimp only; omega, by dsimp only; omega, h3⟩)
theorem cn_latest {post : Int32 → St1 → Prop} {fb fq : Int32} {a1 a2 a3 a4 a5 a6 a7 a8 a9 a10 a11 a12 a13 a14 a15 a16 a17 a18 a19 a20 a21 : Nat → Int32} {X Y : Nat → Int32} {C N s d : Nat} {x : Int32} (hK : cn_K X Y C a2 a3 a4 a5 a6 a7) (hC : C ≤ 10) (hs : 1 ≤ s) (hs2 : s ≤ 30) (hN : N ≤ 10000) (hd : d ≤ 10000)
    (H0 : ¬ (cn_R C X Y a1 a8 s (cn_fr x) N 5 (cn_to x) < 1000000 ∧ cn_R C X Y a1 a8 s (cn_fr x) N 5 (cn_to x) ≤ d) → ∀ g h, post (-4) (nI C, fb, nI N, fq, a1, a2, a3, a4, a5, a6, a7, a8, a9, a10, a11, a12, a13, a14, a15, a16, a17, a18, a19, g, h))
    (H1 : (cn_R C X Y a1 a8 s (cn_fr x) N 5 (cn_to x) < 1000000 ∧ cn_R C X Y a1 a8 s (cn_fr x) N 5 (cn_to x) ≤ d) → ∀ low, N ≤ low → low ≤ 100 → ∀ g h, post (nI low) (nI C, fb, nI N, fq, a1, a2, a3, a4, a5, a6, a7, a8, a9, a10, a11, a12, a13, a14, a15, a16, a17, a18, a19, g, h)) :
    wpX_latest post (nI C, fb, nI N, fq, a1, a2, a3, a4, a5, a6, a7, a8, a9, a10, a11, a12, a13, a14, a15, a16, a17, a18, a19, a20, a21) (nI (6 * cn_fr x + cn_to x)) (nI s) (nI d) := by
  unfold wpX_latest
  dsimp only
  have l2 := cn_fr_lt x
  have l3 := cn_to_lt x
  refine cn_areEnds l2 l3 (cn_ft x) (br_f (by decide) (cn_isSize hs hs2 (br_f (by decide) (pk_lt 100 N (fun z => H0 (fun h => ?_) a20 a21) (fun z => ?_)))))
  · rw [cn_R_late 5 (by omega) (by omega) (cn_ft x)] at h
    exact absurd h.1 (by omega)
  · refine cn_isInTime hK hC hs hs2 hN hd (fun hn g h => br_t rfl (H0 hn g h)) (fun hn g h => br_f (by decide) ?_)
    exact cn_lt55 hK hC hs hs2 z hd (H1 hn)
theorem cn_pass {post : Int32 → St1 → Prop} {fc fb fq : Int32} {a1 a2 a3 a4 a5 a6 a7 a8 a9 a10 a11 a12 a13 a14 a15 a16 a17 a18 a19 a20 a21 : Nat → Int32} {N d : Nat} (hN : N ≤ 10000) (hd : d ≤ 15) (H : post (nI (N + d)) (fc, fb, nI (N + d), fq, a1, a2, a3, a4, a5, a6, a7, a8, a9, a10, a11, a12, a13, a14, a15, a16, a17, a18, a19, a20, a21)) : wpX_pass post (fc, fb, nI N, fq, a1, a2, a3, a4, a5, a6, a7, a8, a9, a10, a11, a12, a13, a14, a15, a16, a17, a18, a19, a20, a21) (nI d) :=
  br_f (nI_pos (by omega)) (pk_le d 200 (fun _ => nm_r (nI_add N d) H) (fun z => absurd z (by omega)))
end
section
/-! rows of six-bit parts in a long; a long as a set of bits -/
theorem cn_wbc : ∀ k, k < 64 → ((nI k).toInt64 &&& 63) = lN k := by decide +kernel
theorem cn_wbcu : ∀ k, k < 64 → ((nI k).toInt64.toUInt64 &&& Int64.toUInt64 63) = UInt64.ofNat k := by decide +kernel
theorem cn_wbsm : ∀ k, k < 64 → (BitVec.ofNat 64 k).smod 64 = BitVec.ofNat 64 k := by decide +kernel
theorem cn_shlb (a : Int64) {k : Nat} (hk : k < 64) : (a <<< ((nI k).toInt64 &&& 63)).toBitVec = a.toBitVec <<< k := by
  rw [cn_wbc k hk, Int64.toBitVec_shiftLeft]
  show a.toBitVec <<< ((BitVec.ofNat 64 k).smod 64) = _
  rw [cn_wbsm k hk, BitVec.shiftLeft_eq', BitVec.toNat_ofNat, Nat.mod_eq_of_lt (by omega)]
theorem cn_shrb (a : Int64) {k : Nat} (hk : k < 64) : ((a.toUInt64 >>> ((nI k).toInt64.toUInt64 &&& Int64.toUInt64 63)).toInt64).toBitVec = a.toBitVec >>> k := by
  rw [cn_wbcu k hk]
  apply BitVec.eq_of_toNat_eq
  show (a.toUInt64 >>> UInt64.ofNat k).toNat = _
  have h1 : (UInt64.ofNat k).toNat = k := by
    show (BitVec.ofNat 64 k).toNat = k
    rw [BitVec.toNat_ofNat, Nat.mod_eq_of_lt (by omega)]
  rw [UInt64.toNat_shiftRight, h1, Nat.mod_eq_of_lt hk, BitVec.toNat_ushiftRight]
  rfl
theorem cn_63_32 : ∀ q, q < 32 → (63 : Int32).toBitVec.getLsbD q = decide (q < 6) := by decide +kernel
theorem cn_63_64 : ∀ q, q < 64 → (63 : Int64).toBitVec.getLsbD q = decide (q < 6) := by decide +kernel
theorem cn_tb {x q : Nat} (hx : x < 64) (hq : 6 ≤ q) : x.testBit q = false := by
  refine Nat.testBit_lt_two_pow ?_
  have : 2 ^ 6 ≤ 2 ^ q := Nat.pow_le_pow_right (by decide) hq
  omega
theorem cn_6m (i : Nat) : (6 : Int32) * nI i = nI (6 * i) := by rw [cn_l6, pk_mul]
theorem cn_part_val {w : Int64} {i x : Nat} (hi : i < 10) (hx : x < 64) (h : ∀ p, p < 6 → w.toBitVec.getLsbD (6 * i + p) = x.testBit p) : ((((w.toUInt64 >>> ((6 * nI i).toInt64.toUInt64 &&& Int64.toUInt64 63)).toInt64).toInt32) &&& 63) = nI x := by
  rw [cn_6m]
  apply Int32.toBitVec_inj.mp
  apply BitVec.eq_of_getLsbD_eq
  intro q hq
  rw [Int32.toBitVec_and, BitVec.getLsbD_and, cn_63_32 q hq, Int64.toBitVec_toInt32, cn_shrb w (by omega), BitVec.getLsbD_signExtend, if_pos (show q < 64 by omega), BitVec.getLsbD_ushiftRight]
  show _ = (BitVec.ofNat 32 x).getLsbD q
  rw [BitVec.getLsbD_ofNat]
  by_cases z : q < 6
  · have := h q z
    simp [hq, z, this]
  · simp [z, cn_tb hx (show 6 ≤ q by omega)]
theorem cn_with_bt {w : Int64} {i x q : Nat} (hi : i < 10) (hx : x < 64) (hq : q < 64) : ((w &&& (((63 : Int64) <<< ((6 * nI i).toInt64 &&& 63)) ^^^ (-1))) ||| ((nI x).toInt64 <<< ((6 * nI i).toInt64 &&& 63))).toBitVec.getLsbD q = if 6 * i ≤ q ∧ q < 6 * i + 6 then x.testBit (q - 6 * i) else w.toBitVec.getLsbD q := by
  have ha : (-1 : Int64).toBitVec = BitVec.allOnes 64 := by decide
  have hxl : (nI x).toInt64 = lN x := nI_l (by omega)
  have hlx : (lN x).toBitVec = BitVec.ofNat 64 x := rfl
  rw [cn_6m, Int64.toBitVec_or, Int64.toBitVec_and, Int64.toBitVec_xor, cn_shlb _ (by omega), cn_shlb _ (by omega), ha, hxl, hlx, BitVec.getLsbD_or, BitVec.getLsbD_and, BitVec.getLsbD_xor, BitVec.getLsbD_shiftLeft, BitVec.getLsbD_shiftLeft, BitVec.getLsbD_allOnes, BitVec.getLsbD_ofNat, cn_63_64 _ (by omega)]
  by_cases z1 : 6 * i ≤ q
  · by_cases z2 : q < 6 * i + 6
    · rw [if_pos ⟨z1, z2⟩]
      simp [hq, show ¬ q < 6 * i by omega, show q - 6 * i < 6 by omega, show q - 6 * i < 64 by omega]
    · rw [if_neg (by omega)]
      simp [hq, show ¬ q - 6 * i < 6 by omega, cn_tb hx (show 6 ≤ q - 6 * i by omega)]
  · rw [if_neg (by omega)]
    simp [hq, show q < 6 * i by omega]
/-- the parts of a long hold p 0 .. p (n - 1) -/
def cn_row (w : Int64) (p : Nat → Nat) (n : Nat) : Prop := ∀ k, k < n → p k < 64 ∧ ∀ j, j < 6 → w.toBitVec.getLsbD (6 * k + j) = (p k).testBit j
theorem cn_part {post : Int32 → Prop} {w : Int64} {p : Nat → Nat} {n k : Nat} (h : cn_row w p n) (hn : n ≤ 10) (hk : k < n) (hp : post (nI (p k))) : wpL_part post () w (nI k) := by
  unfold wpL_part
  rw [cn_part_val (by omega) (h k hk).1 (h k hk).2]
  exact hp
theorem cn_cellOf {post : Int32 → Prop} {L : Nat} {xs : Nat → Int32} {w : Int64} {p : Nat → Nat} {n k : Nat} (h : cn_row w p n) (hn : n ≤ 10) (hk : k < n) (hL : p k + 1 < L) (hL2 : L ≤ 260) (hp : post (xs (p k + 1))) : wpL_cellOf post L xs () w (nI k) := by
  unfold wpL_cellOf
  have hx := (h k hk).1
  refine cn_part h hn hk ⟨pk_in (p k + 1) L hL (nI_1 _), ?_⟩
  rw [nI_1, nI_clamp (by omega)]
  exact hp
theorem cn_with {post : Int64 → Prop} {w : Int64} {p : Nat → Nat} {n x : Nat} (h : cn_row w p n) (hn : n < 10) (hx : x < 64) (hp : ∀ w', cn_row w' (cn_ups p n x) (n + 1) → post w') : wpL_with post () w (nI n) (nI x) := by
  unfold wpL_with
  refine hp _ (fun k hk => ?_)
  by_cases e : k = n
  · subst e
    rw [cn_ups_s]
    refine ⟨hx, fun j hj => ?_⟩
    rw [cn_with_bt (by omega) hx (by omega), if_pos (by omega), show 6 * k + j - 6 * k = j by omega]
  · rw [cn_ups_n e]
    refine ⟨(h k (by omega)).1, fun j hj => ?_⟩
    rw [cn_with_bt (by omega) hx (by omega), if_neg (by omega)]
    exact (h k (by omega)).2 j hj
/-- bit t of a pair of longs: set below 64, high from 64 on -/
theorem cn_one {t : Nat} (ht : t < 128) : ((1 : Int64) <<< ((nI t &&& 63).toInt64 &&& 63)).toBitVec = BitVec.twoPow 64 (t % 64) := by
  have e : nI t &&& 63 = nI (t % 64) := pk_andN (by omega) 6 rfl
  rw [e, cn_shlb _ (by omega)]
  rfl
theorem cn_and0 {z m : Int64} {k : Nat} (hk : k < 64) (hm : m.toBitVec = BitVec.twoPow 64 k) (hz : z.toBitVec.getLsbD k = false) : (z &&& m) = 0 := by
  apply Int64.toBitVec_inj.mp
  rw [Int64.toBitVec_and, hm, BitVec.and_twoPow, hz]
  rfl
theorem cn_or_bt {z m : Int64} {k : Nat} (hk : k < 64) (hm : m.toBitVec = BitVec.twoPow 64 k) (q : Nat) : (z ||| m).toBitVec.getLsbD q = (z.toBitVec.getLsbD q || decide (k = q)) := by
  rw [Int64.toBitVec_or, hm, BitVec.getLsbD_or, BitVec.getLsbD_twoPow]
  simp [hk]
def cn_bits (lo hi : Int64) (c : Nat → Nat) : Prop := (∀ t, t < 64 → lo.toBitVec.getLsbD t = decide (0 < c t)) ∧ (∀ t, t < 64 → hi.toBitVec.getLsbD t = decide (0 < c (64 + t)))
theorem cn_bits_0 {c : Nat → Nat} (h : ∀ t, c t = 0) : cn_bits 0 0 c := by
  refine ⟨fun t ht => ?_, fun t ht => ?_⟩
  · rw [h]
    exact BitVec.getLsbD_zero
  · rw [h]
    exact BitVec.getLsbD_zero
theorem cn_bits_c {lo hi : Int64} {c c' : Nat → Nat} (h : ∀ t, c' t = c t) (hb : cn_bits lo hi c) : cn_bits lo hi c' :=
  ⟨fun t ht => by rw [h]; exact hb.1 t ht, fun t ht => by rw [h]; exact hb.2 t ht⟩
theorem cn_bits_lo {lo hi m : Int64} {c c' : Nat → Nat} {t : Nat} (ht : t < 64) (hm : m.toBitVec = BitVec.twoPow 64 t) (hb : cn_bits lo hi c) (h1 : 0 < c' t) (h2 : ∀ u, u ≠ t → c' u = c u) : cn_bits (lo ||| m) hi c' := by
  refine ⟨fun u hu => ?_, fun u hu => ?_⟩
  · rw [cn_or_bt ht hm]
    by_cases e : t = u
    · subst e
      simp [h1]
    · rw [h2 u (fun z => e z.symm), hb.1 u hu]
      simp [e]
  · rw [h2 _ (by omega)]
    exact hb.2 u hu
theorem cn_bits_hi {lo hi m : Int64} {c c' : Nat → Nat} {t : Nat} (ht : t < 64) (hm : m.toBitVec = BitVec.twoPow 64 t) (hb : cn_bits lo hi c) (h1 : 0 < c' (64 + t)) (h2 : ∀ u, u ≠ 64 + t → c' u = c u) : cn_bits lo (hi ||| m) c' := by
  refine ⟨fun u hu => ?_, fun u hu => ?_⟩
  · rw [h2 _ (by omega)]
    exact hb.1 u hu
  · rw [cn_or_bt ht hm]
    by_cases e : t = u
    · subst e
      simp [h1]
    · rw [h2 _ (by omega), hb.2 u hu]
      simp [e]
end
section
/-! bookings: the cover, hop by hop -/
def cn_pc (Y V : Nat → Int32) (hc : Nat → Nat) (hk hb : Nat → Nat → Nat) (b i k t : Nat) : Nat := cn_cv Y V hc hk hb b k t + cn_cb Y (cn_sz (V b)) (hk b) (hb b) i k t
def cn_ps (Y V : Nat → Int32) (hc : Nat → Nat) (hk hb : Nat → Nat → Nat) (b i k : Nat) : Nat := cn_sum (fun t => cn_pc Y V hc hk hb b i k t) 101
theorem cn_pc_s {Y V : Nat → Int32} {hc : Nat → Nat} {hk hb : Nat → Nat → Nat} {b i k t : Nat} : cn_pc Y V hc hk hb b (i + 1) k t = cn_pc Y V hc hk hb b i k t + cn_iv (hk b i) (hb b i) (cn_tk (cn_sz (V b)) (cn_rt (Y (hk b i)))) k t := by
  unfold cn_pc
  rw [cn_cb_s, Nat.add_assoc]
theorem cn_pc_e {Y V : Nat → Int32} {hc : Nat → Nat} {hk hb : Nat → Nat → Nat} {b k t : Nat} : cn_pc Y V hc hk hb (b + 1) 0 k t = cn_pc Y V hc hk hb b (hc b) k t := rfl
theorem cn_pc_0 {Y V : Nat → Int32} {hc : Nat → Nat} {hk hb : Nat → Nat → Nat} {b k t : Nat} : cn_pc Y V hc hk hb b 0 k t = cn_cv Y V hc hk hb b k t := rfl
theorem cn_pc_le {Y V : Nat → Int32} {hc : Nat → Nat} {hk hb : Nat → Nat → Nat} {B b i k t : Nat} (hB : b < B) (hi : i ≤ hc b) : cn_pc Y V hc hk hb b i k t ≤ cn_cv Y V hc hk hb B k t := by
  have h1 : cn_cb Y (cn_sz (V b)) (hk b) (hb b) i k t ≤ cn_cb Y (cn_sz (V b)) (hk b) (hb b) (hc b) k t := cn_sum_le hi
  have h2 : cn_cv Y V hc hk hb (b + 1) k t ≤ cn_cv Y V hc hk hb B k t := cn_sum_le hB
  have h3 : cn_cv Y V hc hk hb (b + 1) k t = cn_cv Y V hc hk hb b k t + cn_cb Y (cn_sz (V b)) (hk b) (hb b) (hc b) k t := rfl
  unfold cn_pc
  omega
theorem cn_ps_e {Y V : Nat → Int32} {hc : Nat → Nat} {hk hb : Nat → Nat → Nat} {b k : Nat} : cn_ps Y V hc hk hb (b + 1) 0 k = cn_ps Y V hc hk hb b (hc b) k := cn_sum_c (fun _ _ => cn_pc_e)
theorem cn_ps_s {Y V : Nat → Int32} {hc : Nat → Nat} {hk hb : Nat → Nat → Nat} {b i k : Nat} : cn_ps Y V hc hk hb b (i + 1) k = cn_ps Y V hc hk hb b i k + cn_sum (fun t => cn_iv (hk b i) (hb b i) (cn_tk (cn_sz (V b)) (cn_rt (Y (hk b i)))) k t) 101 := by
  unfold cn_ps
  rw [← cn_sum_add]
  exact cn_sum_c (fun _ _ => cn_pc_s)
theorem cn_hd {k t : Nat} (hk : k < 10) (ht : t < 1000) : nI (1000 * k + t) / 1000 = nI k := by
  rw [show (1000 : Int32) = nI 1000 from rfl, pk_div (by omega) (by omega) (by omega), show (1000 * k + t) / 1000 = k by omega]
theorem cn_hr {k t : Nat} (hk : k < 10) (ht : t < 1000) : nI (1000 * k + t) - nI (1000 * k + t) / 1000 * 1000 = nI t := by
  rw [show (1000 : Int32) = nI 1000 from rfl, pk_rem (by omega) (by omega) (by omega), show (1000 * k + t) % 1000 = t by omega]
theorem cn_iv_n {k b n t : Nat} (h : t ≠ b + n) : cn_iv k b (n + 1) k t = cn_iv k b n k t := by
  by_cases z : b ≤ t ∧ t < b + n
  · rw [cn_iv_1 ⟨rfl, z⟩, cn_iv_1 ⟨rfl, by omega, by omega⟩]
  · rw [cn_iv_0 (fun q => z q.2), cn_iv_0 (by omega)]
theorem cn_b146 {post : Int32 → Prop} {L : Nat} {xs : Nat → Int32} {J3 : Int32 → Prop} {J31 J61 : Int32 → Int64 → Int64 → Int32 → Prop} {x2 x5 : Int64} {x4 x7 x8 x9 x10 x15 x16 : Int32} {fc fb fw fq : Int32} {a1 a2 a3 a4 a5 a6 a7 a8 a9 a10 a11 a12 a13 a14 a15 a16 a17 a18 a19 a20 a21 : Nat → Int32} {i kk t0 n : Nat} {lo hi : Int64} {c : Nat → Nat}
    (hkk : kk < 10) (ht : t0 + n ≤ 128) (hb : cn_bits lo hi c) (h0 : ∀ t, t0 ≤ t → t < t0 + n → c t = 0)
    (H : ∀ lo' hi', cn_bits lo' hi' (fun t => c t + cn_iv kk t0 n kk t) → J61 (x10 + nI n) lo' hi' (nI (i + 1))) :
    ∃ m, wL_bookings_146 post L xs J3 J31 J61 x2 x4 x5 x7 x8 x9 x10 x15 x16 (nI i) (nI (1000 * kk + t0)) (nI n) fc fb fw fq a1 a2 a3 a4 a5 a6 a7 a8 a9 a10 a11 a12 a13 a14 a15 a16 a17 a18 a19 a20 a21 m lo hi (nI t0) := by
  have n1000 : ¬ (1000 : Int32) = 0 := by decide
  have er := cn_hr hkk (show t0 < 1000 by omega)
  have es : nI (1000 * kk + t0) - nI (1000 * kk + t0) / 1000 * 1000 + nI n = nI (t0 + n) := by rw [er, nI_add]
  refine pk_loop (fun m t (p : Int64 × Int64) => wL_bookings_146 post L xs J3 J31 J61 x2 x4 x5 x7 x8 x9 x10 x15 x16 (nI i) (nI (1000 * kk + t0)) (nI n) fc fb fw fq a1 a2 a3 a4 a5 a6 a7 a8 a9 a10 a11 a12 a13 a14 a15 a16 a17 a18 a19 a20 a21 m p.1 p.2 (nI t)) (fun t p => t0 ≤ t ∧ cn_bits p.1 p.2 (fun u => c u + cn_iv kk t0 (t - t0) kk u)) (t0 + n) t0 (lo, hi) (by omega) ⟨Nat.le_refl _, cn_bits_c (fun u => ?_) hb⟩ ?_ ?_
  · show c u + cn_iv kk t0 (t0 - t0) kk u = c u
    rw [cn_iv_0 (by omega), Nat.add_zero]
  · intro m p hp
    obtain ⟨_, hp⟩ := hp
    rw [show t0 + n - t0 = n by omega] at hp
    exact ⟨n1000, pk_le (t0 + n) (t0 + n) (fun _ => nm_e (nm_r (nI_1 i) (H p.1 p.2 hp))) (fun z => absurd z (by omega)) es⟩
  · intro m t p hlt hp hw
    obtain ⟨lo', hi'⟩ := p
    obtain ⟨htt, hp⟩ := hp
    dsimp only at hp
    have hm := cn_one (show t < 128 by omega)
    have hc0 := h0 t htt hlt
    have hz : cn_iv kk t0 (t - t0) kk t = 0 := cn_iv_0 (by omega)
    have hs : ∀ u, u ≠ t → c u + cn_iv kk t0 (t + 1 - t0) kk u = c u + cn_iv kk t0 (t - t0) kk u := by
      intro u hu
      rw [show t + 1 - t0 = (t - t0) + 1 by omega, cn_iv_n (by omega)]
    have h1 : cn_iv kk t0 (t + 1 - t0) kk t = 1 := cn_iv_1 (by omega)
    show wL_bookings_146 post L xs J3 J31 J61 x2 x4 x5 x7 x8 x9 x10 x15 x16 (nI i) (nI (1000 * kk + t0)) (nI n) fc fb fw fq a1 a2 a3 a4 a5 a6 a7 a8 a9 a10 a11 a12 a13 a14 a15 a16 a17 a18 a19 a20 a21 (m + 1) lo' hi' (nI t)
    refine ⟨n1000, pk_le (t0 + n) t (fun z => absurd z (by omega)) (fun _ => nm_e (pk_le 64 t (fun g => br_t (cn_and0 (by omega) hm ?_) (pk_le 64 t (fun _ => pk_le 64 t (fun _ => nm_e (nm_r (nI_1 t) (hw (lo', _) ⟨by omega, ?_⟩))) (fun z => absurd z (by omega))) (fun z => absurd z (by omega)))) (fun g => br_t (cn_and0 (by omega) hm ?_) (pk_le 64 t (fun z => absurd z (by omega)) (fun _ => pk_le 64 t (fun z => absurd z (by omega)) (fun _ => nm_r (nI_1 t) (hw (_, hi') ⟨by omega, ?_⟩))))))) es⟩
    · rw [show t % 64 = t - 64 by omega, hp.2 _ (by omega)]
      refine decide_eq_false ?_
      show ¬ 0 < c (64 + (t - 64)) + cn_iv kk t0 (t - t0) kk (64 + (t - 64))
      rw [show 64 + (t - 64) = t by omega, hc0, hz]
      omega
    · rw [show t % 64 = t - 64 by omega] at hm
      refine cn_bits_hi (t := t - 64) (by omega) hm hp ?_ (fun u hu => hs u (by omega))
      rw [show 64 + (t - 64) = t by omega, h1]
      omega
    · rw [show t % 64 = t by omega, hp.1 _ (by omega)]
      refine decide_eq_false ?_
      show ¬ 0 < c t + cn_iv kk t0 (t - t0) kk t
      rw [hc0, hz]
      omega
    · rw [show t % 64 = t by omega] at hm
      refine cn_bits_lo (by omega) hm hp ?_ (fun u hu => hs u (by omega))
      rw [h1]
      omega
theorem cn_b61 {post : Int32 → Prop} {L : Nat} {xs : Nat → Int32} {J3 : Int32 → Prop} {J31 : Int32 → Int64 → Int64 → Int32 → Prop} {x2 x5 : Int64} {x4 x7 : Int32} {fc fw fq : Int32} {a1 a2 a3 a4 a5 a6 a7 a8 a9 a10 a11 a12 a13 a14 a15 a16 a17 a18 a19 a20 a21 : Nat → Int32} {X Y U V : Nat → Int32} {C B b k : Nat} {hc : Nat → Nat} {hk hb : Nat → Nat → Nat} {lo hi : Int64}
    (hI : cn_I X Y U V C B hc hk hb a2 a3 a4 a5 a6 a7 a8 a9 a10 a11 a12 a15 a16 a17) (hB : b < B) (hkC : k < C) (hbt : cn_bits lo hi (cn_pc Y V hc hk hb b 0 k))
    (H : ∀ lo' hi', cn_bits lo' hi' (cn_pc Y V hc hk hb (b + 1) 0 k) → J31 (nI (cn_ps Y V hc hk hb (b + 1) 0 k)) lo' hi' (nI (b + 1))) :
    ∃ m, wL_bookings_61 post L xs J3 J31 x2 x4 x5 x7 (nI k) (Y k) (nI b) (nI (cn_sz (V b))) fc (nI B) fw fq a1 a2 a3 a4 a5 a6 a7 a8 a9 a10 a11 a12 a13 a14 a15 a16 a17 a18 a19 a20 a21 m (nI (cn_ps Y V hc hk hb b 0 k)) lo hi 0 := by
  have n1000 : ¬ (1000 : Int32) = 0 := by decide
  have hC := hI.1
  have hB10 := hI.2.1
  have hW := hI.2.2.2.2.1
  have h95 := cn_W_n hW hB
  have hsz := cn_sz_in (V b)
  refine pk_loop (fun m i (p : Int64 × Int64) => wL_bookings_61 post L xs J3 J31 x2 x4 x5 x7 (nI k) (Y k) (nI b) (nI (cn_sz (V b))) fc (nI B) fw fq a1 a2 a3 a4 a5 a6 a7 a8 a9 a10 a11 a12 a13 a14 a15 a16 a17 a18 a19 a20 a21 m (nI (cn_ps Y V hc hk hb b i k)) p.1 p.2 (nI i)) (fun i p => cn_bits p.1 p.2 (cn_pc Y V hc hk hb b i k)) (hc b) 0 (lo, hi) (by omega) hbt ?_ ?_
  · intro m p hp
    obtain ⟨lo', hi'⟩ := p
    dsimp only at hp
    show wL_bookings_61 post L xs J3 J31 x2 x4 x5 x7 (nI k) (Y k) (nI b) (nI (cn_sz (V b))) fc (nI B) fw fq a1 a2 a3 a4 a5 a6 a7 a8 a9 a10 a11 a12 a13 a14 a15 a16 a17 a18 a19 a20 a21 (m + 1) (nI (cn_ps Y V hc hk hb b (hc b) k)) lo' hi' (nI (hc b))
    unfold wL_bookings_61
    refine cn_hops hI hB (pk_le (hc b) (hc b) (fun _ => nm_r (nI_1 b) ?_) (fun z => absurd z (by omega)))
    rw [← cn_ps_e]
    exact H lo' hi' (cn_bits_c (fun _ => cn_pc_e) hp)
  · intro m i p hi' hp hw
    obtain ⟨lo', hi''⟩ := p
    dsimp only at hp
    obtain ⟨q1, q2, q3, q4, q5⟩ := hW.1 b hB i hi'
    have hx := cn_hop_i hsz.1 (hW.1 b hB) hi'
    have hen := cn_en_lt (Y (hk b i))
    have ed := cn_hd (show hk b i < 10 by omega) (show hb b i < 1000 by omega)
    have er := cn_hr (show hk b i < 10 by omega) (show hb b i < 1000 by omega)
    show wL_bookings_61 post L xs J3 J31 x2 x4 x5 x7 (nI k) (Y k) (nI b) (nI (cn_sz (V b))) fc (nI B) fw fq a1 a2 a3 a4 a5 a6 a7 a8 a9 a10 a11 a12 a13 a14 a15 a16 a17 a18 a19 a20 a21 (m + 1) (nI (cn_ps Y V hc hk hb b i k)) lo' hi'' (nI i)
    unfold wL_bookings_61
    refine cn_hops hI hB (pk_le (hc b) i (fun z => absurd z (by omega)) (fun _ => cn_hop_ hI hB hi' ⟨n1000, pk_eq (hk b i) k (fun z => ?_) (fun z => nm_r (nI_1 i) ?_) ed⟩))
    · rw [z] at q4 q5 hen
      have hrt := cn_rt_in (Y k)
      have hps : cn_ps Y V hc hk hb b (i + 1) k = cn_ps Y V hc hk hb b i k + cn_tk (cn_sz (V b)) (cn_rt (Y k)) := by
        rw [cn_ps_s, z, cn_iv_sum]
        omega
      refine cn_rate (cn_ticks hsz.1 (by omega) hrt.1 (by omega) ⟨n1000, cn_start (pk_lt (hb b i) (cn_st (Y k)) (fun z => absurd z (by omega)) (fun _ => ⟨n1000, cn_stop (pk_le (hb b i + cn_tk (cn_sz (V b)) (cn_rt (Y k))) (cn_en (Y k)) (fun _ => ⟨n1000, nm_r er ?_⟩) (fun z => absurd z (by omega)) (by rw [er, nI_add]))⟩) er)⟩)
      refine cn_b146 (c := cn_pc Y V hc hk hb b i k) (by omega) (by omega) hp (fun t t1 t2 => ?_) (fun lo2 hi2 h2 => ?_)
      · have h1 := hW.2 k t
        have h2 := cn_pc_le (Y := Y) (V := V) (hk := hk) (hb := hb) (k := k) (t := t) hB (show i + 1 ≤ hc b by omega)
        rw [cn_pc_s, z, cn_iv_1 ⟨rfl, t1, t2⟩] at h2
        omega
      · rw [nI_add, ← hps]
        refine hw (lo2, hi2) (cn_bits_c (fun t => ?_) h2)
        rw [cn_pc_s, z]
    · have hps : cn_ps Y V hc hk hb b (i + 1) k = cn_ps Y V hc hk hb b i k := by
        rw [cn_ps_s, cn_iv_sum0 z, Nat.add_zero]
      rw [← hps]
      refine hw (lo', hi'') (cn_bits_c (fun t => ?_) hp)
      rw [cn_pc_s, cn_iv_0 (fun h => z h.1), Nat.add_zero]
theorem cn_b31 {post : Int32 → Prop} {L : Nat} {xs : Nat → Int32} {J3 : Int32 → Prop} {x2 x5 : Int64} {x4 : Int32} {fw fq : Int32} {a1 a2 a3 a4 a5 a6 a7 a8 a9 a10 a11 a12 a13 a14 a15 a16 a17 a18 a19 a20 a21 : Nat → Int32} {X Y U V : Nat → Int32} {C B k : Nat} {hc : Nat → Nat} {hk hb : Nat → Nat → Nat} {pb : Nat → Nat}
    (hI : cn_I X Y U V C B hc hk hb a2 a3 a4 a5 a6 a7 a8 a9 a10 a11 a12 a15 a16 a17) (hkC : k < C) (hL : L ≤ 260) (hr : cn_row x5 pb B) (hV : ∀ b, b < B → pb b + 1 < L ∧ U b = xs (pb b) ∧ V b = xs (pb b + 1))
    (H : J3 (nI (k + 1))) :
    ∃ m, wL_bookings_31 post L xs J3 x2 x4 x5 (nI B) (nI k) (Y k) (nI C) (nI B) fw fq a1 a2 a3 a4 a5 a6 a7 a8 a9 a10 a11 a12 a13 a14 a15 a16 a17 a18 a19 a20 a21 m 0 0 0 0 := by
  have hB10 := hI.2.1
  have e0 : cn_ps Y V hc hk hb 0 0 k = 0 := cn_sum_0 (fun _ _ => rfl)
  have start : ∃ m, wL_bookings_31 post L xs J3 x2 x4 x5 (nI B) (nI k) (Y k) (nI C) (nI B) fw fq a1 a2 a3 a4 a5 a6 a7 a8 a9 a10 a11 a12 a13 a14 a15 a16 a17 a18 a19 a20 a21 m (nI (cn_ps Y V hc hk hb 0 0 k)) 0 0 (nI 0) := by
    refine pk_loop (fun m b (p : Int64 × Int64) => wL_bookings_31 post L xs J3 x2 x4 x5 (nI B) (nI k) (Y k) (nI C) (nI B) fw fq a1 a2 a3 a4 a5 a6 a7 a8 a9 a10 a11 a12 a13 a14 a15 a16 a17 a18 a19 a20 a21 m (nI (cn_ps Y V hc hk hb b 0 k)) p.1 p.2 (nI b)) (fun b p => cn_bits p.1 p.2 (cn_pc Y V hc hk hb b 0 k)) B 0 (0, 0) (by omega) (cn_bits_0 (fun _ => rfl)) ?_ ?_
    · intro m p hp
      have eS : cn_sum (fun t => cn_cv Y V hc hk hb B k t) 101 = cn_ps Y V hc hk hb B 0 k := cn_sum_c (fun _ _ => rfl)
      have hle : cn_ps Y V hc hk hb B 0 k < 2 ^ 31 := by
        have : ∀ n, cn_sum (fun t => cn_pc Y V hc hk hb B 0 k t) n ≤ n := by
          intro n
          induction n with
          | zero => exact Nat.le_refl _
          | succ n ih =>
            have h1 : cn_pc Y V hc hk hb B 0 k n ≤ 1 := hI.2.2.2.2.1.2 k n
            show cn_sum (fun t => cn_pc Y V hc hk hb B 0 k t) n + cn_pc Y V hc hk hb B 0 k n ≤ n + 1
            omega
        have := this 101
        unfold cn_ps
        omega
      refine pk_le B B (fun _ => cn_booked hI hkC (fun _ => br_t rfl (nm_r (nI_1 k) H)) (fun h1 => br_f (fun z => ?_) (cn_booked hI hkC (fun h2 => absurd h1 h2) (fun _ => br_t (by rw [eS]) (nm_r (nI_1 k) H))))) (fun z => absurd z (by omega))
      rw [eS] at z
      have := nI_pos hle
      rw [z] at this
      exact this (by decide)
    · intro m b p hb' hp hw
      obtain ⟨lo', hi'⟩ := p
      dsimp only at hp
      obtain ⟨v1, v2, v3⟩ := hV b hb'
      have h64 := (hr b hb').1
      refine pk_le B b (fun z => absurd z (by omega)) (fun _ => cn_part hr hB10 hb' ⟨pk_in (pb b + 1) L v1 (nI_1 _), nm_r (e' := nI (cn_sz (V b))) (by rw [nI_1, nI_clamp (by omega), v3]; exact cn_sze _) ?_⟩)
      exact cn_b61 hI hb' hkC hp (fun lo2 hi2 h2 => hw (lo2, hi2) h2)
  rw [e0] at start
  exact start
end
section
/-! bookings as a whole; follows -/
theorem cn_bookings {post : Int32 → Prop} {L : Nat} {xs : Nat → Int32} {x2 x5 : Int64} {fw fq : Int32} {a1 a2 a3 a4 a5 a6 a7 a8 a9 a10 a11 a12 a13 a14 a15 a16 a17 a18 a19 a20 a21 : Nat → Int32} {X Y U V : Nat → Int32} {C B : Nat} {hc : Nat → Nat} {hk hb : Nat → Nat → Nat} {pc pb : Nat → Nat}
    (hI : cn_I X Y U V C B hc hk hb a2 a3 a4 a5 a6 a7 a8 a9 a10 a11 a12 a15 a16 a17) (hL : L ≤ 260) (hA : cn_row x2 pc C) (hX : ∀ k, k < C → pc k + 1 < L ∧ X k = xs (pc k) ∧ Y k = xs (pc k + 1)) (hr : cn_row x5 pb B) (hV : ∀ b, b < B → pb b + 1 < L ∧ U b = xs (pb b) ∧ V b = xs (pb b + 1)) (hp : post 1) :
    wpL_bookings post L xs (nI C, nI B, fw, fq, a1, a2, a3, a4, a5, a6, a7, a8, a9, a10, a11, a12, a13, a14, a15, a16, a17, a18, a19, a20, a21) x2 (nI C) x5 (nI B) := by
  have hC := hI.1
  refine pk_loop (fun m k (_ : Unit) => wL_bookings_3 post L xs x2 (nI C) x5 (nI B) (nI C) (nI B) fw fq a1 a2 a3 a4 a5 a6 a7 a8 a9 a10 a11 a12 a13 a14 a15 a16 a17 a18 a19 a20 a21 m (nI k)) (fun _ _ => True) C 0 () (by omega) trivial ?_ ?_
  · intro m _ _
    exact pk_le C C (fun _ => hp) (fun z => absurd z (by omega))
  · intro m k _ hk' _ hw
    refine pk_le C k (fun z => absurd z (by omega)) (fun _ => cn_cellOf hA hC hk' (hX k hk').1 hL ?_)
    rw [← (hX k hk').2.2]
    exact cn_b31 hI hk' hL hr hV (hw () trivial)
theorem cn_f37 {post : Int32 → Prop} {L : Nat} {xs : Nat → Int32} {x2 : Int64} {fc fq : Int32} {a1 a2 a3 a4 a5 a6 a7 a8 a9 a10 a11 a12 a13 a14 a15 a16 a17 a18 a19 a20 a21 : Nat → Int32} {X Y U V : Nat → Int32} {C B N b : Nat} {hc : Nat → Nat} {hk hb : Nat → Nat → Nat} {pc : Nat → Nat}
    (hI : cn_I X Y U V C B hc hk hb a2 a3 a4 a5 a6 a7 a8 a9 a10 a11 a12 a15 a16 a17) (hQ : cn_Q X U B a13 hc hk) (hN : N ≤ 10000) (hL : L ≤ 260) (hA : cn_row x2 pc C) (hX : ∀ k, k < C → pc k + 1 < L ∧ X k = xs (pc k) ∧ Y k = xs (pc k + 1)) (hB : b < B) (hp : post 1) :
    ∃ m, wL_follows_37 post L xs x2 (nI b) (nI (6 * cn_fr (U b) + cn_to (U b))) (nI (cn_sz (V b))) fc (nI B) (nI N) fq a1 a2 a3 a4 a5 a6 a7 a8 a9 a10 a11 a12 a13 a14 a15 a16 a17 a18 a19 a20 a21 m (nI (cn_fr (U b))) 0 0 := by
  have n1000 : ¬ (1000 : Int32) = 0 := by decide
  have n6 : ¬ (6 : Int32) = 0 := by decide
  have hC := hI.1
  have hB10 := hI.2.1
  have hW := hI.2.2.2.2.1
  have h95 := cn_W_n hW hB
  have hsz := cn_sz_in (V b)
  have lU2 := cn_fr_lt (U b)
  have lU3 := cn_to_lt (U b)
  refine pk_loop (fun m i (_ : Unit) => wL_follows_37 post L xs x2 (nI b) (nI (6 * cn_fr (U b) + cn_to (U b))) (nI (cn_sz (V b))) fc (nI B) (nI N) fq a1 a2 a3 a4 a5 a6 a7 a8 a9 a10 a11 a12 a13 a14 a15 a16 a17 a18 a19 a20 a21 m (nI (cn_nd X (cn_fr (U b)) (hk b) i)) (nI (cn_tm Y (cn_sz (V b)) 0 (hk b) (hb b) i)) (nI i)) (fun _ _ => True) (hc b) 0 () (by omega) trivial ?_ ?_
  · intro m _ _
    show wL_follows_37 post L xs x2 (nI b) (nI (6 * cn_fr (U b) + cn_to (U b))) (nI (cn_sz (V b))) fc (nI B) (nI N) fq a1 a2 a3 a4 a5 a6 a7 a8 a9 a10 a11 a12 a13 a14 a15 a16 a17 a18 a19 a20 a21 (m + 1) (nI (cn_nd X (cn_fr (U b)) (hk b) (hc b))) (nI (cn_tm Y (cn_sz (V b)) 0 (hk b) (hb b) (hc b))) (nI (hc b))
    unfold wL_follows_37
    refine cn_hops hI hB (pk_le (hc b) (hc b) (fun _ => ?_) (fun z => absurd z (by omega)))
    refine cn_state hI hQ hB hN (fun z => br_t rfl (cn_arrival hI hQ hB (fun _ => br_t rfl hp) (fun h => absurd z h))) (fun z g => ?_) (fun z g => ?_)
    · have htm := cn_tm_lt (hW.1 b hB) (hQ b hB z).1
      refine br_f (by decide) ⟨n6, br_t (by rw [cn_er lU2 lU3, (hQ b hB z).2]) (cn_arrival hI hQ hB (fun h => absurd h z) (fun _ => br_t rfl (br_f (by decide) ?_)))⟩
      exact pk_lt N (cn_tm Y (cn_sz (V b)) 0 (hk b) (hb b) (hc b)) (fun _ => br_t rfl hp) (fun z' => absurd z' (by omega))
    · have htm := cn_tm_lt (hW.1 b hB) (hQ b hB z).1
      refine br_f (by decide) ⟨n6, br_t (by rw [cn_er lU2 lU3, (hQ b hB z).2]) (cn_arrival hI hQ hB (fun h => absurd h z) (fun _ => br_t rfl (br_t rfl ?_)))⟩
      exact pk_lt N (cn_tm Y (cn_sz (V b)) 0 (hk b) (hb b) (hc b)) (fun z' => absurd z' (by omega)) (fun _ => br_t rfl hp)
  · intro m i _ hi _ hw
    obtain ⟨q1, q2, q3, q4, q5⟩ := hW.1 b hB i hi
    have hx := cn_hop_i hsz.1 (hW.1 b hB) hi
    have hen := cn_en_lt (Y (hk b i))
    have hrt := cn_rt_in (Y (hk b i))
    have ed := cn_hd (show hk b i < 10 by omega) (show hb b i < 1000 by omega)
    have er := cn_hr (show hk b i < 10 by omega) (show hb b i < 1000 by omega)
    have l2 := cn_fr_lt (X (hk b i))
    have l3 := cn_to_lt (X (hk b i))
    have h64 := (hA _ q1).1
    obtain ⟨x1', x2', x3'⟩ := hX _ q1
    show wL_follows_37 post L xs x2 (nI b) (nI (6 * cn_fr (U b) + cn_to (U b))) (nI (cn_sz (V b))) fc (nI B) (nI N) fq a1 a2 a3 a4 a5 a6 a7 a8 a9 a10 a11 a12 a13 a14 a15 a16 a17 a18 a19 a20 a21 (m + 1) (nI (cn_nd X (cn_fr (U b)) (hk b) i)) (nI (cn_tm Y (cn_sz (V b)) 0 (hk b) (hb b) i)) (nI i)
    unfold wL_follows_37
    refine cn_hops hI hB (pk_le (hc b) i (fun z => absurd z (by omega)) (fun _ => cn_hop_ hI hB hi ⟨n1000, nm_r ed ?_⟩))
    refine cn_cellOf hA hC q1 x1' hL ?_
    rw [← x3']
    refine cn_part hA hC q1 ⟨pk_in (pc (hk b i)) L (by omega), ?_⟩
    rw [nI_clamp (show pc (hk b i) < 2 ^ 31 by omega), ← x2']
    refine cn_ends ⟨n6, br_t (by rw [cn_ed l2 l3, q2]) ⟨n1000, pk_le (cn_tm Y (cn_sz (V b)) 0 (hk b) (hb b) i) (hb b i) (fun _ => ⟨n6, nm_r (cn_er l2 l3) ⟨n1000, cn_rate (cn_ticks hsz.1 (by omega) hrt.1 (by omega) (cn_delay (nm_r (e' := nI (cn_tm Y (cn_sz (V b)) 0 (hk b) (hb b) (i + 1))) ?_ (nm_r (nI_1 i) (hw () trivial)))))⟩⟩) (fun z => absurd z (by omega)) rfl er⟩⟩
    rw [er, nI_add, nI_add]
    rfl
theorem cn_follows {post : Int32 → Prop} {L : Nat} {xs : Nat → Int32} {x2 : Int64} {fc fq : Int32} {a1 a2 a3 a4 a5 a6 a7 a8 a9 a10 a11 a12 a13 a14 a15 a16 a17 a18 a19 a20 a21 : Nat → Int32} {X Y U V : Nat → Int32} {C B N b : Nat} {hc : Nat → Nat} {hk hb : Nat → Nat → Nat} {pc pb : Nat → Nat}
    (hI : cn_I X Y U V C B hc hk hb a2 a3 a4 a5 a6 a7 a8 a9 a10 a11 a12 a15 a16 a17) (hQ : cn_Q X U B a13 hc hk) (hN : N ≤ 10000) (hL : L ≤ 260) (hA : cn_row x2 pc C) (hX : ∀ k, k < C → pc k + 1 < L ∧ X k = xs (pc k) ∧ Y k = xs (pc k + 1)) (hB : b < B) (h64 : pb b < 64) (hV : pb b + 1 < L ∧ U b = xs (pb b) ∧ V b = xs (pb b + 1)) (hp : post 1) :
    wpL_follows post L xs (fc, nI B, nI N, fq, a1, a2, a3, a4, a5, a6, a7, a8, a9, a10, a11, a12, a13, a14, a15, a16, a17, a18, a19, a20, a21) x2 (nI (pb b)) (nI b) := by
  unfold wpL_follows
  dsimp only
  have n6 : ¬ (6 : Int32) = 0 := by decide
  obtain ⟨v1, v2, v3⟩ := hV
  refine ⟨pk_in (pb b) L (by omega), ?_⟩
  rw [nI_clamp (show pb b < 2 ^ 31 by omega), ← v2]
  refine cn_ends ⟨pk_in (pb b + 1) L v1 (nI_1 _), nm_r (e' := nI (cn_sz (V b))) (by rw [nI_1, nI_clamp (by omega), v3]; exact cn_sze _) ⟨n6, nm_r (cn_ed (cn_fr_lt _) (cn_to_lt _)) ?_⟩⟩
  exact cn_f37 hI hQ hN hL hA hX hB hp
end
section
/-! the end of a turn of the law: latest, quote, bookings, follows -/
def cn_J22 : Type := Int64 → Int64 → Int32 → Int32 → Int32 → Int32 → Int32 → Int32 → Int32 → (Nat → Int32) → (Nat → Int32) → (Nat → Int32) → (Nat → Int32) → (Nat → Int32) → (Nat → Int32) → (Nat → Int32) → (Nat → Int32) → (Nat → Int32) → (Nat → Int32) → (Nat → Int32) → (Nat → Int32) → (Nat → Int32) → (Nat → Int32) → (Nat → Int32) → (Nat → Int32) → (Nat → Int32) → (Nat → Int32) → (Nat → Int32) → (Nat → Int32) → (Nat → Int32) → Prop
/-- what holds between two turns -/
def cn_LI (L : Nat) (xs : Nat → Int32) (C B N pos : Nat) (pc pb hc : Nat → Nat) (hk hb : Nat → Nat → Nat) (x2 x4 : Int64) (a2 a3 a4 a5 a6 a7 a8 a9 a10 a11 a12 a15 a16 a17 a13 : Nat → Int32) : Prop :=
  N ≤ 8 * pos ∧ pos ≤ 62 ∧ cn_row x2 pc C ∧ (∀ k, k < C → pc k + 1 < L) ∧ cn_row x4 pb B ∧ (∀ b, b < B → pb b + 1 < L) ∧
  cn_I (fun k => xs (pc k)) (fun k => xs (pc k + 1)) (fun b => xs (pb b)) (fun b => xs (pb b + 1)) C B hc hk hb a2 a3 a4 a5 a6 a7 a8 a9 a10 a11 a12 a15 a16 a17 ∧ cn_Q (fun k => xs (pc k)) (fun b => xs (pb b)) B a13 hc hk
theorem cn_t420 {post : Int32 → Prop} {L : Nat} {xs : Nat → Int32} {J : cn_J22} {x2 x4 : Int64} {kc ks : Nat} {fq : Int32} {a1 a2 a3 a4 a5 a6 a7 a8 a9 a10 a11 a12 a13 a14 a15 a16 a17 a18 a19 a20 a21 : Nat → Int32} {C B N pos p0 : Nat} {pc pb hc : Nat → Nat} {hk hb : Nat → Nat → Nat}
    (hL : L ≤ 260) (h : cn_LI L xs C B N pos pc pb hc hk hb x2 x4 a2 a3 a4 a5 a6 a7 a8 a9 a10 a11 a12 a15 a16 a17 a13)
    (H : J x2 x4 (nI C) (nI B) (nI (p0 + 2)) (nI C) (nI B) (nI N) fq a1 a2 a3 a4 a5 a6 a7 a8 a9 a10 a11 a12 a13 a14 a15 a16 a17 a18 a19 a20 a21) :
    wL_law_420 post L xs J x2 x4 (nI C) (nI B) (nI p0) kc ks (nI C) (nI B) (nI N) fq a1 a2 a3 a4 a5 a6 a7 a8 a9 a10 a11 a12 a13 a14 a15 a16 a17 a18 a19 a20 a21 := by
  obtain ⟨h1, h2, h3, h4, h5, h6, hI, hQ⟩ := h
  have hB10 := hI.2.1
  unfold wL_law_420
  refine cn_bookings hI hL h3 (fun k hk => ⟨h4 k hk, rfl, rfl⟩) h5 (fun b hb => ⟨h6 b hb, rfl, rfl⟩) (br_f (by decide) ?_)
  refine pk_loop (fun m b (_ : Unit) => wL_law_440 post L xs J x2 x4 (nI C) (nI B) (nI p0) kc ks (nI C) (nI B) (nI N) fq a1 a2 a3 a4 a5 a6 a7 a8 a9 a10 a11 a12 a13 a14 a15 a16 a17 a18 a19 a20 a21 m (nI b)) (fun _ _ => True) B 0 () (by omega) trivial ?_ ?_
  · intro m _ _
    exact pk_le B B (fun _ => nm_r (nI_add p0 2) H) (fun z => absurd z (by omega))
  · intro m b _ hb' _ hw
    refine pk_le B b (fun z => absurd z (by omega)) (fun _ => cn_part h5 hB10 hb' ?_)
    exact cn_follows hI hQ (by omega) hL h3 (fun k hk => ⟨h4 k hk, rfl, rfl⟩) hb' (h5 b hb').1 ⟨h6 b hb', rfl, rfl⟩ (br_f (by decide) (nm_r (nI_1 b) (hw () trivial)))
theorem cn_t338 {post : Int32 → Prop} {L : Nat} {xs : Nat → Int32} {J : cn_J22} {x2 x4 : Int64} {x10 x : Int32} {kc ks : Nat} {fq : Int32} {a1 a2 a3 a4 a5 a6 a7 a8 a9 a10 a11 a12 a13 a14 a15 a16 a17 a18 a19 a20 a21 : Nat → Int32} {C B N pos p0 : Nat} {pc pb hc : Nat → Nat} {hk hb : Nat → Nat → Nat}
    (hL : L ≤ 260) (h : cn_LI L xs C B N pos pc pb hc hk hb x2 x4 a2 a3 a4 a5 a6 a7 a8 a9 a10 a11 a12 a15 a16 a17 a13)
    (H : ∀ g h, J x2 x4 (nI C) (nI B) (nI (p0 + 2)) (nI C) (nI B) (nI N) fq a1 a2 a3 a4 a5 a6 a7 a8 a9 a10 a11 a12 a13 a14 a15 a16 a17 a18 a19 g h) :
    wL_law_338 post L xs J x2 x4 (nI C) (nI B) (nI p0) x10 (nI (6 * cn_fr x + cn_to x)) kc ks (nI C) (nI B) (nI N) fq a1 a2 a3 a4 a5 a6 a7 a8 a9 a10 a11 a12 a13 a14 a15 a16 a17 a18 a19 a20 a21 := by
  have h' := h
  obtain ⟨h1, h2, h3, h4, h5, h6, hI, hQ⟩ := h
  have hC := hI.1
  have hK := hI.2.2.1
  have hd : cn_ms (x10 >>> ((20 : Int32) &&& 31)) 7 < 128 := cn_ms_lt _ 7
  unfold wL_law_338
  refine nm_r (e' := nI (cn_ms (x10 >>> ((20 : Int32) &&& 31)) 7)) (pk_and _ 7 rfl) ?_
  refine cn_latest (s := 3) hK hC (by omega) (by omega) (by omega) (by omega) (fun hn g h => ?_) (fun hn low l1 l2 g h => ?_)
  · refine cn_quote (s := 3) hK hC (by omega) (by omega) (by omega) (fun hq g2 h2' => br_t (by decide) ?_) (fun hq g2 h2' => br_f (nI_pos (by omega)) (br_t (nI_lt (by omega) (by omega)) ?_))
    · exact br_t rfl (br_t rfl (br_t rfl (cn_t420 hL h' (H g2 h2'))))
    · exact br_t rfl (br_t rfl (br_t rfl (cn_t420 hL h' (H g2 h2'))))
  · refine cn_quote (s := 3) hK hC (by omega) (by omega) (by omega) (fun hq g2 h2' => absurd hn.1 (by omega)) (fun hq g2 h2' => br_f (nI_pos (by omega)) (br_f (nI_nlt hn.2 (by omega)) ?_))
    refine br_f (fun z => ?_) (br_t rfl (br_f (by decide) (pk_le N low (fun _ => cn_t420 hL h' (H g2 h2')) (fun z => absurd z (by omega)))))
    have := nI_pos (show low < 2 ^ 31 by omega)
    rw [z] at this
    exact this (by decide)
end
section
/-! a turn of the law; the law -/
theorem cn_i10 (k t : Nat) : (10 : Int32) * nI k + nI t = nI (10 * k + t) := by rw [show (10 : Int32) = nI 10 from rfl, pk_mul, nI_add]
theorem cn_upx {p : Nat → Nat} {n q : Nat} {xs : Nat → Int32} : ∀ k, k < n → xs (cn_ups p n q k) = xs (p k) ∧ xs (cn_ups p n q k + 1) = xs (p k + 1) := by
  intro k hk
  rw [cn_ups_n (by omega)]
  exact ⟨rfl, rfl⟩
theorem cn_upL {p : Nat → Nat} {n q L : Nat} (h : ∀ k, k < n → p k + 1 < L) (hq : q + 1 < L) : ∀ k, k < n + 1 → cn_ups p n q k + 1 < L := by
  intro k hk
  by_cases e : k = n
  · rw [e, cn_ups_s]
    exact hq
  · rw [cn_ups_n e]
    exact h k (by omega)
def cn_SI (L : Nat) (xs : Nat → Int32) (j : Nat) (x2 x4 : Int64) (x6 x7 : Int32) (u : St1) : Prop := match u with
  | (fc, fb, fw, fq, a1, a2, a3, a4, a5, a6, a7, a8, a9, a10, a11, a12, a13, a14, a15, a16, a17, a18, a19, a20, a21) => ∃ (C B N : Nat) (pc pb hc : Nat → Nat) (hk hb : Nat → Nat → Nat), x6 = nI C ∧ x7 = nI B ∧ fc = nI C ∧ fb = nI B ∧ fw = nI N ∧ cn_LI L xs C B N (2 * j) pc pb hc hk hb x2 x4 a2 a3 a4 a5 a6 a7 a8 a9 a10 a11 a12 a15 a16 a17 a13
/-- what a turn must show: from any state as it should be behind it the law goes on -/
def cn_go (L : Nat) (xs : Nat → Int32) (J : cn_J22) (j : Nat) : Prop := ∀ (x2 x4 : Int64) (C B N : Nat) (pc pb hc : Nat → Nat) (hk hb : Nat → Nat → Nat) (fq : Int32) (a1 a2 a3 a4 a5 a6 a7 a8 a9 a10 a11 a12 a13 a14 a15 a16 a17 a18 a19 a20 a21 : Nat → Int32),
  cn_LI L xs C B N (2 * (j + 1)) pc pb hc hk hb x2 x4 a2 a3 a4 a5 a6 a7 a8 a9 a10 a11 a12 a15 a16 a17 a13 → J x2 x4 (nI C) (nI B) (nI (2 * (j + 1))) (nI C) (nI B) (nI N) fq a1 a2 a3 a4 a5 a6 a7 a8 a9 a10 a11 a12 a13 a14 a15 a16 a17 a18 a19 a20 a21
theorem cn_tgo {post : Int32 → Prop} {L : Nat} {xs : Nat → Int32} {J : cn_J22} {x2 x4 : Int64} {x10 x : Int32} {kc ks j : Nat} {fq : Int32} {a1 a2 a3 a4 a5 a6 a7 a8 a9 a10 a11 a12 a13 a14 a15 a16 a17 a18 a19 a20 a21 : Nat → Int32} {C B N : Nat} {pc pb hc : Nat → Nat} {hk hb : Nat → Nat → Nat}
    (hL : L ≤ 260) (h : cn_LI L xs C B N (2 * (j + 1)) pc pb hc hk hb x2 x4 a2 a3 a4 a5 a6 a7 a8 a9 a10 a11 a12 a15 a16 a17 a13) (hg : cn_go L xs J j) :
    wL_law_338 post L xs J x2 x4 (nI C) (nI B) (nI (2 * j)) x10 (nI (6 * cn_fr x + cn_to x)) kc ks (nI C) (nI B) (nI N) fq a1 a2 a3 a4 a5 a6 a7 a8 a9 a10 a11 a12 a13 a14 a15 a16 a17 a18 a19 a20 a21 :=
  cn_t338 hL h (fun g h' => hg x2 x4 C B N pc pb hc hk hb fq a1 a2 a3 a4 a5 a6 a7 a8 a9 a10 a11 a12 a13 a14 a15 a16 a17 a18 a19 g h' h)
theorem cn_LI_up {L : Nat} {xs : Nat → Int32} {C B N j : Nat} {pc pb hc : Nat → Nat} {hk hb : Nat → Nat → Nat} {x2 x4 : Int64} {a2 a3 a4 a5 a6 a7 a8 a9 a10 a11 a12 a15 a16 a17 a13 : Nat → Int32} (hj : j < 31) (h : cn_LI L xs C B N (2 * j) pc pb hc hk hb x2 x4 a2 a3 a4 a5 a6 a7 a8 a9 a10 a11 a12 a15 a16 a17 a13) : cn_LI L xs C B N (2 * (j + 1)) pc pb hc hk hb x2 x4 a2 a3 a4 a5 a6 a7 a8 a9 a10 a11 a12 a15 a16 a17 a13 :=
  ⟨by have := h.1; omega, by omega, h.2.2⟩
theorem cn_turn_contact {post : Int32 → Prop} {L : Nat} {xs : Nat → Int32} {J : cn_J22} {x2 x4 : Int64} {kc ks j : Nat} {fq : Int32} {a1 a2 a3 a4 a5 a6 a7 a8 a9 a10 a11 a12 a13 a14 a15 a16 a17 a18 a19 a20 a21 : Nat → Int32} {C B N : Nat} {pc pb hc : Nat → Nat} {hk hb : Nat → Nat → Nat}
    (hL : L ≤ 260) (hj : j < 31) (hjL : 2 * j + 1 < L) (h : cn_LI L xs C B N (2 * j) pc pb hc hk hb x2 x4 a2 a3 a4 a5 a6 a7 a8 a9 a10 a11 a12 a15 a16 a17 a13) (hg : cn_go L xs J j) :
    wpX_contact (fun r_528 u => match u with | (fc, fb, fw, fq, a1, a2, a3, a4, a5, a6, a7, a8, a9, a10, a11, a12, a13, a14, a15, a16, a17, a18, a19, a20, a21) => (((r_528 < 0 → (wL_law_127 post L xs J x4 (nI C) (nI B) (nI (2 * j)) (xs (2 * j + 1)) (nI (6 * cn_fr (xs (2 * j)) + cn_to (xs (2 * j)))) r_528 x2 kc ks fc fb fw fq a1 a2 a3 a4 a5 a6 a7 a8 a9 a10 a11 a12 a13 a14 a15 a16 a17 a18 a19 a20 a21)) ∧ (¬ r_528 < 0 → (wpL_with (fun r_598 => (wL_law_127 post L xs J x4 (nI C) (nI B) (nI (2 * j)) (xs (2 * j + 1)) (nI (6 * cn_fr (xs (2 * j)) + cn_to (xs (2 * j)))) r_528 r_598 kc ks fc fb fw fq a1 a2 a3 a4 a5 a6 a7 a8 a9 a10 a11 a12 a13 a14 a15 a16 a17 a18 a19 a20 a21)) () x2 r_528 (nI (2 * j)))))))
      (nI C, nI B, nI N, fq, a1, a2, a3, a4, a5, a6, a7, a8, a9, a10, a11, a12, a13, a14, a15, a16, a17, a18, a19, a20, a21) (nI (6 * cn_fr (xs (2 * j)) + cn_to (xs (2 * j)))) (nI (101 * cn_st (xs (2 * j + 1)) + cn_en (xs (2 * j + 1)))) (nI (10 * cn_rt (xs (2 * j + 1)) + cn_dl (xs (2 * j + 1)))) := by
  have h' := h
  obtain ⟨h1, h2, h3, h4, h5, h6, hI, hQ⟩ := h
  have hC := hI.1
  refine cn_contact (X' := fun k => xs (cn_ups pc C (2 * j) k)) (Y' := fun k => xs (cn_ups pc C (2 * j) k + 1)) hI hQ (by omega) cn_upx (by rw [cn_ups_s]) (by rw [cn_ups_s]) (fun _ => ?_) (fun hC10 q b2 b3 b4 b5 b6 b7 b8 b13 b15 b16 b17 b18 b19 b20 b21 hc' hk' hb' hI2 hQ2 => ?_)
  · exact br_t (by decide) (br_t (by decide) (cn_tgo hL (cn_LI_up hj h') hg))
  · refine br_f (nI_pos (by omega)) (cn_with h3 hC10 (by omega) (fun w' hw' => br_f (nI_pos (by omega)) ?_))
    rw [nI_1]
    exact cn_tgo hL ⟨by omega, by omega, hw', cn_upL h4 hjL, h5, h6, hI2, hQ2⟩ hg
theorem cn_t288 {post : Int32 → Prop} {L : Nat} {xs : Nat → Int32} {J : cn_J22} {x2 x4 : Int64} {x10 x : Int32} {kc ks j : Nat} {fq : Int32} {a1 a2 a3 a4 a5 a6 a7 a8 a9 a10 a11 a12 a13 a14 a15 a16 a17 a18 a19 a20 a21 : Nat → Int32} {C B N : Nat} {pc pb hc : Nat → Nat} {hk hb : Nat → Nat → Nat}
    (hL : L ≤ 260) (hj : j < 31) (hB10 : B < 10) (hr : cn_row x4 pb B) (h : ∀ w, cn_row w (cn_ups pb B (2 * j)) (B + 1) → cn_LI L xs C (B + 1) N (2 * (j + 1)) pc (cn_ups pb B (2 * j)) hc hk hb x2 w a2 a3 a4 a5 a6 a7 a8 a9 a10 a11 a12 a15 a16 a17 a13) (hg : cn_go L xs J j) :
    wL_law_288 post L xs J x2 x4 (nI C) (nI B) (nI (2 * j)) x10 (nI (6 * cn_fr x + cn_to x)) (nI B) kc ks (nI C) (nI (B + 1)) (nI N) fq a1 a2 a3 a4 a5 a6 a7 a8 a9 a10 a11 a12 a13 a14 a15 a16 a17 a18 a19 a20 a21 := by
  refine br_f (nI_pos (by omega)) (cn_with hr hB10 (by omega) (fun w' hw' => br_f (nI_pos (by omega)) ?_))
  rw [nI_1]
  exact cn_tgo hL (h w' hw') hg
theorem cn_turn_send {post : Int32 → Prop} {L : Nat} {xs : Nat → Int32} {J : cn_J22} {x2 x4 : Int64} {r : Int32} {kc ks j : Nat} {fq : Int32} {a1 a2 a3 a4 a5 a6 a7 a8 a9 a10 a11 a12 a13 a14 a15 a16 a17 a18 a19 a20 a21 : Nat → Int32} {C B N : Nat} {pc pb hc : Nat → Nat} {hk hb : Nat → Nat → Nat}
    (hL : L ≤ 260) (hj : j < 31) (hjL : 2 * j + 1 < L) (h : cn_LI L xs C B N (2 * j) pc pb hc hk hb x2 x4 a2 a3 a4 a5 a6 a7 a8 a9 a10 a11 a12 a15 a16 a17 a13) (hg : cn_go L xs J j)
    (hr : (r = -2 ∧ cn_R C (fun k => xs (pc k)) (fun k => xs (pc k + 1)) a1 a8 (cn_sz (xs (2 * j + 1))) (cn_fr (xs (2 * j))) N 5 (cn_to (xs (2 * j))) = 1000000) ∨ (r = nI (cn_R C (fun k => xs (pc k)) (fun k => xs (pc k + 1)) a1 a8 (cn_sz (xs (2 * j + 1))) (cn_fr (xs (2 * j))) N 5 (cn_to (xs (2 * j)))) ∧ cn_R C (fun k => xs (pc k)) (fun k => xs (pc k + 1)) a1 a8 (cn_sz (xs (2 * j + 1))) (cn_fr (xs (2 * j))) N 5 (cn_to (xs (2 * j))) < 1000000)) :
    wpX_send (fun r_375 u => match u with | (fc, fb, fw, fq, a1, a2, a3, a4, a5, a6, a7, a8, a9, a10, a11, a12, a13, a14, a15, a16, a17, a18, a19, a20, a21) => (((r < 0 → (wL_law_238 post L xs J x2 x4 (nI C) (nI B) (nI (2 * j)) (xs (2 * j + 1)) (nI (6 * cn_fr (xs (2 * j)) + cn_to (xs (2 * j)))) r r_375 kc ks fc fb fw fq a1 a2 a3 a4 a5 a6 a7 a8 a9 a10 a11 a12 a13 a14 a15 a16 a17 a18 a19 a20 a21)) ∧ (¬ r < 0 → (((nI (cn_lm (xs (2 * j + 1))) < r → (wL_law_238 post L xs J x2 x4 (nI C) (nI B) (nI (2 * j)) (xs (2 * j + 1)) (nI (6 * cn_fr (xs (2 * j)) + cn_to (xs (2 * j)))) r r_375 kc ks fc fb fw fq a1 a2 a3 a4 a5 a6 a7 a8 a9 a10 a11 a12 a13 a14 a15 a16 a17 a18 a19 a20 a21)) ∧ (¬ nI (cn_lm (xs (2 * j + 1))) < r → (wL_law_239 post L xs J x2 x4 (nI C) (nI B) (nI (2 * j)) (xs (2 * j + 1)) (nI (6 * cn_fr (xs (2 * j)) + cn_to (xs (2 * j)))) r r_375 1 kc ks fc fb fw fq a1 a2 a3 a4 a5 a6 a7 a8 a9 a10 a11 a12 a13 a14 a15 a16 a17 a18 a19 a20 a21))))))))
      (nI C, nI B, nI N, fq, a1, a2, a3, a4, a5, a6, a7, a8, a9, a10, a11, a12, a13, a14, a15, a16, a17, a18, a19, a20, a21) (nI (6 * cn_fr (xs (2 * j)) + cn_to (xs (2 * j)))) (nI (cn_sz (xs (2 * j + 1)))) (nI (cn_lm (xs (2 * j + 1)))) := by
  have h' := h
  obtain ⟨h1, h2, h3, h4, h5, h6, hI, hQ⟩ := h
  have hlm := cn_lm_lt (xs (2 * j + 1))
  refine cn_send (U' := fun b => xs (cn_ups pb B (2 * j) b)) (V' := fun b => xs (cn_ups pb B (2 * j) b + 1)) hI hQ (by omega) cn_upx (by rw [cn_ups_s]) (by rw [cn_ups_s]) (fun _ => ?_) (fun hB10 q b8 b9 b10 b11 b12 b13 b15 b16 b17 b18 b19 b20 b21 hc' hk' hb' hI2 hQ2 g1 g2 => ?_)
  · have full : ∀ z0, wL_law_239 post L xs J x2 x4 (nI C) (nI B) (nI (2 * j)) (xs (2 * j + 1)) (nI (6 * cn_fr (xs (2 * j)) + cn_to (xs (2 * j)))) r (-3) z0 kc ks (nI C) (nI B) (nI N) fq a1 a2 a3 a4 a5 a6 a7 a8 a9 a10 a11 a12 a13 a14 a15 a16 a17 a18 a19 a20 a21 := fun z0 => br_t (by decide) (br_t (by decide) (br_t (by decide) (cn_tgo hL (cn_LI_up hj h') hg)))
    exact br_c (fun _ => full 0) (fun _ => br_c (fun _ => full 0) (fun _ => full 1))
  · have hB1 := hI2.2.1
    have t288 : wL_law_288 post L xs J x2 x4 (nI C) (nI B) (nI (2 * j)) (xs (2 * j + 1)) (nI (6 * cn_fr (xs (2 * j)) + cn_to (xs (2 * j)))) (nI B) kc ks (nI C) (nI (B + 1)) (nI N) q a1 a2 a3 a4 a5 a6 a7 b8 b9 b10 b11 b12 b13 a14 b15 b16 b17 b18 b19 b20 b21 := cn_t288 hL hj hB10 h5 (fun w hw => ⟨by omega, by omega, h3, h4, hw, cn_upL h6 hjL, hI2, hQ2⟩) hg
    have no : ¬ (cn_R C (fun k => xs (pc k)) (fun k => xs (pc k + 1)) a1 a8 (cn_sz (xs (2 * j + 1))) (cn_fr (xs (2 * j))) N 5 (cn_to (xs (2 * j))) < 1000000 ∧ cn_R C (fun k => xs (pc k)) (fun k => xs (pc k + 1)) a1 a8 (cn_sz (xs (2 * j + 1))) (cn_fr (xs (2 * j))) N 5 (cn_to (xs (2 * j))) ≤ cn_lm (xs (2 * j + 1))) → wL_law_238 post L xs J x2 x4 (nI C) (nI B) (nI (2 * j)) (xs (2 * j + 1)) (nI (6 * cn_fr (xs (2 * j)) + cn_to (xs (2 * j)))) r (nI B) kc ks (nI C) (nI (B + 1)) (nI N) q a1 a2 a3 a4 a5 a6 a7 b8 b9 b10 b11 b12 b13 a14 b15 b16 b17 b18 b19 b20 b21 := by
      intro hn
      have z13 := g2 hn
      refine br_f (nI_pos (by omega)) (cn_arrival hI2 hQ2 (by omega) (fun _ => br_t rfl (br_t rfl ?_)) (fun hz => absurd z13 hz))
      exact cn_state hI2 hQ2 (by omega) (by omega) (fun _ => br_t rfl (br_f (by decide) t288)) (fun hz => absurd z13 hz) (fun hz => absurd z13 hz)
    rcases hr with ⟨rfl, hR⟩ | ⟨rfl, hR⟩
    · exact br_t (by decide) (no (by omega))
    · refine br_f (nI_pos (by omega)) (pk_lt (cn_lm (xs (2 * j + 1))) (cn_R C (fun k => xs (pc k)) (fun k => xs (pc k + 1)) a1 a8 (cn_sz (xs (2 * j + 1))) (cn_fr (xs (2 * j))) N 5 (cn_to (xs (2 * j)))) (fun z => no (by omega)) (fun z => ?_))
      obtain ⟨z13, ztm⟩ := g1 ⟨hR, z⟩
      have hne : b13 B ≠ 0 := by rw [z13]; decide
      refine br_f (nI_pos (by omega)) (cn_arrival hI2 hQ2 (by omega) (fun hz => absurd hz hne) (fun _ => br_f (by decide) (br_t (by rw [ztm]) ?_)))
      exact cn_state hI2 hQ2 (by omega) (by omega) (fun hz => absurd hz hne) (fun _ _ => br_f (by decide) (br_f (by decide) t288)) (fun _ _ => br_f (by decide) (br_f (by decide) t288))
theorem cn_turn {post : Int32 → Prop} {L : Nat} {xs : Nat → Int32} {x2 x4 : Int64} {kc ks j n : Nat} {fq : Int32} {a1 a2 a3 a4 a5 a6 a7 a8 a9 a10 a11 a12 a13 a14 a15 a16 a17 a18 a19 a20 a21 : Nat → Int32} {C B N : Nat} {pc pb hc : Nat → Nat} {hk hb : Nat → Nat → Nat}
    (hL : L ≤ 260) (hj : j < 31) (h : cn_LI L xs C B N (2 * j) pc pb hc hk hb x2 x4 a2 a3 a4 a5 a6 a7 a8 a9 a10 a11 a12 a15 a16 a17 a13) (hp : post 1) (hg : cn_go L xs (wL_law_22 post L xs kc ks n) j) :
    wL_law_22 post L xs kc ks (n + 1) x2 x4 (nI C) (nI B) (nI (2 * j)) (nI C) (nI B) (nI N) fq a1 a2 a3 a4 a5 a6 a7 a8 a9 a10 a11 a12 a13 a14 a15 a16 a17 a18 a19 a20 a21 := by
  have h' := h
  obtain ⟨h1, h2, h3, h4, h5, h6, hI, hQ⟩ := h
  have ej : (nI (2 * j)).toNatClampNeg = 2 * j := nI_clamp (by omega)
  have ej1 : (nI (2 * j) + 1).toNatClampNeg = 2 * j + 1 := by rw [nI_1]; exact nI_clamp (by omega)
  have hkd : cn_ms (xs (2 * j) >>> ((16 : Int32) &&& 31)) 4 < 16 := cn_ms_lt _ 4
  refine pk_le L (2 * j + 1) (fun _ => hp) (fun z => pk_le 62 (2 * j) (fun _ => hp) (fun _ => ⟨pk_in (2 * j) L (by omega), nm_r (e' := nI (cn_ms (xs (2 * j) >>> ((16 : Int32) &&& 31)) 4)) (by rw [ej]; exact pk_and _ 4 rfl) ⟨pk_in (2 * j + 1) L z (nI_1 _), nm_r (e' := xs (2 * j + 1)) (by rw [ej1]) ⟨pk_in (2 * j) L (by omega), ?_⟩⟩⟩)) rfl (nI_1 _)
  rw [ej]
  refine cn_ends (pk_le 6 (cn_ms (xs (2 * j) >>> ((16 : Int32) &&& 31)) 4) (fun z6 => pk_le 8 (cn_ms (xs (2 * j) >>> ((16 : Int32) &&& 31)) 4) (fun z8 => pk_le 13 (cn_ms (xs (2 * j) >>> ((16 : Int32) &&& 31)) 4) (fun z13 => ?_) (fun z13 => nm_r (cn_sze _) (nm_r (cn_lme _) ?_))) (fun z8 => ⟨pk_in (2 * j) L (by omega), ?_⟩)) (fun z6 => cn_start (cn_stop (cn_rate (cn_delay ?_)))))
  · have hd : cn_ms (xs (2 * j + 1)) 4 < 16 := cn_ms_lt _ 4
    rw [show xs (2 * j + 1) &&& 15 = nI (cn_ms (xs (2 * j + 1)) 4) from pk_and _ 4 rfl]
    exact cn_pass (by omega) (by omega) (cn_tgo hL ⟨by omega, by omega, h3, h4, h5, h6, hI, hQ⟩ hg)
  · have hsz := cn_sz_in (xs (2 * j + 1))
    refine cn_quote (s := cn_sz (xs (2 * j + 1))) (x := xs (2 * j)) hI.2.2.1 hI.1 hsz.1 (by omega) (by omega) (fun hq g g' => ?_) (fun hq g g' => ?_)
    · exact cn_turn_send hL hj z h' hg (Or.inl ⟨rfl, hq⟩)
    · exact cn_turn_send hL hj z h' hg (Or.inr ⟨rfl, hq⟩)
  · have hd : cn_ms (xs (2 * j) >>> ((20 : Int32) &&& 31)) 3 < 8 := cn_ms_lt _ 3
    rw [show (xs (2 * j) >>> ((20 : Int32) &&& 31)) &&& 7 = nI (cn_ms (xs (2 * j) >>> ((20 : Int32) &&& 31)) 3) from pk_and _ 3 rfl]
    exact cn_cancel hI hQ (by omega) hd (fun x q b1 b8 b13 b14 b15 b16 b17 b18 b19 b20 b21 hc' hk' hb' hI2 hQ2 => cn_tgo hL (cn_LI_up hj ⟨h1, h2, h3, h4, h5, h6, hI2, hQ2⟩) hg)
  · rw [cn_i101, cn_i10]
    exact cn_turn_contact hL hj z h' hg
theorem i_vc (xs : Nat → Int32) (L : Nat) (hL : L ≤ 260) : wpL_law (fun r => r = 1) L xs := by
  refine ⟨21, 3172, by omega, by omega, ?_⟩
  unfold wpX_init
  dsimp only
  repeat (refine And.intro (by omega) ?_)
  refine pk_loop (fun n j (s : Int64 × Int64 × Int32 × Int32 × St1) => wL_law_22 (fun r => r = 1) L xs (1 + 21) (25 + 3172) n s.1 s.2.1 s.2.2.1 s.2.2.2.1 (nI (2 * j)) s.2.2.2.2.1 s.2.2.2.2.2.1 s.2.2.2.2.2.2.1 s.2.2.2.2.2.2.2.1 s.2.2.2.2.2.2.2.2.1 s.2.2.2.2.2.2.2.2.2.1 s.2.2.2.2.2.2.2.2.2.2.1 s.2.2.2.2.2.2.2.2.2.2.2.1 s.2.2.2.2.2.2.2.2.2.2.2.2.1 s.2.2.2.2.2.2.2.2.2.2.2.2.2.1 s.2.2.2.2.2.2.2.2.2.2.2.2.2.2.1 s.2.2.2.2.2.2.2.2.2.2.2.2.2.2.2.1 s.2.2.2.2.2.2.2.2.2.2.2.2.2.2.2.2.1 s.2.2.2.2.2.2.2.2.2.2.2.2.2.2.2.2.2.1 s.2.2.2.2.2.2.2.2.2.2.2.2.2.2.2.2.2.2.1 s.2.2.2.2.2.2.2.2.2.2.2.2.2.2.2.2.2.2.2.1 s.2.2.2.2.2.2.2.2.2.2.2.2.2.2.2.2.2.2.2.2.1 s.2.2.2.2.2.2.2.2.2.2.2.2.2.2.2.2.2.2.2.2.2.1 s.2.2.2.2.2.2.2.2.2.2.2.2.2.2.2.2.2.2.2.2.2.2.1 s.2.2.2.2.2.2.2.2.2.2.2.2.2.2.2.2.2.2.2.2.2.2.2.1 s.2.2.2.2.2.2.2.2.2.2.2.2.2.2.2.2.2.2.2.2.2.2.2.2.1 s.2.2.2.2.2.2.2.2.2.2.2.2.2.2.2.2.2.2.2.2.2.2.2.2.2.1 s.2.2.2.2.2.2.2.2.2.2.2.2.2.2.2.2.2.2.2.2.2.2.2.2.2.2.1 s.2.2.2.2.2.2.2.2.2.2.2.2.2.2.2.2.2.2.2.2.2.2.2.2.2.2.2.1 s.2.2.2.2.2.2.2.2.2.2.2.2.2.2.2.2.2.2.2.2.2.2.2.2.2.2.2.2) (fun j s => cn_SI L xs j s.1 s.2.1 s.2.2.1 s.2.2.2.1 s.2.2.2.2) 31 0
    (0, 0, 0, 0, (0, 0, 0, 0, fun _ => 0, fun _ => 0, fun _ => 0, fun _ => 0, fun _ => 0, fun _ => 0, fun _ => 0, fun _ => 0, fun _ => 0, fun _ => 0, fun _ => 0, fun _ => 0, fun _ => 0, fun _ => 0, fun _ => 0, fun _ => 0, fun _ => 0, fun _ => 0, fun _ => 0, fun _ => 0, fun _ => 0)) (by omega) ?_ ?_ ?_
  · refine ⟨0, 0, 0, fun _ => 0, fun _ => 0, fun _ => 0, fun _ _ => 0, fun _ _ => 0, rfl, rfl, rfl, rfl, rfl, ?_⟩
    refine ⟨by omega, by omega, fun k hk => absurd hk (by omega), fun k hk => absurd hk (by omega), fun k hk => absurd hk (by omega), fun k hk => absurd hk (by omega), ⟨by omega, by omega, fun k hk => absurd hk (by omega), fun k hk => absurd hk (by omega), ⟨fun b hb => absurd hb (by omega), fun k t => Nat.zero_le _⟩, ⟨fun b hb => absurd hb (by omega), fun k t _ _ => rfl⟩⟩, fun b hb => absurd hb (by omega)⟩
  · intro n s hs
    obtain ⟨x2, x4, x6, x7, fc, fb, fw, fq, a1, a2, a3, a4, a5, a6, a7, a8, a9, a10, a11, a12, a13, a14, a15, a16, a17, a18, a19, a20, a21⟩ := s
    exact br_c (fun _ => rfl) (fun _ => pk_le 62 (2 * 31) (fun _ => rfl) (fun z => absurd z (by omega)))
  · intro n j s hj hs hw
    obtain ⟨x2, x4, x6, x7, fc, fb, fw, fq, a1, a2, a3, a4, a5, a6, a7, a8, a9, a10, a11, a12, a13, a14, a15, a16, a17, a18, a19, a20, a21⟩ := s
    obtain ⟨C, B, N, pc, pb, hc, hk, hb, e1, e2, e3, e4, e5, h⟩ := hs
    dsimp only at e1 e2
    subst e1 e2 e3 e4 e5
    refine cn_turn hL hj h rfl ?_
    intro x2' x4' C' B' N' pc' pb' hc' hk' hb' q b1 b2 b3 b4 b5 b6 b7 b8 b9 b10 b11 b12 b13 b14 b15 b16 b17 b18 b19 b20 b21 h2
    exact hw (x2', x4', nI C', nI B', (nI C', nI B', nI N', q, b1, b2, b3, b4, b5, b6, b7, b8, b9, b10, b11, b12, b13, b14, b15, b16, b17, b18, b19, b20, b21)) ⟨C', B', N', pc', pb', hc', hk', hb', rfl, rfl, rfl, rfl, rfl, h2⟩
end
