section
/-! the pure game: pl (who moves), go (goals), co (costs); a place q has the moves 2q, 2q+1 -/
/-- the better of two for the one who moves -/
def mg_opt (b : Bool) (x y : Int) : Int := match b with
  | true => max x y
  | false => min x y
/-- the best sum over k rounds -/
def mg_v (pl : Nat → Bool) (go : Nat → Nat) (co : Nat → Int) : Nat → Nat → Int
  | 0 => fun _ => 0
  | k + 1 => fun q => mg_opt (pl q) (co (q * 2) + mg_v pl go co k (go (q * 2))) (co (q * 2 + 1) + mg_v pl go co k (go (q * 2 + 1)))
/-- the part of a stack from x down -/
def mg_cut (x : Nat) : List (Nat × Int) → List (Nat × Int)
  | [] => []
  | e :: t => if e.1 = x then e :: t else mg_cut x t
/-- one move of the first-cycle game: R is what a longer stack is worth -/
def mg_st (go : Nat → Nat) (co : Nat → Int) (R : List (Nat × Int) → Int) (L : List (Nat × Int)) (s : Int) (i : Nat) : Int :=
  match mg_cut (go i) L with
  | [] => R ((go i, s + co i) :: L)
  | d :: r => (s + co i - d.2) * ((60 / (L.length - r.length) : Nat) : Int)
/-- the first-cycle game: sixty times the mean of the first cycle under best play -/
def mg_F (pl : Nat → Bool) (go : Nat → Nat) (co : Nat → Int) : Nat → List (Nat × Int) → Int
  | 0 => fun _ => 0
  | f + 1 => fun L => match L with
    | [] => 0
    | e :: t => mg_opt (pl e.1) (mg_st go co (mg_F pl go co f) (e :: t) e.2 (e.1 * 2)) (mg_st go co (mg_F pl go co f) (e :: t) e.2 (e.1 * 2 + 1))
/-- the top of a stack lies at most 3 from what is below it; the bottom is 0 -/
def mg_near (s : Int) : List (Nat × Int) → Prop
  | [] => s = 0
  | d :: _ => -3 ≤ s - d.2 ∧ s - d.2 ≤ 3
/-- a stack of the first-cycle game -/
def mg_W (n : Nat) : List (Nat × Int) → Prop
  | [] => True
  | e :: t => e.1 < n ∧ mg_cut e.1 t = [] ∧ mg_near e.2 t ∧ mg_W n t
theorem mg_cut_hit {x : Nat} {e : Nat × Int} {t : List (Nat × Int)} (h : e.1 = x) : mg_cut x (e :: t) = e :: t := by
  unfold mg_cut
  rw [if_pos h]
theorem mg_cut_miss {x : Nat} {e : Nat × Int} {t : List (Nat × Int)} (h : ¬ e.1 = x) : mg_cut x (e :: t) = mg_cut x t := by
  rw [mg_cut, if_neg h]
theorem mg_cut_len {x : Nat} {d : Nat × Int} {r : List (Nat × Int)} : ∀ {L : List (Nat × Int)}, mg_cut x L = d :: r → d.1 = x ∧ r.length < L.length := by
  intro L
  induction L with
  | nil => intro h; exact absurd h (by simp [mg_cut])
  | cons e t ih =>
    intro h
    by_cases c : e.1 = x
    · rw [mg_cut_hit c] at h
      injection h with h1 h2
      subst h1 h2
      exact ⟨c, by simp⟩
    · rw [mg_cut_miss c] at h
      have := ih h
      exact ⟨this.1, by simp only [List.length_cons]; omega⟩
theorem mg_cut_W {n x : Nat} {d : Nat × Int} {r : List (Nat × Int)} : ∀ {L : List (Nat × Int)}, mg_cut x L = d :: r → mg_W n L → mg_W n (d :: r) := by
  intro L
  induction L with
  | nil => intro h; exact absurd h (by simp [mg_cut])
  | cons e t ih =>
    intro h w
    by_cases c : e.1 = x
    · rw [mg_cut_hit c] at h
      rw [← h]
      exact w
    · rw [mg_cut_miss c] at h
      exact ih h w.2.2.2
/-- the sums of two places of a stack -/
theorem mg_cut_sum {n x : Nat} {d : Nat × Int} {r : List (Nat × Int)} : ∀ {t : List (Nat × Int)} {e : Nat × Int}, mg_cut x (e :: t) = d :: r → mg_W n (e :: t) → r.length ≤ t.length ∧ -3 * ((t.length : Int) - r.length) ≤ e.2 - d.2 ∧ e.2 - d.2 ≤ 3 * ((t.length : Int) - r.length) := by
  intro t
  induction t with
  | nil =>
    intro e h w
    by_cases c : e.1 = x
    · rw [mg_cut_hit c] at h
      injection h with h1 h2
      subst h1 h2
      refine ⟨Nat.le_refl _, ?_, ?_⟩ <;> omega
    · rw [mg_cut_miss c] at h
      exact absurd h (by simp [mg_cut])
  | cons e' t ih =>
    intro e h w
    by_cases c : e.1 = x
    · rw [mg_cut_hit c] at h
      injection h with h1 h2
      subst h1 h2
      refine ⟨Nat.le_refl _, ?_, ?_⟩ <;> omega
    · rw [mg_cut_miss c] at h
      have hi := ih h w.2.2.2
      have hn : -3 ≤ e.2 - e'.2 ∧ e.2 - e'.2 ≤ 3 := w.2.2.1
      simp only [List.length_cons]
      refine ⟨by omega, ?_, ?_⟩ <;> omega
theorem mg_W_sum {n : Nat} : ∀ {t : List (Nat × Int)} {e : Nat × Int}, mg_W n (e :: t) → -3 * (t.length : Int) ≤ e.2 ∧ e.2 ≤ 3 * (t.length : Int) := by
  intro t
  induction t with
  | nil =>
    intro e w
    have h : e.2 = 0 := w.2.2.1
    simp only [List.length_nil]
    omega
  | cons e' t ih =>
    intro e w
    have hi := ih w.2.2.2
    have hn : -3 ≤ e.2 - e'.2 ∧ e.2 - e'.2 ≤ 3 := w.2.2.1
    simp only [List.length_cons]
    omega
/-- what isn't on the stack -/
theorem mg_W_free {n : Nat} : ∀ {L : List (Nat × Int)}, mg_W n L → ∃ U : List Nat, L.length + U.length = n ∧ ∀ x, x < n → mg_cut x L = [] → x ∈ U := by
  intro L
  induction L with
  | nil =>
    intro _
    exact ⟨List.range n, by simp, fun x hx _ => List.mem_range.mpr hx⟩
  | cons e t ih =>
    intro w
    obtain ⟨U, hU, hm⟩ := ih w.2.2.2
    have he : e.1 ∈ U := hm e.1 w.1 w.2.1
    have hl := List.length_erase_of_mem he
    have hp : 0 < U.length := List.length_pos_of_mem he
    refine ⟨U.erase e.1, ?_, fun x hx hc => ?_⟩
    · rw [hl, List.length_cons]
      omega
    · by_cases c : e.1 = x
      · rw [mg_cut_hit c] at hc
        exact absurd hc (by simp)
      · rw [mg_cut_miss c] at hc
        exact (List.mem_erase_of_ne (fun z => c z.symm)).mpr (hm x hx hc)
theorem mg_W_len {n : Nat} {L : List (Nat × Int)} (w : mg_W n L) : L.length ≤ n := by
  obtain ⟨U, hU, _⟩ := mg_W_free w
  omega
/-- a move onto a new place keeps the stack a stack -/
theorem mg_W_add {n : Nat} {go : Nat → Nat} {co : Nat → Int} (hgo : ∀ i, i < 2 * n → go i < n) (hco : ∀ i, i < 2 * n → -3 ≤ co i ∧ co i ≤ 3) {e : Nat × Int} {t : List (Nat × Int)} (w : mg_W n (e :: t)) {i : Nat} (hi : i < 2 * n) (hc : mg_cut (go i) (e :: t) = []) : mg_W n ((go i, e.2 + co i) :: e :: t) := by
  have h := hco i hi
  refine ⟨hgo i hi, hc, ?_, w⟩
  show -3 ≤ e.2 + co i - e.2 ∧ e.2 + co i - e.2 ≤ 3
  omega
/-- 60 / l over l in 1 .. 5 -/
theorem mg_60 {l : Nat} (h1 : 1 ≤ l) (h5 : l ≤ 5) : ((60 / l : Nat) : Int) * l = 60 := by
  have : l = 1 ∨ l = 2 ∨ l = 3 ∨ l = 4 ∨ l = 5 := by omega
  rcases this with rfl | rfl | rfl | rfl | rfl <;> rfl
theorem mg_60p {l : Nat} (h1 : 1 ≤ l) (h5 : l ≤ 5) : (0 : Int) < ((60 / l : Nat) : Int) := by
  have : l = 1 ∨ l = 2 ∨ l = 3 ∨ l = 4 ∨ l = 5 := by omega
  rcases this with rfl | rfl | rfl | rfl | rfl <;> decide
theorem mg_opt_or (b : Bool) (x y : Int) : mg_opt b x y = x ∨ mg_opt b x y = y := by
  cases b
  · show min x y = x ∨ min x y = y
    omega
  · show max x y = x ∨ max x y = y
    omega
/-- the value of the first-cycle game is sixty times the mean of a cycle -/
def mg_V (n : Nat) (N : Int) : Prop := ∃ (l : Nat) (s : Int), 1 ≤ l ∧ l ≤ n ∧ -3 * (l : Int) ≤ s ∧ s ≤ 3 * (l : Int) ∧ N = s * ((60 / l : Nat) : Int)
theorem mg_V_bd {n : Nat} {N : Int} (hn : n ≤ 5) (h : mg_V n N) : -180 ≤ N ∧ N ≤ 180 := by
  obtain ⟨l, s, h1, h2, h3, h4, h5⟩ := h
  have : l = 1 ∨ l = 2 ∨ l = 3 ∨ l = 4 ∨ l = 5 := by omega
  rcases this with rfl | rfl | rfl | rfl | rfl
  · have e : N = s * 60 := h5
    omega
  · have e : N = s * 30 := h5
    omega
  · have e : N = s * 20 := h5
    omega
  · have e : N = s * 15 := h5
    omega
  · have e : N = s * 12 := h5
    omega
theorem mg_F_V {n : Nat} {pl : Nat → Bool} {go : Nat → Nat} {co : Nat → Int} (hgo : ∀ i, i < 2 * n → go i < n) (hco : ∀ i, i < 2 * n → -3 ≤ co i ∧ co i ≤ 3) : ∀ (f : Nat) (e : Nat × Int) (t : List (Nat × Int)), mg_W n (e :: t) → f + (e :: t).length = n + 1 → mg_V n (mg_F pl go co f (e :: t)) := by
  intro f
  induction f with
  | zero =>
    intro e t w h
    have := mg_W_len w
    omega
  | succ f ih =>
    intro e t w h
    have key : ∀ i, i < 2 * n → mg_V n (mg_st go co (mg_F pl go co f) (e :: t) e.2 i) := by
      intro i hi
      unfold mg_st
      have hl := mg_W_len w
      cases hc : mg_cut (go i) (e :: t) with
      | nil =>
        show mg_V n (mg_F pl go co f ((go i, e.2 + co i) :: e :: t))
        refine ih _ _ (mg_W_add hgo hco w hi hc) ?_
        rw [List.length_cons]
        omega
      | cons d r =>
        show mg_V n ((e.2 + co i - d.2) * ((60 / ((e :: t).length - r.length) : Nat) : Int))
        have h1 := mg_cut_sum hc w
        have h2 := hco i hi
        rw [List.length_cons] at hl ⊢
        refine ⟨t.length + 1 - r.length, e.2 + co i - d.2, by omega, by omega, by omega, by omega, rfl⟩
    have he : e.1 < n := w.1
    show mg_V n (mg_opt (pl e.1) (mg_st go co (mg_F pl go co f) (e :: t) e.2 (e.1 * 2)) (mg_st go co (mg_F pl go co f) (e :: t) e.2 (e.1 * 2 + 1)))
    rcases mg_opt_or (pl e.1) (mg_st go co (mg_F pl go co f) (e :: t) e.2 (e.1 * 2)) (mg_st go co (mg_F pl go co f) (e :: t) e.2 (e.1 * 2 + 1)) with z | z
    · rw [z]
      exact key _ (by omega)
    · rw [z]
      exact key _ (by omega)
end
section
/-! the sum over k rounds against k times the value of the first-cycle game -/
/-- every stack below is worth at least N -/
def mg_I (pl : Nat → Bool) (go : Nat → Nat) (co : Nat → Int) (n : Nat) (N : Int) : List (Nat × Int) → Prop
  | [] => True
  | e :: t => N ≤ mg_F pl go co (n - t.length) (e :: t) ∧ mg_I pl go co n N t
/-- every stack below is worth at most N -/
def mg_J (pl : Nat → Bool) (go : Nat → Nat) (co : Nat → Int) (n : Nat) (N : Int) : List (Nat × Int) → Prop
  | [] => True
  | e :: t => mg_F pl go co (n - t.length) (e :: t) ≤ N ∧ mg_J pl go co n N t
theorem mg_cut_I {pl : Nat → Bool} {go : Nat → Nat} {co : Nat → Int} {n x : Nat} {N : Int} {d : Nat × Int} {r : List (Nat × Int)} : ∀ {L : List (Nat × Int)}, mg_cut x L = d :: r → mg_I pl go co n N L → mg_I pl go co n N (d :: r) := by
  intro L
  induction L with
  | nil => intro h; exact absurd h (by simp [mg_cut])
  | cons e t ih =>
    intro h w
    by_cases c : e.1 = x
    · rw [mg_cut_hit c] at h
      rw [← h]
      exact w
    · rw [mg_cut_miss c] at h
      exact ih h w.2
theorem mg_cut_J {pl : Nat → Bool} {go : Nat → Nat} {co : Nat → Int} {n x : Nat} {N : Int} {d : Nat × Int} {r : List (Nat × Int)} : ∀ {L : List (Nat × Int)}, mg_cut x L = d :: r → mg_J pl go co n N L → mg_J pl go co n N (d :: r) := by
  intro L
  induction L with
  | nil => intro h; exact absurd h (by simp [mg_cut])
  | cons e t ih =>
    intro h w
    by_cases c : e.1 = x
    · rw [mg_cut_hit c] at h
      rw [← h]
      exact w
    · rw [mg_cut_miss c] at h
      exact ih h w.2
theorem mg_scale_le {l : Nat} (h1 : 1 ≤ l) (h5 : l ≤ 5) {N y : Int} (h : N ≤ y * ((60 / l : Nat) : Int)) : (l : Int) * N ≤ 60 * y := by
  have : l = 1 ∨ l = 2 ∨ l = 3 ∨ l = 4 ∨ l = 5 := by omega
  rcases this with rfl | rfl | rfl | rfl | rfl
  · have e : N ≤ y * 60 := h
    omega
  · have e : N ≤ y * 30 := h
    omega
  · have e : N ≤ y * 20 := h
    omega
  · have e : N ≤ y * 15 := h
    omega
  · have e : N ≤ y * 12 := h
    omega
theorem mg_scale_ge {l : Nat} (h1 : 1 ≤ l) (h5 : l ≤ 5) {N y : Int} (h : y * ((60 / l : Nat) : Int) ≤ N) : 60 * y ≤ (l : Int) * N := by
  have : l = 1 ∨ l = 2 ∨ l = 3 ∨ l = 4 ∨ l = 5 := by omega
  rcases this with rfl | rfl | rfl | rfl | rfl
  · have e : y * 60 ≤ N := h
    omega
  · have e : y * 30 ≤ N := h
    omega
  · have e : y * 20 ≤ N := h
    omega
  · have e : y * 15 ≤ N := h
    omega
  · have e : y * 12 ≤ N := h
    omega
theorem mg_low {n : Nat} {pl : Nat → Bool} {go : Nat → Nat} {co : Nat → Int} {N : Int} (hn : n ≤ 5) (hgo : ∀ i, i < 2 * n → go i < n) (hco : ∀ i, i < 2 * n → -3 ≤ co i ∧ co i ≤ 3) (hN : N ≤ 180) : ∀ (k : Nat) (e : Nat × Int) (t : List (Nat × Int)), mg_W n (e :: t) → mg_I pl go co n N (e :: t) → (k : Int) * N + (t.length : Int) * N - 360 * ((n : Int) - 1) ≤ 60 * (mg_v pl go co k e.1 + e.2) := by
  intro k
  induction k with
  | zero =>
    intro e t w _
    have h1 := mg_W_sum w
    have h2 := mg_W_len w
    have h3 : (t.length : Int) * N ≤ (t.length : Int) * 180 := Int.mul_le_mul_of_nonneg_left hN (by omega)
    rw [List.length_cons] at h2
    show ((0 : Nat) : Int) * N + (t.length : Int) * N - 360 * ((n : Int) - 1) ≤ 60 * (0 + e.2)
    omega
  | succ k ih =>
    intro e t w hI
    have hl := mg_W_len w
    rw [List.length_cons] at hl
    have he : e.1 < n := w.1
    have hs : n - t.length = (n - (t.length + 1)) + 1 := by omega
    have key : ∀ i, i < 2 * n → N ≤ mg_st go co (mg_F pl go co (n - (t.length + 1))) (e :: t) e.2 i → ((k + 1 : Nat) : Int) * N + (t.length : Int) * N - 360 * ((n : Int) - 1) ≤ 60 * (co i + mg_v pl go co k (go i) + e.2) := by
      intro i hi hv
      have e1 : ((k + 1 : Nat) : Int) * N = (k : Int) * N + N := by rw [Int.natCast_add, Int.add_mul]; omega
      unfold mg_st at hv
      cases hc : mg_cut (go i) (e :: t) with
      | nil =>
        rw [hc] at hv
        have q := ih (go i, e.2 + co i) (e :: t) (mg_W_add hgo hco w hi hc) ⟨hv, hI⟩
        have e2 : ((e :: t).length : Int) * N = (t.length : Int) * N + N := by rw [List.length_cons, Int.natCast_add, Int.add_mul]; omega
        have q' : (k : Int) * N + ((e :: t).length : Int) * N - 360 * ((n : Int) - 1) ≤ 60 * (mg_v pl go co k (go i) + (e.2 + co i)) := q
        omega
      | cons d r =>
        rw [hc] at hv
        have h1 := mg_cut_sum hc w
        have hd : d.1 = go i := (mg_cut_len hc).1
        have q := ih d r (mg_cut_W hc w) (mg_cut_I hc hI)
        rw [hd] at q
        have hv' : N ≤ (e.2 + co i - d.2) * ((60 / (t.length + 1 - r.length) : Nat) : Int) := hv
        have h2 := mg_scale_le (by omega) (by omega) hv'
        have e3 : ((t.length + 1 - r.length : Nat) : Int) * N = (t.length : Int) * N + N - (r.length : Int) * N := by
          rw [show ((t.length + 1 - r.length : Nat) : Int) = (t.length : Int) + 1 - (r.length : Int) by omega, Int.sub_mul, Int.add_mul]
          omega
        omega
    have hF : N ≤ mg_F pl go co (n - t.length) (e :: t) := hI.1
    rw [hs] at hF
    have hF' : N ≤ mg_opt (pl e.1) (mg_st go co (mg_F pl go co (n - (t.length + 1))) (e :: t) e.2 (e.1 * 2)) (mg_st go co (mg_F pl go co (n - (t.length + 1))) (e :: t) e.2 (e.1 * 2 + 1)) := hF
    show _ ≤ 60 * (mg_opt (pl e.1) (co (e.1 * 2) + mg_v pl go co k (go (e.1 * 2))) (co (e.1 * 2 + 1) + mg_v pl go co k (go (e.1 * 2 + 1))) + e.2)
    have k0 := key (e.1 * 2) (by omega)
    have k1 := key (e.1 * 2 + 1) (by omega)
    cases hp : pl e.1 with
    | true =>
      rw [hp] at hF'
      have hm : N ≤ max (mg_st go co (mg_F pl go co (n - (t.length + 1))) (e :: t) e.2 (e.1 * 2)) (mg_st go co (mg_F pl go co (n - (t.length + 1))) (e :: t) e.2 (e.1 * 2 + 1)) := hF'
      show _ ≤ 60 * (max (co (e.1 * 2) + mg_v pl go co k (go (e.1 * 2))) (co (e.1 * 2 + 1) + mg_v pl go co k (go (e.1 * 2 + 1))) + e.2)
      rcases (show N ≤ mg_st go co (mg_F pl go co (n - (t.length + 1))) (e :: t) e.2 (e.1 * 2) ∨ N ≤ mg_st go co (mg_F pl go co (n - (t.length + 1))) (e :: t) e.2 (e.1 * 2 + 1) by omega) with z | z
      · have := k0 z
        omega
      · have := k1 z
        omega
    | false =>
      rw [hp] at hF'
      have hm : N ≤ min (mg_st go co (mg_F pl go co (n - (t.length + 1))) (e :: t) e.2 (e.1 * 2)) (mg_st go co (mg_F pl go co (n - (t.length + 1))) (e :: t) e.2 (e.1 * 2 + 1)) := hF'
      show _ ≤ 60 * (min (co (e.1 * 2) + mg_v pl go co k (go (e.1 * 2))) (co (e.1 * 2 + 1) + mg_v pl go co k (go (e.1 * 2 + 1))) + e.2)
      have z0 := k0 (by omega)
      have z1 := k1 (by omega)
      omega
theorem mg_up {n : Nat} {pl : Nat → Bool} {go : Nat → Nat} {co : Nat → Int} {N : Int} (hn : n ≤ 5) (hgo : ∀ i, i < 2 * n → go i < n) (hco : ∀ i, i < 2 * n → -3 ≤ co i ∧ co i ≤ 3) (hN : -180 ≤ N) : ∀ (k : Nat) (e : Nat × Int) (t : List (Nat × Int)), mg_W n (e :: t) → mg_J pl go co n N (e :: t) → 60 * (mg_v pl go co k e.1 + e.2) ≤ (k : Int) * N + (t.length : Int) * N + 360 * ((n : Int) - 1) := by
  intro k
  induction k with
  | zero =>
    intro e t w _
    have h1 := mg_W_sum w
    have h2 := mg_W_len w
    have h3 : (t.length : Int) * (-180) ≤ (t.length : Int) * N := Int.mul_le_mul_of_nonneg_left hN (by omega)
    rw [List.length_cons] at h2
    show 60 * (0 + e.2) ≤ ((0 : Nat) : Int) * N + (t.length : Int) * N + 360 * ((n : Int) - 1)
    omega
  | succ k ih =>
    intro e t w hI
    have hl := mg_W_len w
    rw [List.length_cons] at hl
    have he : e.1 < n := w.1
    have hs : n - t.length = (n - (t.length + 1)) + 1 := by omega
    have key : ∀ i, i < 2 * n → mg_st go co (mg_F pl go co (n - (t.length + 1))) (e :: t) e.2 i ≤ N → 60 * (co i + mg_v pl go co k (go i) + e.2) ≤ ((k + 1 : Nat) : Int) * N + (t.length : Int) * N + 360 * ((n : Int) - 1) := by
      intro i hi hv
      have e1 : ((k + 1 : Nat) : Int) * N = (k : Int) * N + N := by rw [Int.natCast_add, Int.add_mul]; omega
      unfold mg_st at hv
      cases hc : mg_cut (go i) (e :: t) with
      | nil =>
        rw [hc] at hv
        have q := ih (go i, e.2 + co i) (e :: t) (mg_W_add hgo hco w hi hc) ⟨hv, hI⟩
        have e2 : ((e :: t).length : Int) * N = (t.length : Int) * N + N := by rw [List.length_cons, Int.natCast_add, Int.add_mul]; omega
        have q' : 60 * (mg_v pl go co k (go i) + (e.2 + co i)) ≤ (k : Int) * N + ((e :: t).length : Int) * N + 360 * ((n : Int) - 1) := q
        omega
      | cons d r =>
        rw [hc] at hv
        have h1 := mg_cut_sum hc w
        have hd : d.1 = go i := (mg_cut_len hc).1
        have q := ih d r (mg_cut_W hc w) (mg_cut_J hc hI)
        rw [hd] at q
        have hv' : (e.2 + co i - d.2) * ((60 / (t.length + 1 - r.length) : Nat) : Int) ≤ N := hv
        have h2 := mg_scale_ge (by omega) (by omega) hv'
        have e3 : ((t.length + 1 - r.length : Nat) : Int) * N = (t.length : Int) * N + N - (r.length : Int) * N := by
          rw [show ((t.length + 1 - r.length : Nat) : Int) = (t.length : Int) + 1 - (r.length : Int) by omega, Int.sub_mul, Int.add_mul]
          omega
        omega
    have hF : mg_F pl go co (n - t.length) (e :: t) ≤ N := hI.1
    rw [hs] at hF
    have hF' : mg_opt (pl e.1) (mg_st go co (mg_F pl go co (n - (t.length + 1))) (e :: t) e.2 (e.1 * 2)) (mg_st go co (mg_F pl go co (n - (t.length + 1))) (e :: t) e.2 (e.1 * 2 + 1)) ≤ N := hF
    show 60 * (mg_opt (pl e.1) (co (e.1 * 2) + mg_v pl go co k (go (e.1 * 2))) (co (e.1 * 2 + 1) + mg_v pl go co k (go (e.1 * 2 + 1))) + e.2) ≤ _
    have k0 := key (e.1 * 2) (by omega)
    have k1 := key (e.1 * 2 + 1) (by omega)
    cases hp : pl e.1 with
    | true =>
      rw [hp] at hF'
      have hm : max (mg_st go co (mg_F pl go co (n - (t.length + 1))) (e :: t) e.2 (e.1 * 2)) (mg_st go co (mg_F pl go co (n - (t.length + 1))) (e :: t) e.2 (e.1 * 2 + 1)) ≤ N := hF'
      show 60 * (max (co (e.1 * 2) + mg_v pl go co k (go (e.1 * 2))) (co (e.1 * 2 + 1) + mg_v pl go co k (go (e.1 * 2 + 1))) + e.2) ≤ _
      have z0 := k0 (by omega)
      have z1 := k1 (by omega)
      omega
    | false =>
      rw [hp] at hF'
      have hm : min (mg_st go co (mg_F pl go co (n - (t.length + 1))) (e :: t) e.2 (e.1 * 2)) (mg_st go co (mg_F pl go co (n - (t.length + 1))) (e :: t) e.2 (e.1 * 2 + 1)) ≤ N := hF'
      show 60 * (min (co (e.1 * 2) + mg_v pl go co k (go (e.1 * 2))) (co (e.1 * 2 + 1) + mg_v pl go co k (go (e.1 * 2 + 1))) + e.2) ≤ _
      rcases (show mg_st go co (mg_F pl go co (n - (t.length + 1))) (e :: t) e.2 (e.1 * 2) ≤ N ∨ mg_st go co (mg_F pl go co (n - (t.length + 1))) (e :: t) e.2 (e.1 * 2 + 1) ≤ N by omega) with z | z
      · have := k0 z
        omega
      · have := k1 z
        omega
/-- the value of place p -/
def mg_N (n : Nat) (pl : Nat → Bool) (go : Nat → Nat) (co : Nat → Int) (p : Nat) : Int := mg_F pl go co n [(p, 0)]
theorem mg_W1 {n p : Nat} (hp : p < n) : mg_W n [(p, 0)] := ⟨hp, rfl, rfl, trivial⟩
theorem mg_N_V {n : Nat} {pl : Nat → Bool} {go : Nat → Nat} {co : Nat → Int} {p : Nat} (hgo : ∀ i, i < 2 * n → go i < n) (hco : ∀ i, i < 2 * n → -3 ≤ co i ∧ co i ≤ 3) (hp : p < n) : mg_V n (mg_N n pl go co p) :=
  mg_F_V hgo hco n (p, 0) [] (mg_W1 hp) rfl
/-- (A) -/
theorem mg_A {n : Nat} {pl : Nat → Bool} {go : Nat → Nat} {co : Nat → Int} {p : Nat} (hn : n ≤ 5) (hgo : ∀ i, i < 2 * n → go i < n) (hco : ∀ i, i < 2 * n → -3 ≤ co i ∧ co i ≤ 3) (hp : p < n) (k : Nat) :
    (k : Int) * mg_N n pl go co p - 360 * ((n : Int) - 1) ≤ 60 * mg_v pl go co k p ∧ 60 * mg_v pl go co k p ≤ (k : Int) * mg_N n pl go co p + 360 * ((n : Int) - 1) := by
  have hb := mg_V_bd hn (mg_N_V (pl := pl) hgo hco hp)
  have h1 := mg_low (pl := pl) hn hgo hco hb.2 k (p, 0) [] (mg_W1 hp) ⟨Int.le_refl _, trivial⟩
  have h2 := mg_up (pl := pl) hn hgo hco hb.1 k (p, 0) [] (mg_W1 hp) ⟨Int.le_refl _, trivial⟩
  have h1' : (k : Int) * mg_N n pl go co p + ((0 : Nat) : Int) * mg_N n pl go co p - 360 * ((n : Int) - 1) ≤ 60 * (mg_v pl go co k p + 0) := h1
  have h2' : 60 * (mg_v pl go co k p + 0) ≤ (k : Int) * mg_N n pl go co p + ((0 : Nat) : Int) * mg_N n pl go co p + 360 * ((n : Int) - 1) := h2
  have e : ((0 : Nat) : Int) * mg_N n pl go co p = 0 := Int.zero_mul _
  rw [e] at h1' h2'
  omega
/-- with p on the stack, p's own moves don't matter -/
theorem mg_F_off {pl : Nat → Bool} {go go' : Nat → Nat} {co co' : Nat → Int} {p : Nat} (h : ∀ i, i ≠ p * 2 → i ≠ p * 2 + 1 → go' i = go i ∧ co' i = co i) : ∀ (f : Nat) (e : Nat × Int) (t : List (Nat × Int)), e.1 ≠ p → mg_cut p t ≠ [] → mg_F pl go' co' f (e :: t) = mg_F pl go co f (e :: t) := by
  intro f
  induction f with
  | zero => intro e t _ _; rfl
  | succ f ih =>
    intro e t he ht
    have key : ∀ i, i ≠ p * 2 → i ≠ p * 2 + 1 → mg_st go' co' (mg_F pl go' co' f) (e :: t) e.2 i = mg_st go co (mg_F pl go co f) (e :: t) e.2 i := by
      intro i h1 h2
      unfold mg_st
      rw [(h i h1 h2).1, (h i h1 h2).2]
      cases hc : mg_cut (go i) (e :: t) with
      | nil =>
        show mg_F pl go' co' f ((go i, e.2 + co i) :: e :: t) = mg_F pl go co f ((go i, e.2 + co i) :: e :: t)
        have hp : mg_cut p (e :: t) ≠ [] := by
          rw [mg_cut_miss he]
          exact ht
        refine ih _ _ (fun z => ?_) hp
        have z' : go i = p := z
        rw [z'] at hc
        exact hp hc
      | cons d r => rfl
    show mg_opt (pl e.1) (mg_st go' co' (mg_F pl go' co' f) (e :: t) e.2 (e.1 * 2)) (mg_st go' co' (mg_F pl go' co' f) (e :: t) e.2 (e.1 * 2 + 1)) = mg_opt (pl e.1) (mg_st go co (mg_F pl go co f) (e :: t) e.2 (e.1 * 2)) (mg_st go co (mg_F pl go co f) (e :: t) e.2 (e.1 * 2 + 1))
    rw [key _ (by omega) (by omega), key _ (by omega) (by omega)]
/-- (B): both moves of p made the move i: the value of p is what that move is worth -/
theorem mg_N_one {n : Nat} {pl : Nat → Bool} {go go' : Nat → Nat} {co co' : Nat → Int} {p i : Nat} (h : ∀ i, i ≠ p * 2 → i ≠ p * 2 + 1 → go' i = go i ∧ co' i = co i) (h0 : go' (p * 2) = go i ∧ co' (p * 2) = co i) (h1 : go' (p * 2 + 1) = go i ∧ co' (p * 2 + 1) = co i) : mg_N (n + 1) pl go' co' p = mg_st go co (mg_F pl go co n) [(p, 0)] 0 i := by
  have key : ∀ j, go' j = go i ∧ co' j = co i → mg_st go' co' (mg_F pl go' co' n) [(p, 0)] 0 j = mg_st go co (mg_F pl go co n) [(p, 0)] 0 i := by
    intro j hj
    unfold mg_st
    rw [hj.1, hj.2]
    by_cases c : p = go i
    · rw [mg_cut_hit (show ((p, 0) : Nat × Int).1 = go i from c)]
    · rw [mg_cut_miss (show ¬ ((p, 0) : Nat × Int).1 = go i from c)]
      refine mg_F_off h n _ _ (fun z => c z.symm) ?_
      rw [mg_cut_hit (show ((p, 0) : Nat × Int).1 = p from rfl)]
      exact fun z => nomatch z
  show mg_opt (pl p) (mg_st go' co' (mg_F pl go' co' n) [(p, 0)] 0 (p * 2)) (mg_st go' co' (mg_F pl go' co' n) [(p, 0)] 0 (p * 2 + 1)) = _
  rw [key _ h0, key _ h1]
  rcases mg_opt_or (pl p) (mg_st go co (mg_F pl go co n) [(p, 0)] 0 i) (mg_st go co (mg_F pl go co n) [(p, 0)] 0 i) with z | z
  · exact z
  · exact z
theorem mg_N_two {n : Nat} {pl : Nat → Bool} {go : Nat → Nat} {co : Nat → Int} {p : Nat} : mg_N (n + 1) pl go co p = mg_st go co (mg_F pl go co n) [(p, 0)] 0 (p * 2) ∨ mg_N (n + 1) pl go co p = mg_st go co (mg_F pl go co n) [(p, 0)] 0 (p * 2 + 1) :=
  mg_opt_or _ _ _
/-- a game is its first n places -/
theorem mg_v_bd {n : Nat} {pl : Nat → Bool} {go : Nat → Nat} {co : Nat → Int} (hgo : ∀ i, i < 2 * n → go i < n) (hco : ∀ i, i < 2 * n → -3 ≤ co i ∧ co i ≤ 3) : ∀ (k q : Nat), q < n → -3 * (k : Int) ≤ mg_v pl go co k q ∧ mg_v pl go co k q ≤ 3 * (k : Int) := by
  intro k
  induction k with
  | zero =>
    intro q _
    show -3 * ((0 : Nat) : Int) ≤ 0 ∧ (0 : Int) ≤ 3 * ((0 : Nat) : Int)
    omega
  | succ k ih =>
    intro q hq
    have a0 := hco (q * 2) (by omega)
    have a1 := hco (q * 2 + 1) (by omega)
    have b0 := ih _ (hgo (q * 2) (by omega))
    have b1 := ih _ (hgo (q * 2 + 1) (by omega))
    show -3 * ((k + 1 : Nat) : Int) ≤ mg_opt (pl q) (co (q * 2) + mg_v pl go co k (go (q * 2))) (co (q * 2 + 1) + mg_v pl go co k (go (q * 2 + 1))) ∧ mg_opt (pl q) (co (q * 2) + mg_v pl go co k (go (q * 2))) (co (q * 2 + 1) + mg_v pl go co k (go (q * 2 + 1))) ≤ 3 * ((k + 1 : Nat) : Int)
    rcases mg_opt_or (pl q) (co (q * 2) + mg_v pl go co k (go (q * 2))) (co (q * 2 + 1) + mg_v pl go co k (go (q * 2 + 1))) with z | z
    · rw [z]
      omega
    · rw [z]
      omega
theorem mg_v_mir {n : Nat} {pl pl' : Nat → Bool} {go go' : Nat → Nat} {co co' : Nat → Int} (hgo : ∀ i, i < 2 * n → go i < n) (h1 : ∀ q, q < n → pl' q = !pl q) (h2 : ∀ i, i < 2 * n → go' i = go i) (h3 : ∀ i, i < 2 * n → co' i = - co i) : ∀ (k q : Nat), q < n → mg_v pl' go' co' k q = - mg_v pl go co k q := by
  intro k
  induction k with
  | zero => intro q _; rfl
  | succ k ih =>
    intro q hq
    show mg_opt (pl' q) (co' (q * 2) + mg_v pl' go' co' k (go' (q * 2))) (co' (q * 2 + 1) + mg_v pl' go' co' k (go' (q * 2 + 1))) = - mg_opt (pl q) (co (q * 2) + mg_v pl go co k (go (q * 2))) (co (q * 2 + 1) + mg_v pl go co k (go (q * 2 + 1)))
    rw [h1 q hq, h2 (q * 2) (by omega), h2 (q * 2 + 1) (by omega), h3 (q * 2) (by omega), h3 (q * 2 + 1) (by omega), ih _ (hgo (q * 2) (by omega)), ih _ (hgo (q * 2 + 1) (by omega))]
    cases pl q
    · show max (-co (q * 2) + -mg_v pl go co k (go (q * 2))) (-co (q * 2 + 1) + -mg_v pl go co k (go (q * 2 + 1))) = - min (co (q * 2) + mg_v pl go co k (go (q * 2))) (co (q * 2 + 1) + mg_v pl go co k (go (q * 2 + 1)))
      omega
    · show min (-co (q * 2) + -mg_v pl go co k (go (q * 2))) (-co (q * 2 + 1) + -mg_v pl go co k (go (q * 2 + 1))) = - max (co (q * 2) + mg_v pl go co k (go (q * 2))) (co (q * 2 + 1) + mg_v pl go co k (go (q * 2 + 1)))
      omega
theorem mg_v_shf {n : Nat} {pl pl' : Nat → Bool} {go go' : Nat → Nat} {co co' : Nat → Int} {w : Int} (hgo : ∀ i, i < 2 * n → go i < n) (h1 : ∀ q, q < n → pl' q = pl q) (h2 : ∀ i, i < 2 * n → go' i = go i) (h3 : ∀ i, i < 2 * n → co' i = co i + w) : ∀ (k q : Nat), q < n → mg_v pl' go' co' k q = mg_v pl go co k q + (k : Int) * w := by
  intro k
  induction k with
  | zero =>
    intro q _
    show (0 : Int) = 0 + ((0 : Nat) : Int) * w
    omega
  | succ k ih =>
    intro q hq
    have e1 : ((k + 1 : Nat) : Int) * w = (k : Int) * w + w := by rw [Int.natCast_add, Int.add_mul]; omega
    show mg_opt (pl' q) (co' (q * 2) + mg_v pl' go' co' k (go' (q * 2))) (co' (q * 2 + 1) + mg_v pl' go' co' k (go' (q * 2 + 1))) = mg_opt (pl q) (co (q * 2) + mg_v pl go co k (go (q * 2))) (co (q * 2 + 1) + mg_v pl go co k (go (q * 2 + 1))) + _
    rw [e1, h1 q hq, h2 (q * 2) (by omega), h2 (q * 2 + 1) (by omega), h3 (q * 2) (by omega), h3 (q * 2 + 1) (by omega), ih _ (hgo (q * 2) (by omega)), ih _ (hgo (q * 2 + 1) (by omega))]
    cases pl q
    · show min (co (q * 2) + w + (mg_v pl go co k (go (q * 2)) + (k : Int) * w)) (co (q * 2 + 1) + w + (mg_v pl go co k (go (q * 2 + 1)) + (k : Int) * w)) = min (co (q * 2) + mg_v pl go co k (go (q * 2))) (co (q * 2 + 1) + mg_v pl go co k (go (q * 2 + 1))) + ((k : Int) * w + w)
      omega
    · show max (co (q * 2) + w + (mg_v pl go co k (go (q * 2)) + (k : Int) * w)) (co (q * 2 + 1) + w + (mg_v pl go co k (go (q * 2 + 1)) + (k : Int) * w)) = max (co (q * 2) + mg_v pl go co k (go (q * 2))) (co (q * 2 + 1) + mg_v pl go co k (go (q * 2 + 1))) + ((k : Int) * w + w)
      omega
end
section
/-! the answer: the fraction with the least denominator that is near enough -/
def mg_K (n : Nat) : Nat := 12 * (n * n * n) + 1
/-- a / b is near enough to S / K -/
def mg_P (n : Nat) (S : Int) (b : Nat) (a : Int) : Prop := -(6 * ((n : Int) * (b : Int))) ≤ S * (b : Int) - (mg_K n : Int) * a ∧ S * (b : Int) - (mg_K n : Int) * a ≤ 6 * ((n : Int) * (b : Int))
/-- a / b is the answer for the sum S -/
def mg_G (n : Nat) (S : Int) (a : Int) (b : Nat) : Prop := 1 ≤ b ∧ b ≤ n ∧ mg_P n S b a ∧ ∀ (b' : Nat) (a' : Int), 1 ≤ b' → b' < b → ¬ mg_P n S b' a'
theorem mg_15 {n : Nat} (h1 : 1 ≤ n) (h5 : n ≤ 5) : n = 1 ∨ n = 2 ∨ n = 3 ∨ n = 4 ∨ n = 5 := by omega
theorem mg_V_mul {n : Nat} {N : Int} (hn : n ≤ 5) (h : mg_V n N) : ∃ (l : Nat) (s : Int), 1 ≤ l ∧ l ≤ n ∧ (l : Int) * N = 60 * s := by
  obtain ⟨l, s, h1, h2, _, _, h5⟩ := h
  refine ⟨l, s, h1, h2, ?_⟩
  have e := mg_60 h1 (by omega)
  rw [h5, Int.mul_comm, Int.mul_assoc, e, Int.mul_comm]
theorem mg_P_uni {n b : Nat} {S a a' : Int} (hn1 : 1 ≤ n) (hn : n ≤ 5) (hb1 : 1 ≤ b) (hb : b ≤ n) (h : mg_P n S b a) (h' : mg_P n S b a') : a = a' := by
  unfold mg_P mg_K at h h'
  rcases mg_15 hn1 hn with rfl | rfl | rfl | rfl | rfl <;> rcases mg_15 hb1 (by omega) with rfl | rfl | rfl | rfl | rfl <;> omega
theorem mg_P_N {n l b : Nat} {S N s a : Int} (hn1 : 1 ≤ n) (hn : n ≤ 5) (hl1 : 1 ≤ l) (hl : l ≤ n) (hb1 : 1 ≤ b) (hb : b ≤ n) (hN : (l : Int) * N = 60 * s) (h1 : (mg_K n : Int) * N - 360 * ((n : Int) - 1) ≤ 60 * S) (h2 : 60 * S ≤ (mg_K n : Int) * N + 360 * ((n : Int) - 1)) : mg_P n S b a ↔ (l : Int) * a = s * (b : Int) := by
  unfold mg_P
  unfold mg_K at h1 h2 ⊢
  rcases mg_15 hn1 hn with rfl | rfl | rfl | rfl | rfl <;> rcases mg_15 hb1 (by omega) with rfl | rfl | rfl | rfl | rfl <;> rcases mg_15 hl1 (by omega) with rfl | rfl | rfl | rfl | rfl <;> omega
theorem mg_G_uni {n b b' : Nat} {S a a' : Int} (hn1 : 1 ≤ n) (hn : n ≤ 5) (h : mg_G n S a b) (h' : mg_G n S a' b') : a = a' ∧ b = b' := by
  have e : b = b' := by
    rcases Nat.lt_trichotomy b b' with z | z | z
    · exact absurd h.2.2.1 (h'.2.2.2 b a h.1 z)
    · exact z
    · exact absurd h'.2.2.1 (h.2.2.2 b' a' h'.1 z)
  subst e
  exact ⟨mg_P_uni hn1 hn h.1 h.2.1 h.2.2.1 h'.2.2.1, rfl⟩
theorem mg_P_mir {n b : Nat} {S a : Int} (h : mg_P n S b a) : mg_P n (-S) b (-a) := by
  unfold mg_P at h ⊢
  rw [Int.neg_mul, Int.mul_neg]
  omega
theorem mg_G_mir {n b : Nat} {S a : Int} (h : mg_G n S a b) : mg_G n (-S) (-a) b := by
  refine ⟨h.1, h.2.1, mg_P_mir h.2.2.1, fun b' a' h1 h2 z => ?_⟩
  have := mg_P_mir z
  rw [Int.neg_neg] at this
  exact h.2.2.2 b' (-a') h1 h2 this
theorem mg_P_shf {n b : Nat} {S a : Int} (w : Int) (h : mg_P n S b a) : mg_P n (S + (mg_K n : Int) * w) b (a + w * (b : Int)) := by
  unfold mg_P at h ⊢
  have e : (S + (mg_K n : Int) * w) * (b : Int) - (mg_K n : Int) * (a + w * (b : Int)) = S * (b : Int) - (mg_K n : Int) * a := by
    rw [Int.add_mul, Int.mul_add, Int.mul_assoc]
    omega
  rw [e]
  exact h
theorem mg_G_shf {n b : Nat} {S a : Int} (w : Int) (h : mg_G n S a b) : mg_G n (S + (mg_K n : Int) * w) (a + w * (b : Int)) b := by
  refine ⟨h.1, h.2.1, mg_P_shf w h.2.2.1, fun b' a' h1 h2 z => ?_⟩
  have := mg_P_shf (-w) z
  have e : S + (mg_K n : Int) * w + (mg_K n : Int) * (-w) = S := by
    rw [Int.mul_neg]
    omega
  rw [e] at this
  exact h.2.2.2 b' _ h1 h2 this
theorem mg_G_same {n b : Nat} {S S' N a : Int} (hn1 : 1 ≤ n) (hn : n ≤ 5) (hV : mg_V n N) (h1 : (mg_K n : Int) * N - 360 * ((n : Int) - 1) ≤ 60 * S) (h2 : 60 * S ≤ (mg_K n : Int) * N + 360 * ((n : Int) - 1)) (h1' : (mg_K n : Int) * N - 360 * ((n : Int) - 1) ≤ 60 * S') (h2' : 60 * S' ≤ (mg_K n : Int) * N + 360 * ((n : Int) - 1)) (h : mg_G n S a b) : mg_G n S' a b := by
  obtain ⟨l, s, hl1, hl, hN⟩ := mg_V_mul hn hV
  refine ⟨h.1, h.2.1, (mg_P_N hn1 hn hl1 hl h.1 h.2.1 hN h1' h2').mpr ((mg_P_N hn1 hn hl1 hl h.1 h.2.1 hN h1 h2).mp h.2.2.1), fun b' a' q1 q2 z => ?_⟩
  have hb := h.2.1
  exact h.2.2.2 b' a' q1 q2 ((mg_P_N hn1 hn hl1 hl q1 (by omega) hN h1 h2).mpr ((mg_P_N hn1 hn hl1 hl q1 (by omega) hN h1' h2').mp z))
theorem mg_P_ex {n : Nat} {S N : Int} (hn1 : 1 ≤ n) (hn : n ≤ 5) (hV : mg_V n N) (h1 : (mg_K n : Int) * N - 360 * ((n : Int) - 1) ≤ 60 * S) (h2 : 60 * S ≤ (mg_K n : Int) * N + 360 * ((n : Int) - 1)) : ∃ (b : Nat) (a : Int), 1 ≤ b ∧ b ≤ n ∧ mg_P n S b a := by
  obtain ⟨l, s, hl1, hl, hN⟩ := mg_V_mul hn hV
  exact ⟨l, s, hl1, hl, (mg_P_N hn1 hn hl1 hl hl1 hl hN h1 h2).mpr (Int.mul_comm _ _)⟩
theorem mg_fl {x d q : Int} (hd : 0 < d) (h1 : d * q ≤ x) (h2 : x < d * q + d) : x / d = q := by
  have a1 : q ≤ x / d := Int.le_ediv_of_mul_le hd (by rw [Int.mul_comm]; exact h1)
  have a2 : x / d < q + 1 := Int.ediv_lt_of_lt_mul hd (by rw [Int.add_mul, Int.mul_comm q d, Int.one_mul]; exact h2)
  omega
/-- what is near enough is what rounding gives -/
theorem mg_P_rd {n b : Nat} {S a : Int} (hn1 : 1 ≤ n) (hn : n ≤ 5) (hb1 : 1 ≤ b) (hb : b ≤ n) (h : mg_P n S b a) : (2 * (S * (b : Int)) + (mg_K n : Int)) / (2 * (mg_K n : Int)) = a := by
  unfold mg_P at h
  unfold mg_K at h ⊢
  rcases mg_15 hn1 hn with rfl | rfl | rfl | rfl | rfl <;> rcases mg_15 hb1 (by omega) with rfl | rfl | rfl | rfl | rfl <;> first | omega | exact mg_fl (by omega) (by omega) (by omega)
/-! ints of the machine -/
def mg_i (x : Int) : Int32 := Int32.ofInt x
theorem mg_i_add (x y : Int) : mg_i x + mg_i y = mg_i (x + y) := (Int32.ofInt_add x y).symm
theorem mg_i_sub (x y : Int) : mg_i x - mg_i y = mg_i (x - y) := (Int32.ofInt_sub x y).symm
theorem mg_i_mul (x y : Int) : mg_i x * mg_i y = mg_i (x * y) := (Int32.ofInt_mul x y).symm
theorem mg_i_neg (x : Int) : - mg_i x = mg_i (-x) := (Int32.ofInt_neg x).symm
theorem mg_i_nI (n : Nat) : nI n = mg_i (n : Int) := Int32.ofInt_eq_ofNat.symm
theorem mg_i_of (x : Int32) : mg_i x.toInt = x := Int32.ofInt_toInt x
theorem mg_i_lt {x y : Int} (x1 : -2147483648 ≤ x) (x2 : x ≤ 2147483647) (y1 : -2147483648 ≤ y) (y2 : y ≤ 2147483647) : mg_i x < mg_i y ↔ x < y := Int32.ofInt_lt_iff_lt x1 x2 y1 y2
theorem mg_i_le {x y : Int} (x1 : -2147483648 ≤ x) (x2 : x ≤ 2147483647) (y1 : -2147483648 ≤ y) (y2 : y ≤ 2147483647) : mg_i x ≤ mg_i y ↔ x ≤ y := Int32.ofInt_le_iff_le x1 x2 y1 y2
theorem mg_i_int {x : Int} (x1 : -2147483648 ≤ x) (x2 : x ≤ 2147483647) : (mg_i x).toInt = x := by
  unfold mg_i
  rw [Int32.toInt_ofInt]
  show x.bmod 4294967296 = x
  exact Int.bmod_eq_of_le (by omega) (by omega)
theorem mg_i_eq {x y : Int} (x1 : -2147483648 ≤ x) (x2 : x ≤ 2147483647) (y1 : -2147483648 ≤ y) (y2 : y ≤ 2147483647) : mg_i x = mg_i y ↔ x = y :=
  ⟨fun h => by rw [← mg_i_int x1 x2, ← mg_i_int y1 y2, h], fun h => by rw [h]⟩
theorem mg_i_div {x y : Int} (x1 : -2147483648 ≤ x) (x2 : x ≤ 2147483647) (y1 : -2147483648 ≤ y) (y2 : y ≤ 2147483647) : mg_i x / mg_i y = mg_i (x.tdiv y) := (Int32.ofInt_tdiv x1 x2 y1 y2).symm
/-- branches over ints -/
theorem mg_lt {x y : Int32} {A B : Prop} (a b : Int) (f : a < b → A) (g : b ≤ a → B) (hx : x = mg_i a) (hy : y = mg_i b) (a1 : -2147483648 ≤ a) (a2 : a ≤ 2147483647) (b1 : -2147483648 ≤ b) (b2 : b ≤ 2147483647) : (x < y → A) ∧ (¬ x < y → B) := by
  subst hx hy
  rw [mg_i_lt a1 a2 b1 b2]
  exact ⟨f, fun z => g (by omega)⟩
theorem mg_le {x y : Int32} {A B : Prop} (a b : Int) (f : a ≤ b → A) (g : b < a → B) (hx : x = mg_i a) (hy : y = mg_i b) (a1 : -2147483648 ≤ a) (a2 : a ≤ 2147483647) (b1 : -2147483648 ≤ b) (b2 : b ≤ 2147483647) : (x ≤ y → A) ∧ (¬ x ≤ y → B) := by
  subst hx hy
  rw [mg_i_le a1 a2 b1 b2]
  exact ⟨f, fun z => g (by omega)⟩
theorem mg_eq {x y : Int32} {A B : Prop} (a b : Int) (f : a = b → A) (g : a ≠ b → B) (hx : x = mg_i a) (hy : y = mg_i b) (a1 : -2147483648 ≤ a) (a2 : a ≤ 2147483647) (b1 : -2147483648 ≤ b) (b2 : b ≤ 2147483647) : (x = y → A) ∧ (¬ x = y → B) := by
  subst hx hy
  rw [mg_i_eq a1 a2 b1 b2]
  exact ⟨f, g⟩
theorem mg_td_pos {u d : Int} (h : 0 ≤ u) : u.tdiv d = u / d := Int.tdiv_eq_ediv_of_nonneg h
theorem mg_td_ex {u d : Int} (h : u.tdiv d * d = u) : u.tdiv d = u / d := by
  have hd : d ∣ u := ⟨u.tdiv d, by rw [Int.mul_comm]; exact h.symm⟩
  have e := Int.tdiv_eq_ediv (a := u) (b := d)
  rw [if_pos (Or.inr hd)] at e
  omega
theorem mg_td_ne {u d : Int} (hu : u < 0) (hd : 0 < d) (h : u.tdiv d * d ≠ u) : u.tdiv d + (-1) = u / d := by
  have hn : ¬ (0 ≤ u ∨ d ∣ u) := by
    intro z
    rcases z with z | z
    · omega
    · exact h (Int.tdiv_mul_cancel z)
  have e := Int.tdiv_eq_ediv (a := u) (b := d)
  rw [if_neg hn, Int.sign_eq_one_of_pos hd] at e
  omega
end
section
/-! the game of a state -/
def mg_pl (a1 : Nat → Int32) (q : Nat) : Bool := decide (a1 q = 1)
def mg_go (a2 : Nat → Int32) (i : Nat) : Nat := (a2 i).toNatClampNeg
def mg_co (a3 : Nat → Int32) (i : Nat) : Int := (a3 i).toInt
def mg_ok (n : Nat) (a1 a2 a3 : Nat → Int32) : Prop := 1 ≤ n ∧ n ≤ 5 ∧ (∀ q, q < n → a1 q = 0 ∨ a1 q = 1) ∧ (∀ i, i < 2 * n → a2 i = nI (mg_go a2 i) ∧ mg_go a2 i < n) ∧ (∀ i, i < 2 * n → -3 ≤ mg_co a3 i ∧ mg_co a3 i ≤ 3)
theorem mg_go_nI {a2 : Nat → Int32} {i g n : Nat} (hn : n ≤ 5) (h : a2 i = nI g) (hg : g < n) : a2 i = nI (mg_go a2 i) ∧ mg_go a2 i < n := by
  have e : mg_go a2 i = g := by
    unfold mg_go
    rw [h, nI_clamp (by omega)]
  rw [e]
  exact ⟨h, hg⟩
theorem mg_co_i {a3 : Nat → Int32} {i : Nat} {c : Int} (h : a3 i = mg_i c) (h1 : -1000 ≤ c) (h2 : c ≤ 1000) : mg_co a3 i = c := by
  unfold mg_co
  rw [h, mg_i_int (by omega) (by omega)]
theorem mg_co_eq (a3 : Nat → Int32) (i : Nat) : a3 i = mg_i (mg_co a3 i) := (mg_i_of (a3 i)).symm
/-! init -/
def mg_in1 : Nat → Nat → Int32
  | 0 => fun _ => 0
  | i + 1 => upd (mg_in1 i) i (if i % 2 = 0 then 1 else 0)
def mg_in2 : Nat → Nat → Int32
  | 0 => fun _ => 0
  | i + 1 => upd (upd (mg_in2 i) (i * 2) (nI i)) (i * 2 + 1) (nI i)
theorem mg_in1_ok : ∀ (i q : Nat), q < i → mg_in1 i q = 0 ∨ mg_in1 i q = 1 := by
  intro i
  induction i with
  | zero => intro q h; omega
  | succ i ih =>
    intro q h
    show upd (mg_in1 i) i (if i % 2 = 0 then 1 else 0) q = 0 ∨ upd (mg_in1 i) i (if i % 2 = 0 then 1 else 0) q = 1
    by_cases e : q = i
    · rw [e, pk_us]
      by_cases c : i % 2 = 0
      · rw [if_pos c]
        exact Or.inr rfl
      · rw [if_neg c]
        exact Or.inl rfl
    · rw [pk_un e]
      exact ih q (by omega)
theorem mg_in2_ok : ∀ (i j : Nat), j < 2 * i → mg_in2 i j = nI (j / 2) := by
  intro i
  induction i with
  | zero => intro q h; omega
  | succ i ih =>
    intro j h
    show upd (upd (mg_in2 i) (i * 2) (nI i)) (i * 2 + 1) (nI i) j = nI (j / 2)
    by_cases e : j = i * 2 + 1
    · rw [e, pk_us]
      congr 1
      omega
    · rw [pk_un e]
      by_cases e2 : j = i * 2
      · rw [e2, pk_us]
        congr 1
        omega
      · rw [pk_un e2]
        exact ih j (by omega)
theorem mg_in_ok {n : Nat} (h1 : 1 ≤ n) (h5 : n ≤ 5) : mg_ok n (mg_in1 n) (mg_in2 n) (fun _ => 0) :=
  ⟨h1, h5, mg_in1_ok n, fun i hi => mg_go_nI h5 (mg_in2_ok n i hi) (by omega), fun i hi => by show -3 ≤ (0 : Int32).toInt ∧ (0 : Int32).toInt ≤ 3; decide⟩
theorem mg_x2 (i : Nat) : nI i * 2 = nI (i * 2) := pk_mul i 2
theorem mg_x21 (i : Nat) : nI i * 2 + 1 = nI (i * 2 + 1) := by
  rw [mg_x2, nI_1]
theorem mg_init78 {post : St2 → Prop} {mc ms kc ks n : Nat} {c0 c1 c2 c3 c4 : Nat → Int32} (h5 : n ≤ 5) (h : post (nI n, 0, mg_in1 n, mg_in2 n, c0, c1, c2, c3, c4)) : ∃ f, wX_init_78 post mc ms (nI n) kc ks (nI n) 0 f 0 (fun _ => 0) (fun _ => 0) c0 c1 c2 c3 c4 := by
  have step : ∀ (f i : Nat) (z : Int32), i < n → z = (if i % 2 = 0 then 1 else 0) → wX_init_78 post mc ms (nI n) kc ks (nI n) 0 f (nI (i + 1)) (mg_in1 (i + 1)) (mg_in2 (i + 1)) c0 c1 c2 c3 c4 → wX_init_99 post mc ms (wX_init_78 post mc ms (nI n) kc ks (nI n) 0 f) (nI n) (nI i) z (nI i) kc ks (nI n) 0 (mg_in1 i) (mg_in2 i) c0 c1 c2 c3 c4 := by
    intro f i z hi hz hw
    refine ⟨pk_in i 5 (by omega), nm_r (e' := mg_in1 (i + 1)) ?_ ⟨pk_in (i * 2) 10 (by omega) (mg_x2 i), nm_r (e' := upd (mg_in2 i) (i * 2) (nI i)) ?_ ⟨pk_in (i * 2 + 1) 10 (by omega) (mg_x21 i), nm_r (e' := mg_in2 (i + 1)) ?_ (nm_r (nI_1 i) hw)⟩⟩⟩
    · rw [nI_clamp (by omega), hz]
      rfl
    · rw [mg_x2, nI_clamp (by omega)]
    · rw [mg_x21, nI_clamp (by omega)]
      rfl
  exact pk_loop (σ := Unit) (fun f i _ => wX_init_78 post mc ms (nI n) kc ks (nI n) 0 f (nI i) (mg_in1 i) (mg_in2 i) c0 c1 c2 c3 c4) (fun _ _ => True) n 0 () (by omega) trivial
    (fun f _ _ => pk_le n n (fun _ => h) (fun z => absurd z (by omega)))
    (fun f i _ hi _ hw => pk_le n i (fun z => absurd z (by omega)) (fun _ =>
      pk_eq (i % 2) 0 (fun z => step f i 1 hi (by rw [if_pos z]) (hw () trivial)) (fun z => step f i 0 hi (by rw [if_neg z]) (hw () trivial)) (pk_andN (m := 1) (by omega) 1 (by decide))))
theorem mg_init {post : St2 → Prop} {mc ms n : Nat} (h1 : 1 ≤ n) (h5 : n ≤ 5) (hc : 7 ≤ mc) (hs : 45 ≤ ms) (h : post (nI n, 0, mg_in1 n, mg_in2 n, (fun _ => 0), (fun _ => 0), (fun _ => 0), (fun _ => 0), (fun _ => 0))) : wpX_init post mc ms (0, 0) (nI n) := by
  refine ⟨by omega, by omega, by omega, by omega, by omega, by omega, by omega, by omega, by omega, by omega, by omega, by omega, by omega, by omega, ?_⟩
  exact pk_le 1 n (fun _ => pk_le n 5 (fun _ => mg_init78 h5 h) (fun z => absurd z (by omega))) (fun z => absurd z (by omega))
/-! mirror -/
def mg_mi1 (a1 : Nat → Int32) : Nat → Nat → Int32
  | 0 => a1
  | i + 1 => upd (mg_mi1 a1 i) i (1 - mg_mi1 a1 i i)
def mg_mi3 (a3 : Nat → Int32) : Nat → Nat → Int32
  | 0 => a3
  | i + 1 => upd (upd (mg_mi3 a3 i) (i * 2) (- mg_mi3 a3 i (i * 2))) (i * 2 + 1) (- (upd (mg_mi3 a3 i) (i * 2) (- mg_mi3 a3 i (i * 2))) (i * 2 + 1))
theorem mg_mi1_at (a1 : Nat → Int32) : ∀ (i q : Nat), mg_mi1 a1 i q = if q < i then 1 - a1 q else a1 q := by
  intro i
  induction i with
  | zero => intro q; rfl
  | succ i ih =>
    intro q
    show upd (mg_mi1 a1 i) i (1 - mg_mi1 a1 i i) q = _
    by_cases e : q = i
    · rw [e, pk_us, ih, if_neg (by omega), if_pos (by omega)]
    · rw [pk_un e, ih]
      by_cases c : q < i
      · rw [if_pos c, if_pos (by omega)]
      · rw [if_neg c, if_neg (by omega)]
theorem mg_mi3_at (a3 : Nat → Int32) : ∀ (i j : Nat), mg_mi3 a3 i j = if j < 2 * i then - a3 j else a3 j := by
  intro i
  induction i with
  | zero => intro q; rfl
  | succ i ih =>
    intro j
    show upd (upd (mg_mi3 a3 i) (i * 2) (- mg_mi3 a3 i (i * 2))) (i * 2 + 1) (- (upd (mg_mi3 a3 i) (i * 2) (- mg_mi3 a3 i (i * 2))) (i * 2 + 1)) j = _
    by_cases e : j = i * 2 + 1
    · rw [e, pk_us, pk_un (by omega), ih, if_neg (by omega), if_pos (by omega)]
    · rw [pk_un e]
      by_cases e2 : j = i * 2
      · rw [e2, pk_us, ih, if_neg (by omega), if_pos (by omega)]
      · rw [pk_un e2, ih]
        by_cases c : j < 2 * i
        · rw [if_pos c, if_pos (by omega)]
        · rw [if_neg c, if_neg (by omega)]
theorem mg_11 (x : Int32) : 1 - (1 - x) = x := by grind
theorem mg_nn (x : Int32) : - - x = x := by grind
theorem mg_mi1_2 (a1 : Nat → Int32) (n : Nat) : mg_mi1 (mg_mi1 a1 n) n = a1 := by
  funext q
  rw [mg_mi1_at, mg_mi1_at]
  by_cases c : q < n
  · rw [if_pos c, if_pos c, mg_11]
  · rw [if_neg c, if_neg c]
theorem mg_mi3_2 (a3 : Nat → Int32) (n : Nat) : mg_mi3 (mg_mi3 a3 n) n = a3 := by
  funext q
  rw [mg_mi3_at, mg_mi3_at]
  by_cases c : q < 2 * n
  · rw [if_pos c, if_pos c, mg_nn]
  · rw [if_neg c, if_neg c]
theorem mg_mi3_co {a3 : Nat → Int32} {n i : Nat} (hi : i < 2 * n) (h : -3 ≤ mg_co a3 i ∧ mg_co a3 i ≤ 3) : mg_co (mg_mi3 a3 n) i = - mg_co a3 i := by
  refine mg_co_i ?_ (by omega) (by omega)
  rw [mg_mi3_at, if_pos hi, ← mg_i_neg, ← mg_co_eq]
theorem mg_mi_pl {a1 : Nat → Int32} {n q : Nat} (hq : q < n) (h : a1 q = 0 ∨ a1 q = 1) : mg_pl (mg_mi1 a1 n) q = ! mg_pl a1 q := by
  unfold mg_pl
  rw [mg_mi1_at, if_pos hq]
  rcases h with h | h
  · rw [h]; decide
  · rw [h]; decide
theorem mg_mi_ok {n : Nat} {a1 a2 a3 : Nat → Int32} (k : mg_ok n a1 a2 a3) : mg_ok n (mg_mi1 a1 n) a2 (mg_mi3 a3 n) := by
  obtain ⟨h1, h5, k1, k2, k3⟩ := k
  refine ⟨h1, h5, fun q hq => ?_, k2, fun i hi => ?_⟩
  · rw [mg_mi1_at, if_pos hq]
    rcases k1 q hq with z | z
    · rw [z]; exact Or.inr rfl
    · rw [z]; exact Or.inl rfl
  · have := k3 i hi
    rw [mg_mi3_co hi this]
    omega
theorem mg_mirror {post : St2 → Prop} {n : Nat} {s : Int32} {a1 a2 a3 a4 a5 a6 a7 : Nat → Int32} (h5 : n ≤ 5) (h : post (nI n, 0, mg_mi1 a1 n, a2, mg_mi3 a3 n, a4, a5, a6, a7)) : wpX_mirror post (nI n, s, a1, a2, a3, a4, a5, a6, a7) :=
  pk_loop (σ := Unit) (fun f i _ => wX_mirror_2 post (nI n) s f (nI i) (mg_mi1 a1 i) a2 (mg_mi3 a3 i) a4 a5 a6 a7) (fun _ _ => True) n 0 () (by omega) trivial
    (fun f _ _ => pk_le n n (fun _ => h) (fun z => absurd z (by omega)))
    (fun f i _ hi _ hw => pk_le n i (fun z => absurd z (by omega)) (fun _ =>
      ⟨pk_in i 5 (by omega), pk_in i 5 (by omega), nm_r (e' := mg_mi1 a1 (i + 1)) (by rw [nI_clamp (by omega)]; rfl)
      ⟨pk_in (i * 2) 10 (by omega) (mg_x2 i), pk_in (i * 2) 10 (by omega) (mg_x2 i), nm_r (e' := upd (mg_mi3 a3 i) (i * 2) (- mg_mi3 a3 i (i * 2))) (by rw [mg_x2, nI_clamp (by omega)])
      ⟨pk_in (i * 2 + 1) 10 (by omega) (mg_x21 i), pk_in (i * 2 + 1) 10 (by omega) (mg_x21 i), nm_r (e' := mg_mi3 a3 (i + 1)) (by rw [mg_x21, nI_clamp (by omega)]; rfl)
      (nm_r (nI_1 i) (hw () trivial))⟩⟩⟩))
/-! shift -/
def mg_sh (a3 : Nat → Int32) (w : Int32) : Nat → Nat → Int32
  | 0 => a3
  | i + 1 => upd (mg_sh a3 w i) i (mg_sh a3 w i i + w)
theorem mg_sh_at (a3 : Nat → Int32) (w : Int32) : ∀ (i q : Nat), mg_sh a3 w i q = if q < i then a3 q + w else a3 q := by
  intro i
  induction i with
  | zero => intro q; rfl
  | succ i ih =>
    intro q
    show upd (mg_sh a3 w i) i (mg_sh a3 w i i + w) q = _
    by_cases e : q = i
    · rw [e, pk_us, ih, if_neg (by omega), if_pos (by omega)]
    · rw [pk_un e, ih]
      by_cases c : q < i
      · rw [if_pos c, if_pos (by omega)]
      · rw [if_neg c, if_neg (by omega)]
/-- every cost may be shifted by w -/
def mg_can (n : Nat) (a3 : Nat → Int32) (w : Int) : Prop := ∀ j, j < 2 * n → -3 ≤ mg_co a3 j + w ∧ mg_co a3 j + w ≤ 3
theorem mg_sh_co {a3 : Nat → Int32} {n i : Nat} {w : Int} (hi : i < 2 * n) (h : mg_can n a3 w) : mg_co (mg_sh a3 (mg_i w) (2 * n)) i = mg_co a3 i + w := by
  have := h i hi
  refine mg_co_i ?_ (by omega) (by omega)
  rw [mg_sh_at, if_pos hi, ← mg_i_add, ← mg_co_eq]
theorem mg_sh_ok {n : Nat} {a1 a2 a3 : Nat → Int32} {w : Int} (k : mg_ok n a1 a2 a3) (h : mg_can n a3 w) : mg_ok n a1 a2 (mg_sh a3 (mg_i w) (2 * n)) := by
  obtain ⟨h1, h5, k1, k2, k3⟩ := k
  refine ⟨h1, h5, k1, k2, fun i hi => ?_⟩
  rw [mg_sh_co hi h]
  exact h i hi
theorem mg_2x (n : Nat) : 2 * nI n = nI (2 * n) := pk_mul 2 n
theorem mg_shift {post : Int32 → St2 → Prop} {n : Nat} {s : Int32} {a1 a2 a3 a4 a5 a6 a7 : Nat → Int32} {w : Int} (k : mg_ok n a1 a2 a3) (w1 : -6 ≤ w) (w2 : w ≤ 6) (hS : mg_can n a3 w → post 0 (nI n, 0, a1, a2, mg_sh a3 (mg_i w) (2 * n), a4, a5, a6, a7)) (hF : ¬ mg_can n a3 w → post (-100) (nI n, s, a1, a2, a3, a4, a5, a6, a7)) : wpX_shift post (nI n, s, a1, a2, a3, a4, a5, a6, a7) (mg_i w) := by
  obtain ⟨h1, h5, k1, k2, k3⟩ := k
  have L2 : mg_can n a3 w → ∃ f, wX_shift_58 post (mg_i w) (nI n) s f 0 a1 a2 a3 a4 a5 a6 a7 := fun hc =>
    pk_loop (σ := Unit) (fun f i _ => wX_shift_58 post (mg_i w) (nI n) s f (nI i) a1 a2 (mg_sh a3 (mg_i w) i) a4 a5 a6 a7) (fun _ _ => True) (2 * n) 0 () (by omega) trivial
      (fun f _ _ => pk_le (2 * n) (2 * n) (fun _ => hS hc) (fun z => absurd z (by omega)) (mg_2x n))
      (fun f i _ hi _ hw => pk_le (2 * n) i (fun z => absurd z (by omega)) (fun _ => ⟨pk_in i 10 (by omega), pk_in i 10 (by omega), nm_r (e' := mg_sh a3 (mg_i w) (i + 1)) (by rw [nI_clamp (by omega)]; rfl) (nm_r (nI_1 i) (hw () trivial))⟩) (mg_2x n))
  have L1 : ∃ f, wX_shift_17 post (mg_i w) (nI n) s a1 a2 a3 a4 a5 a6 a7 f 0 :=
    pk_loop (σ := Unit) (fun f i _ => wX_shift_17 post (mg_i w) (nI n) s a1 a2 a3 a4 a5 a6 a7 f (nI i)) (fun i _ => ∀ j, j < i → -3 ≤ mg_co a3 j + w ∧ mg_co a3 j + w ≤ 3) (2 * n) 0 () (by omega) (fun j hj => absurd hj (by omega))
      (fun f _ hI => pk_le (2 * n) (2 * n) (fun _ => L2 hI) (fun z => absurd z (by omega)) (mg_2x n))
      (fun f i _ hi hI hw => pk_le (2 * n) i (fun z => absurd z (by omega)) (fun _ => ⟨pk_in i 10 (by omega), nm_r (e' := mg_i (mg_co a3 i + w)) (by rw [nI_clamp (by omega), mg_co_eq a3 i, mg_i_add]) (by
        have hb := k3 i hi
        refine mg_lt (mg_co a3 i + w) (-3) (fun z => hF (fun t => ?_)) (fun z => ?_) rfl rfl (by omega) (by omega) (by omega) (by omega)
        · have := t i hi
          omega
        · refine mg_le (mg_co a3 i + w) 3 (fun z2 => nm_r (nI_1 i) (hw () (fun j hj => ?_))) (fun z2 => hF (fun t => ?_)) rfl rfl (by omega) (by omega) (by omega) (by omega)
          · by_cases e : j = i
            · rw [e]
              exact ⟨z, z2⟩
            · exact hI j (by omega)
          · have := t i hi
            omega)⟩) (mg_2x n))
  exact mg_lt w (-6) (fun z => absurd z (by omega)) (fun _ => mg_le w 6 (fun _ => L1) (fun z => absurd z (by omega)) rfl rfl (by omega) (by omega) (by omega) (by omega)) rfl rfl (by omega) (by omega) (by omega) (by omega)
end
section
/-! the bad arguments, owner, move, turn -/
theorem mg_bp {post : Int32 → Prop} {n p : Nat} {s : Int32} {a1 a2 a3 a4 a5 a6 a7 : Nat → Int32} (hn : n ≤ 5) (hp : p < 100) (f : p < n → post 0) (g : n ≤ p → post 1) : wpX_badPlace post (nI n, s, a1, a2, a3, a4, a5, a6, a7) (nI p) :=
  br_f (nI_pos (by omega)) (pk_lt p n f g)
theorem mg_bm {post : Int32 → Prop} {n p m : Nat} {s : Int32} {a1 a2 a3 a4 a5 a6 a7 : Nat → Int32} (hn : n ≤ 5) (hp : p < 100) (hm : m < 2) (f : p < n → post 0) (g : n ≤ p → post 1) : wpX_badMove post (nI n, s, a1, a2, a3, a4, a5, a6, a7) (nI p) (nI m) := by
  unfold wpX_badMove
  dsimp only
  refine mg_bp hn hp (fun z => br_t rfl ?_) (fun z => br_f (by decide) (g z))
  exact br_f (nI_pos (by omega)) (pk_le m 1 (fun _ => f z) (fun z => absurd z (by omega)))
theorem mg_x2m (p m : Nat) : nI p * 2 + nI m = nI (p * 2 + m) := by
  rw [mg_x2, nI_add]
theorem mg_owner {n p m : Nat} {a1 a2 a3 a4 a5 a6 a7 : Nat → Int32} (k : mg_ok n a1 a2 a3) (hp : p < 5) (hm : m < 2) : ∃ (r : Int32) (b1 b2 b3 : Nat → Int32), mg_ok n b1 b2 b3 ∧ ∀ post : Int32 → St2 → Prop, post r (nI n, 0, b1, b2, b3, a4, a5, a6, a7) → wpX_owner post (nI n, 0, a1, a2, a3, a4, a5, a6, a7) (nI p) (nI m) := by
  by_cases c : p < n
  · refine ⟨a1 p, upd a1 p (nI m), a2, a3, ⟨k.1, k.2.1, fun q hq => ?_, k.2.2.2⟩, fun post h => ?_⟩
    · by_cases e : q = p
      · rw [e, pk_us]
        rcases (show m = 0 ∨ m = 1 by omega) with z | z
        · rw [z]; exact Or.inl rfl
        · rw [z]; exact Or.inr rfl
      · rw [pk_un e]
        exact k.2.2.1 q hq
    · have e : (nI p).toNatClampNeg = p := nI_clamp (by omega)
      unfold wpX_owner
      dsimp only
      refine mg_bp k.2.1 (by omega) (fun _ => br_t rfl ?_) (fun z => absurd c (by omega))
      refine br_f (nI_pos (by omega)) (pk_le m 1 (fun _ => ?_) (fun z => absurd z (by omega)))
      exact ⟨pk_in p 5 hp, nm_r (by rw [e]) ⟨pk_in p 5 hp, nm_r (by rw [e]) h⟩⟩
  · refine ⟨-100, a1, a2, a3, k, fun post h => ?_⟩
    unfold wpX_owner
    dsimp only
    exact mg_bp k.2.1 (by omega) (fun z => absurd z c) (fun _ => br_f (by decide) h)
theorem mg_j3 (j : Nat) : nI j - 3 = mg_i ((j : Int) - 3) := by
  rw [mg_i_nI]
  exact mg_i_sub _ 3
theorem mg_move {n p m q j : Nat} {a1 a2 a3 a4 a5 a6 a7 : Nat → Int32} (k : mg_ok n a1 a2 a3) (hp : p < 5) (hm : m < 2) (hq : q < 5) (hj : j < 8) : ∃ (r : Int32) (b1 b2 b3 : Nat → Int32), mg_ok n b1 b2 b3 ∧ ∀ post : Int32 → St2 → Prop, post r (nI n, 0, b1, b2, b3, a4, a5, a6, a7) → wpX_move post (nI n, 0, a1, a2, a3, a4, a5, a6, a7) (nI p) (nI m) (nI q) (nI j - 3) := by
  obtain ⟨h1, h5, k1, k2, k3⟩ := k
  rw [mg_j3]
  by_cases c : p < n
  · by_cases c2 : q < n
    · by_cases c3 : j < 7
      · refine ⟨0, a1, upd a2 (p * 2 + m) (nI q), upd a3 (p * 2 + m) (mg_i ((j : Int) - 3)), ⟨h1, h5, k1, fun i hi => ?_, fun i hi => ?_⟩, fun post h => ?_⟩
        · by_cases e : i = p * 2 + m
          · exact mg_go_nI h5 (by rw [e, pk_us]) c2
          · have z := k2 i hi
            exact mg_go_nI h5 (by rw [pk_un e]; exact z.1) z.2
        · by_cases e : i = p * 2 + m
          · rw [mg_co_i (c := (j : Int) - 3) (by rw [e, pk_us]) (by omega) (by omega)]
            omega
          · have z := k3 i hi
            rw [mg_co_i (c := mg_co a3 i) (by rw [pk_un e]; exact mg_co_eq a3 i) (by omega) (by omega)]
            exact z
        · have e : (nI p * 2 + nI m).toNatClampNeg = p * 2 + m := by rw [mg_x2m, nI_clamp (by omega)]
          unfold wpX_move
          dsimp only
          refine mg_bm h5 (by omega) hm (fun _ => br_t rfl ?_) (fun z => absurd c (by omega))
          refine mg_bp h5 (by omega) (fun _ => br_t rfl ?_) (fun z => absurd c2 (by omega))
          refine mg_lt ((j : Int) - 3) (-3) (fun z => absurd z (by omega)) (fun _ => mg_le ((j : Int) - 3) 3 (fun _ => ?_) (fun z => absurd z (by omega)) rfl rfl (by omega) (by omega) (by omega) (by omega)) rfl rfl (by omega) (by omega) (by omega) (by omega)
          exact ⟨pk_in (p * 2 + m) 10 (by omega) (mg_x2m p m), nm_r (by rw [e]) ⟨pk_in (p * 2 + m) 10 (by omega) (mg_x2m p m), nm_r (by rw [e]) h⟩⟩
      · refine ⟨-100, a1, a2, a3, ⟨h1, h5, k1, k2, k3⟩, fun post h => ?_⟩
        unfold wpX_move
        dsimp only
        refine mg_bm h5 (by omega) hm (fun _ => br_t rfl ?_) (fun z => absurd c (by omega))
        refine mg_bp h5 (by omega) (fun _ => br_t rfl ?_) (fun z => absurd c2 (by omega))
        exact mg_lt ((j : Int) - 3) (-3) (fun _ => h) (fun _ => mg_le ((j : Int) - 3) 3 (fun z => absurd z (by omega)) (fun _ => h) rfl rfl (by omega) (by omega) (by omega) (by omega)) rfl rfl (by omega) (by omega) (by omega) (by omega)
    · refine ⟨-100, a1, a2, a3, ⟨h1, h5, k1, k2, k3⟩, fun post h => ?_⟩
      unfold wpX_move
      dsimp only
      refine mg_bm h5 (by omega) hm (fun _ => br_t rfl ?_) (fun z => absurd c (by omega))
      exact mg_bp h5 (by omega) (fun z => absurd z c2) (fun _ => br_f (by decide) h)
  · refine ⟨-100, a1, a2, a3, ⟨h1, h5, k1, k2, k3⟩, fun post h => ?_⟩
    unfold wpX_move
    dsimp only
    exact mg_bm h5 (by omega) hm (fun z => absurd z c) (fun _ => br_f (by decide) h)
theorem mg_rem5 (x : Int32) : ∃ p : Nat, p < 5 ∧ (x &&& 15) - (x &&& 15) / 5 * 5 = nI p := by
  obtain ⟨j, hj, e⟩ := pk_andE x (m := 15) 4 (by decide)
  refine ⟨j % 5, by omega, ?_⟩
  rw [e]
  exact pk_rem (d := 5) (by omega) (by omega) (by omega)
theorem mg_turn {n : Nat} {a1 a2 a3 a4 a5 a6 a7 : Nat → Int32} (k : mg_ok n a1 a2 a3) (o x : Int32) : ∃ (r : Int32) (b1 b2 b3 : Nat → Int32), mg_ok n b1 b2 b3 ∧ ∀ post : Int32 → St2 → Prop, post r (nI n, 0, b1, b2, b3, a4, a5, a6, a7) → wpL_turn post (nI n, 0, a1, a2, a3, a4, a5, a6, a7) o x := by
  obtain ⟨j, hj, ej⟩ := pk_andE o (m := 7) 3 (by decide)
  obtain ⟨p, hp, ep⟩ := mg_rem5 x
  obtain ⟨m, hm, em⟩ := pk_andE (x >>> ((4 : Int32) &&& 31)) (m := 1) 1 (by decide)
  obtain ⟨q, hq, eq⟩ := mg_rem5 (x >>> ((5 : Int32) &&& 31))
  obtain ⟨w, hw, ew⟩ := pk_andE (x >>> ((9 : Int32) &&& 31)) (m := 7) 3 (by decide)
  obtain ⟨v, hv, ev⟩ := pk_andE x (m := 3) 2 (by decide)
  have hm' : m < 2 := hm
  have hw' : w < 8 := hw
  have hv' : v < 4 := hv
  have hj' : j < 8 := hj
  rcases (show j < 5 ∨ j = 5 ∨ j = 6 ∨ j = 7 by omega) with c | c | c | c
  · obtain ⟨r, b1, b2, b3, kb, H⟩ := mg_move (a4 := a4) (a5 := a5) (a6 := a6) (a7 := a7) k hp hm' hq hw'
    refine ⟨r, b1, b2, b3, kb, fun post h => nm_r ej (pk_le 5 j (fun z => absurd z (by omega)) (fun _ => ⟨by decide, by decide, ?_⟩))⟩
    rw [ep, em, eq, ew]
    exact H _ h
  · obtain ⟨r, b1, b2, b3, kb, H⟩ := mg_owner (a4 := a4) (a5 := a5) (a6 := a6) (a7 := a7) k hp hm'
    refine ⟨r, b1, b2, b3, kb, fun post h => nm_r ej (pk_le 5 j (fun _ => pk_eq j 5 (fun _ => ⟨by decide, ?_⟩) (fun z => absurd c z)) (fun z => absurd z (by omega)))⟩
    rw [ep, em]
    exact H _ h
  · have e1 : nI v - 1 = mg_i ((v : Int) - 1) := by
      rw [mg_i_nI]
      exact mg_i_sub _ 1
    by_cases cc : mg_can n a3 ((v : Int) - 1)
    · refine ⟨0, a1, a2, mg_sh a3 (mg_i ((v : Int) - 1)) (2 * n), mg_sh_ok k cc, fun post h => nm_r ej (pk_le 5 j (fun _ => pk_eq j 5 (fun z => absurd z (by omega)) (fun _ => pk_eq j 6 (fun _ => ?_) (fun z => absurd c z))) (fun z => absurd z (by omega)))⟩
      rw [ev, e1]
      exact mg_shift k (by omega) (by omega) (fun _ => h) (fun z => absurd cc z)
    · refine ⟨-100, a1, a2, a3, k, fun post h => nm_r ej (pk_le 5 j (fun _ => pk_eq j 5 (fun z => absurd z (by omega)) (fun _ => pk_eq j 6 (fun _ => ?_) (fun z => absurd c z))) (fun z => absurd z (by omega)))⟩
      rw [ev, e1]
      exact mg_shift k (by omega) (by omega) (fun z => absurd z cc) (fun _ => h)
  · exact ⟨0, mg_mi1 a1 n, a2, mg_mi3 a3 n, mg_mi_ok k, fun post h => nm_r ej (pk_le 5 j (fun _ => pk_eq j 5 (fun z => absurd z (by omega)) (fun _ => pk_eq j 6 (fun z => absurd z (by omega)) (fun _ => mg_mirror k.2.1 h))) (fun z => absurd z (by omega)))⟩
end
section
/-! roundedOver, nearest -/
theorem mg_td_bd {u d : Int} (hd : 0 < d) : u - d ≤ u.tdiv d * d ∧ u.tdiv d * d ≤ u + d := by
  have h1 := Int.mul_ediv_self_le (x := u) (k := d) (by omega)
  have h2 := Int.lt_mul_ediv_self_add (x := u) hd
  rw [Int.tdiv_eq_ediv, Int.add_mul, Int.mul_comm (u / d) d]
  by_cases c : 0 ≤ u ∨ d ∣ u
  · rw [if_pos c, Int.zero_mul]
    omega
  · rw [if_neg c, Int.sign_eq_one_of_pos hd, Int.one_mul]
    omega
theorem mg_ro {post : Int32 → Prop} {A K : Int} {f s : Int32} {a1 a2 a3 a4 a5 a6 a7 : Nat → Int32} (K1 : 1 ≤ K) (K2 : K ≤ 2000) (A1 : -100000 ≤ A) (A2 : A ≤ 100000) (h : post (mg_i ((2 * A + K) / (2 * K)))) : wpX_roundedOver post (f, s, a1, a2, a3, a4, a5, a6, a7) (mg_i A) (mg_i K) := by
  have e1 : 2 * mg_i A + mg_i K = mg_i (2 * A + K) := by
    show mg_i 2 * mg_i A + mg_i K = _
    rw [mg_i_mul, mg_i_add]
  have e2 : 2 * mg_i K = mg_i (2 * K) := mg_i_mul 2 K
  have hb := mg_td_bd (u := 2 * A + K) (d := 2 * K) (by omega)
  have e3 : (mg_i ((2 * A + K).tdiv (2 * K)) * 2) * mg_i K = mg_i ((2 * A + K).tdiv (2 * K) * (2 * K)) := by
    show mg_i ((2 * A + K).tdiv (2 * K)) * mg_i 2 * mg_i K = _
    rw [mg_i_mul, mg_i_mul, Int.mul_assoc]
  have hne : ¬ 2 * mg_i K = 0 := by
    rw [e2]
    intro z
    have := (mg_i_eq (x := 2 * K) (y := 0) (by omega) (by omega) (by omega) (by omega)).mp z
    omega
  refine mg_le 1 K (fun _ => nm_r e1 ⟨hne, nm_r (e' := mg_i ((2 * A + K).tdiv (2 * K))) ?_ ?_⟩) (fun z => absurd z (by omega)) rfl rfl (by omega) (by omega) (by omega) (by omega)
  · rw [e2, mg_i_div (by omega) (by omega) (by omega) (by omega)]
  · refine mg_le 0 (2 * A + K) (fun z => ?_) (fun z => ?_) rfl rfl (by omega) (by omega) (by omega) (by omega)
    · rw [mg_td_pos z]
      exact h
    · refine mg_eq ((2 * A + K).tdiv (2 * K) * (2 * K)) (2 * A + K) (fun z2 => ?_) (fun z2 => ?_) e3 rfl (by omega) (by omega) (by omega) (by omega)
      · rw [mg_td_ex z2]
        exact h
      · refine nm_r (e' := mg_i ((2 * A + K) / (2 * K))) ?_ h
        rw [← mg_td_ne z (by omega) z2, show (-1 : Int32) = mg_i (-1) by decide, mg_i_add]
theorem mg_Sb {S : Int} {i : Nat} (h1 : 1 ≤ i) (h5 : i ≤ 5) (S1 : -4503 ≤ S) (S2 : S ≤ 4503) : -22515 ≤ S * (i : Int) ∧ S * (i : Int) ≤ 22515 := by
  rcases mg_15 h1 h5 with rfl | rfl | rfl | rfl | rfl <;> omega
theorem mg_K_bd {n : Nat} (h1 : 1 ≤ n) (h5 : n ≤ 5) : 13 ≤ mg_K n ∧ mg_K n ≤ 1501 := by
  rcases mg_15 h1 h5 with rfl | rfl | rfl | rfl | rfl <;> decide
theorem mg_ni_bd {n i : Nat} (h5 : n ≤ 5) (hi : i ≤ n) : 0 ≤ (n : Int) * (i : Int) ∧ (n : Int) * (i : Int) ≤ 25 := by
  have h : n * i ≤ 5 * 5 := Nat.mul_le_mul h5 (by omega)
  have e : ((n * i : Nat) : Int) = (n : Int) * (i : Int) := Int.natCast_mul n i
  omega
theorem mg_P_abd {n b : Nat} {S a : Int} (hn1 : 1 ≤ n) (hn : n ≤ 5) (hb1 : 1 ≤ b) (hb : b ≤ n) (S1 : -4503 ≤ S) (S2 : S ≤ 4503) (h : mg_P n S b a) : -30000 ≤ a ∧ a ≤ 30000 := by
  unfold mg_P mg_K at h
  rcases mg_15 hn1 hn with rfl | rfl | rfl | rfl | rfl <;> rcases mg_15 hb1 (by omega) with rfl | rfl | rfl | rfl | rfl <;> omega
/-- the rounded quotient and what is left -/
theorem mg_left {A K : Int} (hK : 1 ≤ K) : -K ≤ A - K * ((2 * A + K) / (2 * K)) ∧ A - K * ((2 * A + K) / (2 * K)) ≤ K := by
  have h1 := Int.mul_ediv_self_le (x := 2 * A + K) (k := 2 * K) (by omega)
  have h2 := Int.lt_mul_ediv_self_add (x := 2 * A + K) (k := 2 * K) (by omega)
  rw [Int.mul_assoc] at h1 h2
  omega
theorem mg_i_sub_mul (x y z : Int) : mg_i x - mg_i y * mg_i z = mg_i (x - y * z) := by
  rw [mg_i_mul, mg_i_sub]
/-- what the loop of nearest has found -/
def mg_fd (n p : Nat) (S : Int) (a6 a7 : Nat → Int32) (i : Nat) (t : Int32 × (Nat → Int32) × (Nat → Int32)) : Prop :=
  (∀ q, q ≠ p → t.2.1 q = a6 q ∧ t.2.2 q = a7 q) ∧ ((t.1 = 0 ∧ ∀ (b' : Nat) (a' : Int), 1 ≤ b' → b' < i → ¬ mg_P n S b' a') ∨ (t.1 = 1 ∧ ∃ b : Nat, mg_G n S (t.2.1 p).toInt b ∧ t.2.2 p = nI b))
theorem mg_n66 {post : St2 → Prop} {J : Int32 → Int32 → (Nat → Int32) → (Nat → Int32) → (Nat → Int32) → (Nat → Int32) → (Nat → Int32) → (Nat → Int32) → (Nat → Int32) → Prop} {n p i : Nat} {s : Int32} {a1 a2 a3 a4 a5 a6 a7 : Nat → Int32} {S D : Int} {t : Int32 × (Nat → Int32) × (Nat → Int32)} (h1 : 1 ≤ n) (h5 : n ≤ 5) (hp : p < n) (S1 : -4503 ≤ S) (S2 : S ≤ 4503) (i1 : 1 ≤ i) (i2 : i ≤ n) (hI : mg_fd n p S a6 a7 i t)
    (D1 : 0 ≤ D) (D2 : D ≤ 10000) (hD : D ≤ 6 * ((n : Int) * (i : Int)) ↔ mg_P n S i ((2 * (S * (i : Int)) + (mg_K n : Int)) / (2 * (mg_K n : Int))))
    (hw : ∀ t' : Int32 × (Nat → Int32) × (Nat → Int32), mg_fd n p S a6 a7 (i + 1) t' → J t'.1 (nI (i + 1)) a1 a2 a3 a4 a5 t'.2.1 t'.2.2) :
    wX_nearest_66 post J (nI p) (mg_i (mg_K n)) (mg_i (6 * (n : Int))) t.1 (nI i) (mg_i ((2 * (S * (i : Int)) + (mg_K n : Int)) / (2 * (mg_K n : Int)))) (mg_i D) (nI n) s a1 a2 a3 a4 a5 t.2.1 t.2.2 := by
  have hni := mg_ni_bd h5 i2
  have e0 : (nI p).toNatClampNeg = p := nI_clamp (by omega)
  have em : mg_i (6 * (n : Int)) * nI i = mg_i (6 * ((n : Int) * (i : Int))) := by
    rw [mg_i_nI, mg_i_mul, Int.mul_assoc]
  obtain ⟨hq, hc⟩ := hI
  rcases hc with ⟨c0, hN⟩ | ⟨c1, hF⟩
  · refine br_t c0 (mg_lt (6 * ((n : Int) * (i : Int))) D (fun z => nm_r (nI_1 i) (hw t ⟨hq, Or.inl ⟨c0, ?_⟩⟩)) (fun z => ?_) em rfl (by omega) (by omega) (by omega) (by omega))
    · intro b' a' q1 q2 hP
      by_cases e : b' = i
      · subst e
        have hr := mg_P_rd h1 h5 q1 i2 hP
        rw [← hr] at hP
        have := hD.mpr hP
        omega
      · exact hN b' a' q1 (by omega) hP
    · have hP := hD.mp z
      have ha := mg_P_abd h1 h5 i1 i2 S1 S2 hP
      refine ⟨pk_in p 5 (by omega), nm_r (e' := upd t.2.1 p (mg_i ((2 * (S * (i : Int)) + (mg_K n : Int)) / (2 * (mg_K n : Int))))) (by rw [e0]) ⟨pk_in p 5 (by omega), nm_r (e' := upd t.2.2 p (nI i)) (by rw [e0]) (nm_r (nI_1 i) (hw (1, upd t.2.1 p (mg_i ((2 * (S * (i : Int)) + (mg_K n : Int)) / (2 * (mg_K n : Int)))), upd t.2.2 p (nI i)) ⟨fun q hqp => ?_, Or.inr ⟨rfl, i, ?_, pk_us⟩⟩))⟩⟩
      · show upd t.2.1 p _ q = a6 q ∧ upd t.2.2 p _ q = a7 q
        rw [pk_un hqp, pk_un hqp]
        exact hq q hqp
      · show mg_G n S (upd t.2.1 p _ p).toInt i
        rw [pk_us, mg_i_int (by omega) (by omega)]
        exact ⟨i1, i2, hP, fun b' a' q1 q2 => hN b' a' q1 q2⟩
  · refine br_f (by rw [c1]; decide) (nm_r (nI_1 i) (hw t ⟨hq, Or.inr ⟨c1, hF⟩⟩))
theorem mg_nearest {post : St2 → Prop} {n p : Nat} {s : Int32} {a1 a2 a3 a4 a5 a6 a7 : Nat → Int32} {S : Int} (h1 : 1 ≤ n) (h5 : n ≤ 5) (hp : p < n) (S1 : -4503 ≤ S) (S2 : S ≤ 4503) (e4 : a4 p = mg_i S) (hx : ∃ (b : Nat) (a : Int), 1 ≤ b ∧ b ≤ n ∧ mg_P n S b a)
    (H : ∀ a6' a7' : Nat → Int32, (∀ q, q ≠ p → a6' q = a6 q ∧ a7' q = a7 q) → (∃ b : Nat, mg_G n S (a6' p).toInt b ∧ a7' p = nI b) → post (nI n, s, a1, a2, a3, a4, a5, a6', a7')) : wpX_nearest post (nI n, s, a1, a2, a3, a4, a5, a6, a7) (nI p) (mg_i (mg_K n)) := by
  have hK := mg_K_bd h1 h5
  have e0 : (nI p).toNatClampNeg = p := nI_clamp (by omega)
  have e6 : 2 * nI n * 3 = mg_i (6 * (n : Int)) := by
    rw [mg_i_nI]
    show mg_i 2 * mg_i (n : Int) * mg_i 3 = _
    rw [mg_i_mul, mg_i_mul]
    congr 1
    omega
  refine nm_r e6 ?_
  refine pk_loop (σ := Int32 × (Nat → Int32) × (Nat → Int32)) (fun f i t => wX_nearest_15 post (nI p) (mg_i (mg_K n)) (mg_i (6 * (n : Int))) (nI n) s f t.1 (nI i) a1 a2 a3 a4 a5 t.2.1 t.2.2) (fun i t => 1 ≤ i ∧ mg_fd n p S a6 a7 i t) (n + 1) 1 (0, a6, a7) (by omega) ⟨by omega, fun q _ => ⟨rfl, rfl⟩, Or.inl ⟨rfl, fun b' a' q1 q2 => absurd q2 (by omega)⟩⟩ ?_ ?_
  · intro f t hI
    refine pk_lt n (n + 1) (fun _ => H t.2.1 t.2.2 hI.2.1 ?_) (fun z => absurd z (by omega))
    rcases hI.2.2 with ⟨_, hN⟩ | ⟨_, hF⟩
    · obtain ⟨b, a, q1, q2, q3⟩ := hx
      exact absurd q3 (hN b a q1 (by omega))
    · exact hF
  · intro f i t hi hI hw
    have i1 := hI.1
    have i2 : i ≤ n := by omega
    have hSb := mg_Sb i1 (by omega) S1 S2
    have hL := mg_left (A := S * (i : Int)) (K := (mg_K n : Int)) (by omega)
    have hni := mg_ni_bd h5 i2
    have ea : a4 (nI p).toNatClampNeg * nI i = mg_i (S * (i : Int)) := by
      rw [e0, e4, mg_i_nI, mg_i_mul]
    have hw' : ∀ t' : Int32 × (Nat → Int32) × (Nat → Int32), mg_fd n p S a6 a7 (i + 1) t' → wX_nearest_15 post (nI p) (mg_i (mg_K n)) (mg_i (6 * (n : Int))) (nI n) s f t'.1 (nI (i + 1)) a1 a2 a3 a4 a5 t'.2.1 t'.2.2 := fun t' h => hw t' ⟨by omega, h⟩
    refine pk_lt n i (fun z => absurd z (by omega)) (fun _ => ⟨pk_in p 5 (by omega), ?_⟩)
    rw [ea]
    refine mg_ro (by omega) (by omega) (by omega) (by omega) ⟨pk_in p 5 (by omega), nm_r (mg_i_sub_mul _ _ _) ?_⟩
    refine mg_le 0 (S * (i : Int) - (mg_K n : Int) * ((2 * (S * (i : Int)) + (mg_K n : Int)) / (2 * (mg_K n : Int)))) (fun z => ?_) (fun z => nm_r (mg_i_neg _) ?_) rfl rfl (by omega) (by omega) (by omega) (by omega)
    · refine mg_n66 h1 h5 hp S1 S2 i1 i2 hI.2 (by omega) (by omega) ?_ hw'
      unfold mg_P
      omega
    · refine mg_n66 h1 h5 hp S1 S2 i1 i2 hI.2 (by omega) (by omega) ?_ hw'
      unfold mg_P
      omega
end
section
/-! playRound, solve, numerator, denominator -/
/-- the best sums of the game of a state -/
def mg_vv (a1 a2 a3 : Nat → Int32) (t q : Nat) : Int := mg_v (mg_pl a1) (mg_go a2) (mg_co a3) t q
theorem mg_vv_s (a1 a2 a3 : Nat → Int32) (t q : Nat) : mg_vv a1 a2 a3 (t + 1) q = mg_opt (mg_pl a1 q) (mg_co a3 (q * 2) + mg_vv a1 a2 a3 t (mg_go a2 (q * 2))) (mg_co a3 (q * 2 + 1) + mg_vv a1 a2 a3 t (mg_go a2 (q * 2 + 1))) := rfl
theorem mg_vv_bd {n : Nat} {a1 a2 a3 : Nat → Int32} (k : mg_ok n a1 a2 a3) (t q : Nat) (hq : q < n) : -3 * (t : Int) ≤ mg_vv a1 a2 a3 t q ∧ mg_vv a1 a2 a3 t q ≤ 3 * (t : Int) :=
  mg_v_bd (fun i hi => (k.2.2.2.1 i hi).2) k.2.2.2.2 t q hq
theorem mg_119 {post : St2 → Prop} {n : Nat} {s : Int32} {a1 a2 a3 a4 a5 a6 a7 : Nat → Int32} (h5 : n ≤ 5) (H : ∀ a4' : Nat → Int32, (∀ q, q < n → a4' q = a5 q) → post (nI n, s, a1, a2, a3, a4', a5, a6, a7)) : ∃ f, wX_playRound_119 post (nI n) s f 0 a1 a2 a3 a4 a5 a6 a7 :=
  pk_loop (σ := Nat → Int32) (fun f i t => wX_playRound_119 post (nI n) s f (nI i) a1 a2 a3 t a5 a6 a7) (fun i t => ∀ q, q < i → t q = a5 q) n 0 a4 (by omega) (fun q hq => absurd hq (by omega))
    (fun f t h => pk_le n n (fun _ => H t h) (fun z => absurd z (by omega)))
    (fun f i t hi h hw => pk_le n i (fun z => absurd z (by omega)) (fun _ => ⟨pk_in i 5 (by omega), pk_in i 5 (by omega), nm_r (e' := upd t i (a5 i)) (by rw [nI_clamp (by omega)]) (nm_r (nI_1 i) (hw _ (fun q hq => by
      by_cases e : q = i
      · rw [e, pk_us]
      · rw [pk_un e]
        exact h q (by omega))))⟩))
theorem mg_93 {post : St2 → Prop} {J : Int32 → (Nat → Int32) → (Nat → Int32) → (Nat → Int32) → (Nat → Int32) → (Nat → Int32) → (Nat → Int32) → (Nat → Int32) → Prop} {n i : Nat} {x y z s : Int32} {a1 a2 a3 a4 a5 a6 a7 : Nat → Int32} (hi : i < 5) (w : Int32) (h : (z = 0 ∧ w = y) ∨ (z = 1 ∧ w = x)) (H : J (nI (i + 1)) a1 a2 a3 a4 (upd a5 i w) a6 a7) : wX_playRound_93 post J (nI i) x y z (nI n) s a1 a2 a3 a4 a5 a6 a7 := by
  have e0 : (nI i).toNatClampNeg = i := nI_clamp (by omega)
  rcases h with ⟨h1, h2⟩ | ⟨h1, h2⟩
  · exact br_t h1 ⟨pk_in i 5 hi, nm_r (by rw [e0, ← h2]) (nm_r (nI_1 i) H)⟩
  · exact br_f (by rw [h1]; decide) ⟨pk_in i 5 hi, nm_r (by rw [e0, ← h2]) (nm_r (nI_1 i) H)⟩
theorem mg_pr {post : St2 → Prop} {n t : Nat} {s : Int32} {a1 a2 a3 a4 a5 a6 a7 : Nat → Int32} (k : mg_ok n a1 a2 a3) (ht : t ≤ 2000) (h4 : ∀ q, q < n → a4 q = mg_i (mg_vv a1 a2 a3 t q)) (H : ∀ a4' a5' : Nat → Int32, (∀ q, q < n → a4' q = mg_i (mg_vv a1 a2 a3 (t + 1) q)) → post (nI n, s, a1, a2, a3, a4', a5', a6, a7)) : wpX_playRound post (nI n, s, a1, a2, a3, a4, a5, a6, a7) := by
  obtain ⟨h1, h5, k1, k2, k3⟩ := id k
  refine pk_loop (σ := Nat → Int32) (fun f i u => wX_playRound_2 post (nI n) s f (nI i) a1 a2 a3 a4 u a6 a7) (fun i u => ∀ q, q < i → u q = mg_i (mg_vv a1 a2 a3 (t + 1) q)) n 0 a5 (by omega) (fun q hq => absurd hq (by omega))
    (fun f u h => pk_le n n (fun _ => mg_119 h5 (fun a4' h' => H a4' u (fun q hq => by rw [h' q hq, h q hq]))) (fun z => absurd z (by omega))) ?_
  intro f i u hi h hw
  have e0 : (nI i).toNatClampNeg = i := nI_clamp (by omega)
  have e2 : (nI i * 2).toNatClampNeg = i * 2 := by rw [mg_x2, nI_clamp (by omega)]
  have e3 : (nI i * 2 + 1).toNatClampNeg = i * 2 + 1 := by rw [mg_x21, nI_clamp (by omega)]
  have g0 := k2 (i * 2) (by omega)
  have g1 := k2 (i * 2 + 1) (by omega)
  have c0 := k3 (i * 2) (by omega)
  have c1 := k3 (i * 2 + 1) (by omega)
  have b0 := mg_vv_bd k t _ g0.2
  have b1 := mg_vv_bd k t _ g1.2
  have x0 : a3 (nI i * 2).toNatClampNeg + a4 (a2 (nI i * 2).toNatClampNeg).toNatClampNeg = mg_i (mg_co a3 (i * 2) + mg_vv a1 a2 a3 t (mg_go a2 (i * 2))) := by
    rw [e2]
    show a3 (i * 2) + a4 (mg_go a2 (i * 2)) = _
    rw [h4 _ g0.2, ← mg_i_add, ← mg_co_eq]
  have x1 : a3 (nI i * 2 + 1).toNatClampNeg + a4 (a2 (nI i * 2 + 1).toNatClampNeg).toNatClampNeg = mg_i (mg_co a3 (i * 2 + 1) + mg_vv a1 a2 a3 t (mg_go a2 (i * 2 + 1))) := by
    rw [e3]
    show a3 (i * 2 + 1) + a4 (mg_go a2 (i * 2 + 1)) = _
    rw [h4 _ g1.2, ← mg_i_add, ← mg_co_eq]
  have fin : ∀ w : Int32, w = mg_i (mg_vv a1 a2 a3 (t + 1) i) → wX_playRound_2 post (nI n) s f (nI (i + 1)) a1 a2 a3 a4 (upd u i w) a6 a7 := by
    intro w ew
    refine hw _ (fun q hq => ?_)
    by_cases e : q = i
    · rw [e, pk_us, ew]
    · rw [pk_un e]
      exact h q (by omega)
  have hv := mg_vv_s a1 a2 a3 t i
  refine pk_le n i (fun z => absurd z (by omega)) (fun _ => ?_)
  refine ⟨pk_in (i * 2) 10 (by omega) (mg_x2 i), pk_in (i * 2) 10 (by omega) (mg_x2 i), pk_in (mg_go a2 (i * 2)) 5 (by omega) (by rw [e2]; exact g0.1), nm_r x0 ?_⟩
  refine ⟨pk_in (i * 2 + 1) 10 (by omega) (mg_x21 i), pk_in (i * 2 + 1) 10 (by omega) (mg_x21 i), pk_in (mg_go a2 (i * 2 + 1)) 5 (by omega) (by rw [e3]; exact g1.1), nm_r x1 ?_⟩
  refine ⟨pk_in i 5 (by omega), ?_⟩
  rw [e0]
  refine br_c (fun z => ?_) (fun z => ?_)
  · have hp : mg_pl a1 i = true := decide_eq_true z
    rw [hp] at hv
    have hv' : mg_vv a1 a2 a3 (t + 1) i = max (mg_co a3 (i * 2) + mg_vv a1 a2 a3 t (mg_go a2 (i * 2))) (mg_co a3 (i * 2 + 1) + mg_vv a1 a2 a3 t (mg_go a2 (i * 2 + 1))) := hv
    refine mg_lt (mg_co a3 (i * 2) + mg_vv a1 a2 a3 t (mg_go a2 (i * 2))) (mg_co a3 (i * 2 + 1) + mg_vv a1 a2 a3 t (mg_go a2 (i * 2 + 1))) (fun y => mg_93 (by omega) _ (Or.inl ⟨rfl, rfl⟩) (fin _ ?_)) (fun y => mg_93 (by omega) _ (Or.inr ⟨rfl, rfl⟩) (fin _ ?_)) rfl rfl (by omega) (by omega) (by omega) (by omega)
    · congr 1
      omega
    · congr 1
      omega
  · have hp : mg_pl a1 i = false := decide_eq_false z
    rw [hp] at hv
    have hv' : mg_vv a1 a2 a3 (t + 1) i = min (mg_co a3 (i * 2) + mg_vv a1 a2 a3 t (mg_go a2 (i * 2))) (mg_co a3 (i * 2 + 1) + mg_vv a1 a2 a3 t (mg_go a2 (i * 2 + 1))) := hv
    refine mg_lt (mg_co a3 (i * 2 + 1) + mg_vv a1 a2 a3 t (mg_go a2 (i * 2 + 1))) (mg_co a3 (i * 2) + mg_vv a1 a2 a3 t (mg_go a2 (i * 2))) (fun y => mg_93 (by omega) _ (Or.inl ⟨rfl, rfl⟩) (fin _ ?_)) (fun y => mg_93 (by omega) _ (Or.inr ⟨rfl, rfl⟩) (fin _ ?_)) rfl rfl (by omega) (by omega) (by omega) (by omega)
    · congr 1
      omega
    · congr 1
      omega
/-- the stored answers are those of the game -/
def mg_sol (n : Nat) (a1 a2 a3 a6 a7 : Nat → Int32) : Prop := ∀ q, q < n → ∃ b : Nat, mg_G n (mg_vv a1 a2 a3 (mg_K n) q) (a6 q).toInt b ∧ a7 q = nI b
theorem mg_A' {n : Nat} {a1 a2 a3 : Nat → Int32} (k : mg_ok n a1 a2 a3) {p : Nat} (hp : p < n) (t : Nat) :
    (t : Int) * mg_N n (mg_pl a1) (mg_go a2) (mg_co a3) p - 360 * ((n : Int) - 1) ≤ 60 * mg_vv a1 a2 a3 t p ∧ 60 * mg_vv a1 a2 a3 t p ≤ (t : Int) * mg_N n (mg_pl a1) (mg_go a2) (mg_co a3) p + 360 * ((n : Int) - 1) :=
  mg_A k.2.1 (fun i hi => (k.2.2.2.1 i hi).2) k.2.2.2.2 hp t
theorem mg_NV' {n : Nat} {a1 a2 a3 : Nat → Int32} (k : mg_ok n a1 a2 a3) {p : Nat} (hp : p < n) : mg_V n (mg_N n (mg_pl a1) (mg_go a2) (mg_co a3) p) :=
  mg_N_V (fun i hi => (k.2.2.2.1 i hi).2) k.2.2.2.2 hp
theorem mg_62 {post : St2 → Prop} {n : Nat} {s : Int32} {a1 a2 a3 a4 a5 a6 a7 : Nat → Int32} (k : mg_ok n a1 a2 a3) (h4 : ∀ q, q < n → a4 q = mg_i (mg_vv a1 a2 a3 (mg_K n) q)) (H : ∀ a6' a7' : Nat → Int32, mg_sol n a1 a2 a3 a6' a7' → post (nI n, 1, a1, a2, a3, a4, a5, a6', a7')) : ∃ f, wX_solve_62 post (mg_i (mg_K n)) f 0 (nI n) s a1 a2 a3 a4 a5 a6 a7 := by
  obtain ⟨h1, h5, k1, k2, k3⟩ := id k
  have hK := mg_K_bd h1 h5
  refine pk_loop (σ := (Nat → Int32) × (Nat → Int32)) (fun f i u => wX_solve_62 post (mg_i (mg_K n)) f (nI i) (nI n) s a1 a2 a3 a4 a5 u.1 u.2) (fun i u => ∀ q, q < i → ∃ b : Nat, mg_G n (mg_vv a1 a2 a3 (mg_K n) q) (u.1 q).toInt b ∧ u.2 q = nI b) n 0 (a6, a7) (by omega) (fun q hq => absurd hq (by omega)) ?_ ?_
  · intro f u h
    exact pk_le n n (fun _ => H u.1 u.2 h) (fun z => absurd z (by omega))
  · intro f i u hi h hw
    have hb := mg_vv_bd k (mg_K n) i hi
    have hA := mg_A' k hi (mg_K n)
    refine pk_le n i (fun z => absurd z (by omega)) (fun _ => ?_)
    refine mg_nearest (S := mg_vv a1 a2 a3 (mg_K n) i) h1 h5 hi (by omega) (by omega) (h4 i hi) (mg_P_ex h1 h5 (mg_NV' k hi) hA.1 hA.2) (fun a6' a7' ho hg => ?_)
    refine nm_r (nI_1 i) (hw (a6', a7') (fun q hq => ?_))
    by_cases e : q = i
    · rw [e]
      exact hg
    · obtain ⟨b, hb1, hb2⟩ := h q (by omega)
      have o := ho q e
      refine ⟨b, ?_, ?_⟩
      · show mg_G n _ (a6' q).toInt b
        rw [o.1]
        exact hb1
      · show a7' q = nI b
        rw [o.2]
        exact hb2
theorem mg_38 {post : St2 → Prop} {n : Nat} {s : Int32} {a1 a2 a3 a4 a5 a6 a7 : Nat → Int32} (k : mg_ok n a1 a2 a3) (h4 : ∀ q, q < n → a4 q = 0) (H : ∀ a4' a5' a6' a7' : Nat → Int32, mg_sol n a1 a2 a3 a6' a7' → post (nI n, 1, a1, a2, a3, a4', a5', a6', a7')) : ∃ f, wX_solve_38 post (mg_i (mg_K n)) f 0 (nI n) s a1 a2 a3 a4 a5 a6 a7 := by
  obtain ⟨h1, h5, k1, k2, k3⟩ := id k
  have hK := mg_K_bd h1 h5
  have eK : mg_i (mg_K n : Int) = nI (mg_K n) := (mg_i_nI (mg_K n)).symm
  refine pk_loop (σ := (Nat → Int32) × (Nat → Int32)) (fun f i u => wX_solve_38 post (mg_i (mg_K n)) f (nI i) (nI n) s a1 a2 a3 u.1 u.2 a6 a7) (fun i u => ∀ q, q < n → u.1 q = mg_i (mg_vv a1 a2 a3 i q)) (mg_K n) 0 (a4, a5) (by omega) (fun q hq => ?_) ?_ ?_
  · show a4 q = mg_i 0
    rw [h4 q hq]
    rfl
  · intro f u h
    exact pk_le (mg_K n) (mg_K n) (fun _ => mg_62 k h (fun a6' a7' hs => H u.1 u.2 a6' a7' hs)) (fun z => absurd z (by omega)) eK
  · intro f i u hi h hw
    refine pk_le (mg_K n) i (fun z => absurd z (by omega)) (fun _ => pk_le 2000 i (fun z => absurd z (by omega)) (fun _ => ?_)) eK
    exact mg_pr k (by omega) h (fun a4' a5' h' => nm_r (nI_1 i) (hw (a4', a5') h'))
theorem mg_Keq (n : Nat) : ((4 * nI n) * nI n * nI n) * 3 + 1 = mg_i (mg_K n : Int) := by
  rw [mg_i_nI]
  show mg_i 4 * mg_i (n : Int) * mg_i (n : Int) * mg_i (n : Int) * mg_i 3 + mg_i 1 = _
  rw [mg_i_mul, mg_i_mul, mg_i_mul, mg_i_mul, mg_i_add]
  congr 1
  unfold mg_K
  rw [Int.natCast_add, Int.natCast_mul, Int.natCast_mul, Int.natCast_mul]
  show 4 * (n : Int) * n * n * 3 + 1 = 12 * ((n : Int) * n * n) + 1
  grind
theorem mg_solve {post : St2 → Prop} {n : Nat} {s : Int32} {a1 a2 a3 a4 a5 a6 a7 : Nat → Int32} (k : mg_ok n a1 a2 a3) (hs : s ≠ 0 → mg_sol n a1 a2 a3 a6 a7) (H : ∀ (s' : Int32) (a4' a5' a6' a7' : Nat → Int32), mg_sol n a1 a2 a3 a6' a7' → post (nI n, s', a1, a2, a3, a4', a5', a6', a7')) : wpX_solve post (nI n, s, a1, a2, a3, a4, a5, a6, a7) := by
  obtain ⟨h1, h5, k1, k2, k3⟩ := id k
  refine br_c (fun z => ?_) (fun z => H s a4 a5 a6 a7 (hs z))
  refine pk_loop (σ := Nat → Int32) (fun f i u => wX_solve_10 post (nI n) s f (nI i) a1 a2 a3 u a5 a6 a7) (fun i u => ∀ q, q < i → u q = 0) n 0 a4 (by omega) (fun q hq => absurd hq (by omega)) ?_ ?_
  · intro f u h
    refine pk_le n n (fun _ => ?_) (fun z => absurd z (by omega))
    show ∃ f, wX_solve_38 post (((4 * nI n) * nI n * nI n) * 3 + 1) f 0 (nI n) s a1 a2 a3 u a5 a6 a7
    rw [mg_Keq]
    exact mg_38 k h (fun a4' a5' a6' a7' hs' => H 1 a4' a5' a6' a7' hs')
  · intro f i u hi h hw
    refine pk_le n i (fun z => absurd z (by omega)) (fun _ => ⟨pk_in i 5 (by omega), nm_r (e' := upd u i 0) (by rw [nI_clamp (by omega)]) (nm_r (nI_1 i) (hw _ (fun q hq => ?_)))⟩)
    by_cases e : q = i
    · rw [e, pk_us]
    · rw [pk_un e]
      exact h q (by omega)
theorem mg_den {post : Int32 → St2 → Prop} {n p : Nat} {s : Int32} {a1 a2 a3 a4 a5 a6 a7 : Nat → Int32} (k : mg_ok n a1 a2 a3) (hp : p < n) (hs : s ≠ 0 → mg_sol n a1 a2 a3 a6 a7) (H : ∀ (s' : Int32) (a4' a5' a6' a7' : Nat → Int32), mg_sol n a1 a2 a3 a6' a7' → post (a7' p) (nI n, s', a1, a2, a3, a4', a5', a6', a7')) : wpX_denominator post (nI n, s, a1, a2, a3, a4, a5, a6, a7) (nI p) := by
  have h5 := k.2.1
  have e0 : (nI p).toNatClampNeg = p := nI_clamp (by omega)
  unfold wpX_denominator
  dsimp only
  refine mg_bp h5 (by omega) (fun _ => br_t rfl ?_) (fun z => absurd hp (by omega))
  refine mg_solve k hs (fun s' a4' a5' a6' a7' h => ⟨pk_in p 5 (by omega), ?_⟩)
  rw [e0]
  exact H s' a4' a5' a6' a7' h
theorem mg_num {post : Int32 → St2 → Prop} {n p : Nat} {s : Int32} {a1 a2 a3 a4 a5 a6 a7 : Nat → Int32} (k : mg_ok n a1 a2 a3) (hp : p < n) (hs : s ≠ 0 → mg_sol n a1 a2 a3 a6 a7) (H : ∀ (s' : Int32) (a4' a5' a6' a7' : Nat → Int32), mg_sol n a1 a2 a3 a6' a7' → post (a6' p) (nI n, s', a1, a2, a3, a4', a5', a6', a7')) : wpX_numerator post (nI n, s, a1, a2, a3, a4, a5, a6, a7) (nI p) := by
  have h5 := k.2.1
  have e0 : (nI p).toNatClampNeg = p := nI_clamp (by omega)
  unfold wpX_numerator
  dsimp only
  refine mg_bp h5 (by omega) (fun _ => br_t rfl ?_) (fun z => absurd hp (by omega))
  refine mg_solve k hs (fun s' a4' a5' a6' a7' h => ⟨pk_in p 5 (by omega), ?_⟩)
  rw [e0]
  exact H s' a4' a5' a6' a7' h
end
section
/-! keeps -/
theorem mg_uu (f : Nat → Int32) (k : Nat) (v : Int32) : upd (upd f k v) k (f k) = f := by
  funext j
  by_cases e : j = k
  · rw [e, pk_us]
  · rw [pk_un e, pk_un e]
theorem mg_126 {post : Int32 → St2 → Prop} {n o : Nat} {s z y y' : Int32} {a1 a2 a3 a4 a5 a6 a7 : Nat → Int32} (ho : o < 10) (hz : z = 0 ∨ z = 1) (H : post z (nI n, 0, a1, a2, a3, a4, a5, a6, a7)) : wX_keeps_126 post (nI o) (a2 o) (a3 o) z (nI n) s a1 (upd a2 o y) (upd a3 o y') a4 a5 a6 a7 := by
  have e0 : (nI o).toNatClampNeg = o := nI_clamp (by omega)
  refine ⟨pk_in o 10 ho, nm_r (e' := a2) (by rw [e0, mg_uu]) ⟨pk_in o 10 ho, nm_r (e' := a3) (by rw [e0, mg_uu]) ⟨?_, H⟩⟩⟩
  rcases hz with hz | hz
  · rw [hz]; rfl
  · rw [hz]; rfl
theorem mg_go_upd (a2 : Nat → Int32) (o i j : Nat) : mg_go (upd a2 o (a2 i)) j = if j = o then mg_go a2 i else mg_go a2 j := by
  unfold mg_go
  by_cases e : j = o
  · rw [if_pos e, e, pk_us]
  · rw [if_neg e, pk_un e]
theorem mg_co_upd (a3 : Nat → Int32) (o i j : Nat) : mg_co (upd a3 o (a3 i)) j = if j = o then mg_co a3 i else mg_co a3 j := by
  unfold mg_co
  by_cases e : j = o
  · rw [if_pos e, e, pk_us]
  · rw [if_neg e, pk_un e]
theorem mg_upd_ok {n o i : Nat} {a1 a2 a3 : Nat → Int32} (k : mg_ok n a1 a2 a3) (hi : i < 2 * n) : mg_ok n a1 (upd a2 o (a2 i)) (upd a3 o (a3 i)) := by
  obtain ⟨h1, h5, k1, k2, k3⟩ := k
  refine ⟨h1, h5, k1, fun j hj => ?_, fun j hj => ?_⟩
  · by_cases e : j = o
    · exact mg_go_nI h5 (by rw [e, pk_us]; exact (k2 i hi).1) (k2 i hi).2
    · exact mg_go_nI h5 (by rw [pk_un e]; exact (k2 j hj).1) (k2 j hj).2
  · rw [mg_co_upd]
    by_cases e : j = o
    · rw [if_pos e]; exact k3 i hi
    · rw [if_neg e]; exact k3 j hj
/-- the value of p -/
def mg_NN (n : Nat) (a1 a2 a3 : Nat → Int32) (p : Nat) : Int := mg_N n (mg_pl a1) (mg_go a2) (mg_co a3) p
/-- the value of p with both moves of p made the move m -/
def mg_Nm (n : Nat) (a1 a2 a3 : Nat → Int32) (p m : Nat) : Int := mg_NN n a1 (upd a2 (p * 2 + 1 - m) (a2 (p * 2 + m))) (upd a3 (p * 2 + 1 - m) (a3 (p * 2 + m))) p
theorem mg_Nm_st {n : Nat} {a1 a2 a3 : Nat → Int32} {p m : Nat} (hm : m < 2) : mg_Nm (n + 1) a1 a2 a3 p m = mg_st (mg_go a2) (mg_co a3) (mg_F (mg_pl a1) (mg_go a2) (mg_co a3) n) [(p, 0)] 0 (p * 2 + m) := by
  refine mg_N_one (fun i h0 h1 => ?_) ?_ ?_
  · rw [mg_go_upd, mg_co_upd, if_neg (by omega), if_neg (by omega)]
    exact ⟨rfl, rfl⟩
  · rw [mg_go_upd, mg_co_upd]
    rcases (show m = 0 ∨ m = 1 by omega) with z | z
    · rw [z, if_neg (by omega), if_neg (by omega)]
      exact ⟨rfl, rfl⟩
    · rw [z, if_pos (by omega), if_pos (by omega)]
      exact ⟨rfl, rfl⟩
  · rw [mg_go_upd, mg_co_upd]
    rcases (show m = 0 ∨ m = 1 by omega) with z | z
    · rw [z, if_pos (by omega), if_pos (by omega)]
      exact ⟨rfl, rfl⟩
    · rw [z, if_neg (by omega), if_neg (by omega)]
      exact ⟨rfl, rfl⟩
/-- (B) -/
theorem mg_B {n : Nat} {a1 a2 a3 : Nat → Int32} (h1 : 1 ≤ n) (p : Nat) : mg_NN n a1 a2 a3 p = mg_Nm n a1 a2 a3 p 0 ∨ mg_NN n a1 a2 a3 p = mg_Nm n a1 a2 a3 p 1 := by
  obtain ⟨m, rfl⟩ : ∃ m, n = m + 1 := ⟨n - 1, by omega⟩
  rw [mg_Nm_st (by omega), mg_Nm_st (by omega)]
  exact mg_N_two
theorem mg_keeps {post : Int32 → St2 → Prop} {n p m : Nat} {s : Int32} {a1 a2 a3 a4 a5 a6 a7 : Nat → Int32} (k : mg_ok n a1 a2 a3) (hp : p < n) (hm : m < 2) (hs : s ≠ 0 → mg_sol n a1 a2 a3 a6 a7) (H : ∀ (r : Int32) (a4' a5' a6' a7' : Nat → Int32), (r = 0 → mg_NN n a1 a2 a3 p ≠ mg_Nm n a1 a2 a3 p m) → post r (nI n, 0, a1, a2, a3, a4', a5', a6', a7')) : wpX_keeps post (nI n, s, a1, a2, a3, a4, a5, a6, a7) (nI p) (nI m) := by
  have h1 := k.1
  have h5 := k.2.1
  have e0 : (nI p).toNatClampNeg = p := nI_clamp (by omega)
  have eo : nI p * 2 + 1 - nI m = nI (p * 2 + 1 - m) := by rw [mg_x21, pk_sub (by omega)]
  have eo' : (nI (p * 2 + 1 - m)).toNatClampNeg = p * 2 + 1 - m := nI_clamp (by omega)
  have ei : (nI p * 2 + nI m).toNatClampNeg = p * 2 + m := by rw [mg_x2m, nI_clamp (by omega)]
  have io : vp_in (nI (p * 2 + 1 - m)) 10 := pk_in (p * 2 + 1 - m) 10 (by omega)
  have ii : vp_in (nI p * 2 + nI m) 10 := pk_in (p * 2 + m) 10 (by omega) (mg_x2m p m)
  have ip : vp_in (nI p) 5 := pk_in p 5 (by omega)
  have k' : mg_ok n a1 (upd a2 (p * 2 + 1 - m) (a2 (p * 2 + m))) (upd a3 (p * 2 + 1 - m) (a3 (p * 2 + m))) := mg_upd_ok k (by omega)
  unfold wpX_keeps
  dsimp only
  refine mg_bm h5 (by omega) hm (fun _ => br_t rfl ?_) (fun z => absurd hp (by omega))
  refine mg_solve k hs (fun s' b4 b5 b6 b7 hb => ?_)
  refine ⟨ip, nm_r (e' := b6 p) (by rw [e0]) ⟨ip, nm_r (e' := b7 p) (by rw [e0]) (nm_r eo ?_)⟩⟩
  refine ⟨io, nm_r (e' := a2 (p * 2 + 1 - m)) (by rw [eo']) ⟨io, nm_r (e' := a3 (p * 2 + 1 - m)) (by rw [eo']) ?_⟩⟩
  refine ⟨ii, io, nm_r (e' := upd a2 (p * 2 + 1 - m) (a2 (p * 2 + m))) (by rw [eo', ei]) ⟨ii, io, nm_r (e' := upd a3 (p * 2 + 1 - m) (a3 (p * 2 + m))) (by rw [eo', ei]) ?_⟩⟩
  refine mg_solve k' (fun z => absurd rfl z) (fun s'' c4 c5 c6 c7 hc => ⟨ip, ?_⟩)
  rw [e0]
  have same : mg_NN n a1 a2 a3 p = mg_Nm n a1 a2 a3 p m → c6 p = b6 p ∧ c7 p = b7 p := by
    intro hN
    obtain ⟨b, g1, g2⟩ := hb p hp
    obtain ⟨c, g3, g4⟩ := hc p hp
    have hA := mg_A' k hp (mg_K n)
    have hA' := mg_A' k' hp (mg_K n)
    have hN' : mg_N n (mg_pl a1) (mg_go a2) (mg_co a3) p = mg_N n (mg_pl a1) (mg_go (upd a2 (p * 2 + 1 - m) (a2 (p * 2 + m)))) (mg_co (upd a3 (p * 2 + 1 - m) (a3 (p * 2 + m)))) p := hN
    rw [← hN'] at hA'
    have u := mg_G_uni h1 h5 (mg_G_same h1 h5 (mg_NV' k hp) hA.1 hA.2 hA'.1 hA'.2 g1) g3
    refine ⟨Int32.toInt_inj.mp u.1.symm, ?_⟩
    rw [g2, g4, u.2]
  refine br_c (fun z => ⟨ip, ?_⟩) (fun z => ?_)
  · refine br_c (fun z2 => ?_) (fun z2 => ?_)
    · exact mg_126 (by omega) (Or.inr rfl) (H 1 c4 c5 c6 c7 (fun y => absurd y (by decide)))
    · exact mg_126 (by omega) (Or.inl rfl) (H 0 c4 c5 c6 c7 (fun _ y => z2 (same y).2))
  · exact mg_126 (by omega) (Or.inl rfl) (H 0 c4 c5 c6 c7 (fun _ y => z (same y).1))
end
section
/-! related, equal, the law -/
/-- what related asks: every answer of the second game is that of the first, turned by g and shifted by w -/
def mg_R (n : Nat) (g w : Int) (a1 a2 a3 b1 b2 b3 : Nat → Int32) : Prop := ∀ (q : Nat) (a : Int) (b : Nat), q < n → mg_G n (mg_vv a1 a2 a3 (mg_K n) q) a b → mg_G n (mg_vv b1 b2 b3 (mg_K n) q) (g * a + w * (b : Int)) b
theorem mg_R_bot {n q : Nat} {g w : Int} {a1 a2 a3 b1 b2 b3 a6 a7 b6 b7 : Nat → Int32} (h1 : 1 ≤ n) (h5 : n ≤ 5) (hq : q < n) (hR : mg_R n g w a1 a2 a3 b1 b2 b3) (hg : mg_sol n a1 a2 a3 a6 a7) (hh : mg_sol n b1 b2 b3 b6 b7) : b7 q = a7 q := by
  obtain ⟨b, g1, g2⟩ := hg q hq
  obtain ⟨c, g3, g4⟩ := hh q hq
  rw [g2, g4, (mg_G_uni h1 h5 (hR q _ b hq g1) g3).2]
theorem mg_R_top {n q : Nat} {g w : Int} {a1 a2 a3 b1 b2 b3 a6 a7 a6' a7' b6 b7 : Nat → Int32} (h1 : 1 ≤ n) (h5 : n ≤ 5) (hq : q < n) (hR : mg_R n g w a1 a2 a3 b1 b2 b3) (hg' : mg_sol n a1 a2 a3 a6' a7') (hg : mg_sol n a1 a2 a3 a6 a7) (hh : mg_sol n b1 b2 b3 b6 b7) : b6 q = mg_i g * a6 q + mg_i w * a7' q := by
  obtain ⟨b, g1, g2⟩ := hg q hq
  obtain ⟨b', g1', g2'⟩ := hg' q hq
  obtain ⟨c, g3, g4⟩ := hh q hq
  have e := (mg_G_uni h1 h5 (hR q _ b hq g1) g3).1
  have eb := (mg_G_uni h1 h5 g1 g1').2
  rw [g2', ← eb, ← mg_i_of (b6 q), ← e, ← mg_i_add, ← mg_i_mul, ← mg_i_mul, mg_i_of, ← mg_i_nI]
theorem mg_rel {post : Int32 → St3 → Prop} {n : Nat} {g w : Int} {s s' : Int32} {a1 a2 a3 a4 a5 a6 a7 b1 b2 b3 b4 b5 b6 b7 : Nat → Int32} (ka : mg_ok n a1 a2 a3) (kb : mg_ok n b1 b2 b3) (hR : mg_R n g w a1 a2 a3 b1 b2 b3) (hg : s ≠ 0 → mg_sol n a1 a2 a3 a6 a7) (hh : s' ≠ 0 → mg_sol n b1 b2 b3 b6 b7)
    (H : ∀ (s s' : Int32) (a4 a5 a6 a7 b4 b5 b6 b7 : Nat → Int32), (s ≠ 0 → mg_sol n a1 a2 a3 a6 a7) → (s' ≠ 0 → mg_sol n b1 b2 b3 b6 b7) → post 1 (nI n, s, a1, a2, a3, a4, a5, a6, a7, nI n, s', b1, b2, b3, b4, b5, b6, b7)) :
    wpL_related post (nI n, s, a1, a2, a3, a4, a5, a6, a7, nI n, s', b1, b2, b3, b4, b5, b6, b7) (nI n) (mg_i g) (mg_i w) := by
  have h1 := ka.1
  have h5 := ka.2.1
  have key : ∀ (f i : Nat) (s s' : Int32) (a4 a5 a6 a7 b4 b5 b6 b7 : Nat → Int32), i ≤ n → n - i < f → (s ≠ 0 → mg_sol n a1 a2 a3 a6 a7) → (s' ≠ 0 → mg_sol n b1 b2 b3 b6 b7) → wL_related_3 post (nI n) (mg_i g) (mg_i w) f (nI i) (nI n) s a1 a2 a3 a4 a5 a6 a7 (nI n) s' b1 b2 b3 b4 b5 b6 b7 := by
    intro f
    induction f with
    | zero => intro i s s' a4 a5 a6 a7 b4 b5 b6 b7 _ h; omega
    | succ f ih =>
      intro i s s' a4 a5 a6 a7 b4 b5 b6 b7 hi hf hg hh
      refine pk_le 5 i (fun _ => H s s' a4 a5 a6 a7 b4 b5 b6 b7 hg hh) (fun _ => pk_le n i (fun _ => H s s' a4 a5 a6 a7 b4 b5 b6 b7 hg hh) (fun hin => ?_))
      refine mg_den ka hin hg (fun s a4 a5 a6 a7 hg => ?_)
      refine mg_den kb hin hh (fun s' b4 b5 b6 b7 hh => ?_)
      refine br_t (mg_R_bot h1 h5 hin hR hg hh) ?_
      refine mg_num kb hin (fun _ => hh) (fun s' b4 b5 b6 b7 hh => ?_)
      refine mg_num ka hin (fun _ => hg) (fun s a4 a5 c6 c7 hg2 => ?_)
      refine br_t (mg_R_top h1 h5 hin hR hg hg2 hh) (nm_r (nI_1 i) ?_)
      exact ih (i + 1) s s' a4 a5 c6 c7 b4 b5 b6 b7 (by omega) (by omega) (fun _ => hg2) (fun _ => hh)
  exact ⟨n + 1, key (n + 1) 0 s s' a4 a5 a6 a7 b4 b5 b6 b7 (by omega) (by omega) hg hh⟩
theorem mg_R_same {n : Nat} (a1 a2 a3 : Nat → Int32) : mg_R n 1 0 a1 a2 a3 a1 a2 a3 := by
  intro q a b hq h
  rw [show (1 : Int) * a + 0 * (b : Int) = a by omega]
  exact h
theorem mg_R_mir {n : Nat} {a1 a2 a3 : Nat → Int32} (k : mg_ok n a1 a2 a3) : mg_R n (-1) 0 a1 a2 a3 (mg_mi1 a1 n) a2 (mg_mi3 a3 n) := by
  intro q a b hq h
  have e : mg_vv (mg_mi1 a1 n) a2 (mg_mi3 a3 n) (mg_K n) q = - mg_vv a1 a2 a3 (mg_K n) q :=
    mg_v_mir (fun i hi => (k.2.2.2.1 i hi).2) (fun q hq => mg_mi_pl hq (k.2.2.1 q hq)) (fun i _ => rfl) (fun i hi => mg_mi3_co hi (k.2.2.2.2 i hi)) _ q hq
  rw [e, show (-1 : Int) * a + 0 * (b : Int) = -a by omega]
  exact mg_G_mir h
theorem mg_R_shf {n : Nat} {a1 a2 a3 : Nat → Int32} {w : Int} (k : mg_ok n a1 a2 a3) (hc : mg_can n a3 w) : mg_R n 1 w a1 a2 a3 a1 a2 (mg_sh a3 (mg_i w) (2 * n)) := by
  intro q a b hq h
  have e : mg_vv a1 a2 (mg_sh a3 (mg_i w) (2 * n)) (mg_K n) q = mg_vv a1 a2 a3 (mg_K n) q + (mg_K n : Int) * w :=
    mg_v_shf (fun i hi => (k.2.2.2.1 i hi).2) (fun q hq => rfl) (fun i _ => rfl) (fun i hi => mg_sh_co hi hc) _ q hq
  rw [e, Int.one_mul]
  exact mg_G_shf w h
theorem mg_target {post : Int32 → Prop} {n p m : Nat} {s : Int32} {a1 a2 a3 a4 a5 a6 a7 : Nat → Int32} (h5 : n ≤ 5) (hp : p < n) (hm : m < 2) (h : post (a2 (p * 2 + m))) : wpX_target post (nI n, s, a1, a2, a3, a4, a5, a6, a7) (nI p) (nI m) := by
  have e : (nI p * 2 + nI m).toNatClampNeg = p * 2 + m := by rw [mg_x2m, nI_clamp (by omega)]
  unfold wpX_target
  dsimp only
  refine mg_bm h5 (by omega) hm (fun _ => br_t rfl ⟨pk_in (p * 2 + m) 10 (by omega) (mg_x2m p m), ?_⟩) (fun z => absurd hp (by omega))
  rw [e]
  exact h
theorem mg_weight {post : Int32 → Prop} {n p m : Nat} {s : Int32} {a1 a2 a3 a4 a5 a6 a7 : Nat → Int32} (h5 : n ≤ 5) (hp : p < n) (hm : m < 2) (h : post (a3 (p * 2 + m))) : wpX_weight post (nI n, s, a1, a2, a3, a4, a5, a6, a7) (nI p) (nI m) := by
  have e : (nI p * 2 + nI m).toNatClampNeg = p * 2 + m := by rw [mg_x2m, nI_clamp (by omega)]
  unfold wpX_weight
  dsimp only
  refine mg_bm h5 (by omega) hm (fun _ => br_t rfl ⟨pk_in (p * 2 + m) 10 (by omega) (mg_x2m p m), ?_⟩) (fun z => absurd hp (by omega))
  rw [e]
  exact h
theorem mg_equal {post : Int32 → St3 → Prop} {n : Nat} {s s' : Int32} {a1 a2 a3 a4 a5 a6 a7 b4 b5 b6 b7 : Nat → Int32} (k : mg_ok n a1 a2 a3) (hg : s ≠ 0 → mg_sol n a1 a2 a3 a6 a7) (hh : s' ≠ 0 → mg_sol n a1 a2 a3 b6 b7)
    (H : ∀ (s s' : Int32) (a4 a5 a6 a7 b4 b5 b6 b7 : Nat → Int32), (s ≠ 0 → mg_sol n a1 a2 a3 a6 a7) → (s' ≠ 0 → mg_sol n a1 a2 a3 b6 b7) → post 1 (nI n, s, a1, a2, a3, a4, a5, a6, a7, nI n, s', a1, a2, a3, b4, b5, b6, b7)) :
    wpL_equal post (nI n, s, a1, a2, a3, a4, a5, a6, a7, nI n, s', a1, a2, a3, b4, b5, b6, b7) (nI n) := by
  have h5 := k.2.1
  have ex : wL_equal_69 post (nI n) (nI n) s a1 a2 a3 a4 a5 a6 a7 (nI n) s' a1 a2 a3 b4 b5 b6 b7 := by
    unfold wL_equal_69
    refine mg_rel (g := 1) (w := 0) k k (mg_R_same a1 a2 a3) hg hh (fun s s' a4 a5 a6 a7 b4 b5 b6 b7 hg hh => ⟨rfl, H s s' a4 a5 a6 a7 b4 b5 b6 b7 hg hh⟩)
  refine pk_loop (σ := Unit) (fun f i _ => wL_equal_2 post (nI n) (nI n) s a1 a2 a3 a4 a5 a6 a7 (nI n) s' a1 a2 a3 b4 b5 b6 b7 f (nI i)) (fun _ _ => True) (2 * n) 0 () (by omega) trivial ?_ ?_
  · intro f _ _
    exact pk_le 10 (2 * n) (fun _ => ex) (fun _ => pk_le (2 * n) (2 * n) (fun _ => ex) (fun z => absurd z (by omega)) (mg_2x n))
  · intro f i _ hi _ hw
    have e1 : nI i >>> ((1 : Int32) &&& 31) = nI (i / 2) := pk_shrN (by omega) _ 1 (by decide)
    have e2 : nI i &&& 1 = nI (i % 2) := pk_andN (by omega) 1 (by decide)
    refine pk_le 10 i (fun _ => ex) (fun _ => pk_le (2 * n) i (fun z => absurd z (by omega)) (fun _ => ?_) (mg_2x n))
    rw [e1, e2]
    refine mg_target h5 (by omega) (by omega) ?_
    refine mg_target h5 (by omega) (by omega) ?_
    refine br_t rfl ?_
    refine mg_weight h5 (by omega) (by omega) ?_
    refine mg_weight h5 (by omega) (by omega) ?_
    exact br_t rfl (nm_r (nI_1 i) (hw () trivial))
theorem mg_132 {L n : Nat} {xs : Nat → Int32} {x1 s : Int32} {kc ks : Nat} {a1 a2 a3 a4 a5 a6 a7 b4 b5 b6 b7 : Nat → Int32} (k : mg_ok n a1 a2 a3) (hg : s ≠ 0 → mg_sol n a1 a2 a3 a6 a7) : wL_law_132 (fun r => r = 1) L xs x1 (nI n) kc ks (nI n) s a1 a2 a3 a4 a5 a6 a7 (nI n) 0 a1 a2 a3 b4 b5 b6 b7 := by
  have h5 := k.2.1
  have n10 : ¬ (1 : Int32) = 0 := by decide
  obtain ⟨j, hj, ej⟩ := pk_andE (x1 >>> ((3 : Int32) &&& 31)) (m := 7) 3 (by decide)
  have hj' : j < 8 := hj
  unfold wL_law_132
  refine mg_mirror h5 ?_
  refine mg_rel (g := -1) (w := 0) k (mg_mi_ok k) (mg_R_mir k) hg (fun z => absurd rfl z) (fun s s' a4 a5 a6 a7 b4 b5 b6 b7 hg hh => ?_)
  refine br_f n10 ?_
  refine mg_mirror h5 ?_
  rw [mg_mi1_2, mg_mi3_2]
  refine mg_equal k hg (fun z => absurd rfl z) (fun s s' a4 a5 a6 a7 b4 b5 b6 b7 hg hh => ?_)
  refine br_f n10 (nm_r (e' := mg_i ((j : Int) - 3)) (by rw [ej, mg_j3]) ?_)
  refine mg_shift k (by omega) (by omega) (fun hc => ?_) (fun hc => ?_)
  · refine br_t (by decide) ?_
    exact mg_rel (g := 1) (w := (j : Int) - 3) k (mg_sh_ok k hc) (mg_R_shf k hc) hg (fun z => absurd rfl z) (fun _ _ _ _ _ _ _ _ _ _ _ _ => rfl)
  · refine br_f (by decide) ?_
    exact mg_equal k hg hh (fun _ _ _ _ _ _ _ _ _ _ _ _ => rfl)
theorem mg_92 {L n : Nat} {xs : Nat → Int32} {x1 : Int32} {kc ks : Nat} {a1 a2 a3 a4 a5 a6 a7 b4 b5 b6 b7 : Nat → Int32} (k : mg_ok n a1 a2 a3) : ∃ f, wL_law_92 (fun r => r = 1) L xs x1 (nI n) kc ks f 0 (nI n) 0 a1 a2 a3 a4 a5 a6 a7 (nI n) 0 a1 a2 a3 b4 b5 b6 b7 := by
  have h1 := k.1
  have h5 := k.2.1
  have key : ∀ (f i : Nat) (a4 a5 a6 a7 : Nat → Int32), i ≤ n → n - i < f → wL_law_92 (fun r => r = 1) L xs x1 (nI n) kc ks f (nI i) (nI n) 0 a1 a2 a3 a4 a5 a6 a7 (nI n) 0 a1 a2 a3 b4 b5 b6 b7 := by
    intro f
    induction f with
    | zero => intro i a4 a5 a6 a7 _ h; omega
    | succ f ih =>
      intro i a4 a5 a6 a7 hi hf
      refine pk_le 5 i (fun _ => mg_132 k (fun z => absurd rfl z)) (fun _ => pk_le n i (fun _ => mg_132 k (fun z => absurd rfl z)) (fun hin => ?_))
      refine mg_keeps (m := 0) k hin (by omega) (fun z => absurd rfl z) (fun r a4 a5 a6 a7 hr => ?_)
      refine br_c (fun z => ?_) (fun z => nm_r (nI_1 i) (ih (i + 1) a4 a5 a6 a7 (by omega) (by omega)))
      refine mg_keeps (m := 1) k hin (by omega) (fun z => absurd rfl z) (fun r' a4 a5 a6 a7 hr' => ?_)
      refine br_f (fun z' => ?_) (nm_r (nI_1 i) (ih (i + 1) a4 a5 a6 a7 (by omega) (by omega)))
      rcases mg_B (a1 := a1) (a2 := a2) (a3 := a3) h1 i with y | y
      · exact hr z y
      · exact hr' z' y
  exact ⟨n + 1, key (n + 1) 0 a4 a5 a6 a7 (by omega) (by omega)⟩
theorem mg_43 {L n : Nat} (hL : L ≤ 260) {xs : Nat → Int32} {x1 : Int32} {kc ks : Nat} {c4 c5 c6 c7 : Nat → Int32} : ∀ (f i : Nat) (a1 a2 a3 : Nat → Int32), mg_ok n a1 a2 a3 → i ≤ 300 → 300 - i < f → wL_law_43 (fun r => r = 1) L xs x1 (nI n) kc ks f (nI i) (nI n) 0 a1 a2 a3 c4 c5 c6 c7 (nI n) 0 a1 a2 a3 c4 c5 c6 c7 := by
  intro f
  induction f with
  | zero => intro i a1 a2 a3 _ _ h; omega
  | succ f ih =>
    intro i a1 a2 a3 k hi hf
    refine pk_le L (i + 1) (fun _ => mg_92 k) (fun z => ?_) rfl (nI_1 i)
    have i1 : vp_in (nI i) L := pk_in i L (by omega)
    have i2 : vp_in (nI i + 1) L := pk_in (i + 1) L z (nI_1 i)
    obtain ⟨r, b1, b2, b3, kb, H⟩ := mg_turn (a4 := c4) (a5 := c5) (a6 := c6) (a7 := c7) k (xs (nI i).toNatClampNeg) (xs (nI i + 1).toNatClampNeg)
    exact ⟨i1, i2, H _ ⟨i1, i2, H _ (nm_r (nI_add i 2) (ih (i + 2) b1 b2 b3 kb (by omega) (by omega)))⟩⟩
theorem mg_clamp (z : Int32) : ∃ n : Nat, 1 ≤ n ∧ n ≤ 5 ∧ ∀ post : Int32 → Prop, post (nI n) → wpL_clamp post () (z &&& 7) := by
  obtain ⟨j, hj, ej⟩ := pk_andE z (m := 7) 3 (by decide)
  have hj' : j < 8 := hj
  rw [ej]
  rcases (show j = 0 ∨ (1 ≤ j ∧ j ≤ 5) ∨ 5 < j by omega) with c | c | c
  · exact ⟨1, by omega, by omega, fun post h => pk_le 1 j (fun z => absurd z (by omega)) (fun _ => h)⟩
  · exact ⟨j, c.1, c.2, fun post h => pk_le 1 j (fun _ => pk_le j 5 (fun _ => h) (fun z => absurd z (by omega))) (fun z => absurd z (by omega))⟩
  · exact ⟨5, by omega, by omega, fun post h => pk_le 1 j (fun _ => pk_le j 5 (fun z => absurd z (by omega)) (fun _ => h)) (fun z => absurd z (by omega))⟩
theorem mg_12 {L : Nat} (hL : L ≤ 260) (xs : Nat → Int32) (z : Int32) : wL_law_12 (fun r => r = 1) L xs z 0 0 := by
  obtain ⟨n, h1, h5, H⟩ := mg_clamp z
  unfold wL_law_12
  refine H _ ⟨by omega, by omega, 7, 45, by omega, by omega, ?_⟩
  refine mg_init h1 h5 (by omega) (by omega) ⟨by omega, by omega, 7, 45, by omega, by omega, ?_⟩
  refine mg_init h1 h5 (by omega) (by omega) ?_
  exact ⟨300, mg_43 hL 300 1 _ _ _ (mg_in_ok h1 h5) (by omega) (by omega)⟩
theorem i_vc (xs : Nat → Int32) (L : Nat) (hL : L ≤ 260) : wpL_law (fun r => r = 1) L xs :=
  pk_le L 0 (fun _ => mg_12 hL xs 0) (fun z => ⟨pk_in 0 L z, mg_12 hL xs _⟩)
end
