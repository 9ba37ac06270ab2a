section
/-! distances over 12 points: W is the table of roads (1000000: none), rd_D W the table of shortest ways, capped at 1000000 -/
def rd_st (d : Nat → Nat → Nat) (m : Nat) (i j : Nat) : Nat := min (d i j) (d i m + d m j)
def rd_it (d : Nat → Nat → Nat) : Nat → Nat → Nat → Nat
  | 0 => d
  | m + 1 => rd_st (rd_it d m) m
def rd_0 (W : Nat → Nat → Nat) (i j : Nat) : Nat := if i = j then 0 else W i j
def rd_D (W : Nat → Nat → Nat) : Nat → Nat → Nat := rd_it (rd_0 W) 12
def rd_ok (W : Nat → Nat → Nat) : Prop := ∀ i j, i < 12 → j < 12 → 1 ≤ W i j ∧ W i j ≤ 1000000 ∧ (W i j < 1000000 → W i j ≤ 30)
theorem rd_it_s (d : Nat → Nat → Nat) (k i j : Nat) : rd_it d (k + 1) i j = min (rd_it d k i j) (rd_it d k i k + rd_it d k k j) := rfl
theorem rd_it_diag (d : Nat → Nat → Nat) (hd : ∀ i, d i i = 0) (k i : Nat) : rd_it d k i i = 0 := by
  induction k with
  | zero => exact hd i
  | succ k ih => rw [rd_it_s, ih, Nat.zero_min]
theorem rd_it_tri (d : Nat → Nat → Nat) (hd : ∀ i, d i i = 0) : ∀ k m, m < k → ∀ i j, rd_it d k i j ≤ rd_it d k i m + rd_it d k m j := by
  intro k
  induction k with
  | zero => intro m hm; omega
  | succ k ih =>
    intro m hm i j
    have hk := rd_it_diag d hd k k
    rw [rd_it_s, rd_it_s, rd_it_s]
    by_cases e : m = k
    · rw [e]
      omega
    · have h := ih m (by omega)
      have h1 := h i j
      have h2 := h i k
      have h3 := h k j
      omega
theorem rd_it_le (d : Nat → Nat → Nat) (k i j : Nat) : rd_it d k i j ≤ d i j := by
  induction k with
  | zero => exact Nat.le_refl _
  | succ k ih => rw [rd_it_s]; omega
theorem rd_0_diag (W : Nat → Nat → Nat) (i : Nat) : rd_0 W i i = 0 := by unfold rd_0; rw [if_pos rfl]
theorem rd_0_ne (W : Nat → Nat → Nat) {i j : Nat} (h : i ≠ j) : rd_0 W i j = W i j := by unfold rd_0; rw [if_neg h]
theorem rd_it_last (W : Nat → Nat → Nat) : ∀ k, k ≤ 12 → ∀ i j, i < 12 → j < 12 → i ≠ j → rd_it (rd_0 W) k i j < 1000000 → ∃ q, q < 12 ∧ q ≠ j ∧ rd_it (rd_0 W) k i q + W q j ≤ rd_it (rd_0 W) k i j := by
  intro k
  induction k with
  | zero =>
    intro _ i j hi hj hne _
    refine ⟨i, hi, hne, ?_⟩
    rw [rd_it_diag _ (rd_0_diag W) 0 i]
    show 0 + W i j ≤ rd_0 W i j
    rw [rd_0_ne W hne]
    omega
  | succ k ih =>
    intro hk i j hi hj hne hlt
    rw [rd_it_s] at hlt
    by_cases c : rd_it (rd_0 W) k i j ≤ rd_it (rd_0 W) k i k + rd_it (rd_0 W) k k j
    · obtain ⟨q, hq, hqj, h⟩ := ih (by omega) i j hi hj hne (by omega)
      refine ⟨q, hq, hqj, ?_⟩
      rw [rd_it_s, rd_it_s]
      omega
    · have hkj : k ≠ j := by
        intro e
        rw [← e, rd_it_diag _ (rd_0_diag W) k k] at c
        omega
      obtain ⟨q, hq, hqj, h⟩ := ih (by omega) k j (by omega) hj hkj (by omega)
      refine ⟨q, hq, hqj, ?_⟩
      rw [rd_it_s, rd_it_s]
      omega
theorem rd_it_first (W : Nat → Nat → Nat) : ∀ k, k ≤ 12 → ∀ i j, i < 12 → j < 12 → i ≠ j → rd_it (rd_0 W) k i j < 1000000 → ∃ q, q < 12 ∧ q ≠ i ∧ W i q + rd_it (rd_0 W) k q j ≤ rd_it (rd_0 W) k i j := by
  intro k
  induction k with
  | zero =>
    intro _ i j hi hj hne _
    refine ⟨j, hj, fun e => hne e.symm, ?_⟩
    rw [rd_it_diag _ (rd_0_diag W) 0 j]
    show W i j + 0 ≤ rd_0 W i j
    rw [rd_0_ne W hne]
    omega
  | succ k ih =>
    intro hk i j hi hj hne hlt
    rw [rd_it_s] at hlt
    by_cases c : rd_it (rd_0 W) k i j ≤ rd_it (rd_0 W) k i k + rd_it (rd_0 W) k k j
    · obtain ⟨q, hq, hqj, h⟩ := ih (by omega) i j hi hj hne (by omega)
      refine ⟨q, hq, hqj, ?_⟩
      rw [rd_it_s, rd_it_s]
      omega
    · have hki : i ≠ k := by
        intro e
        rw [e, rd_it_diag _ (rd_0_diag W) k k] at c
        omega
      obtain ⟨q, hq, hqi, h⟩ := ih (by omega) i k hi (by omega) hki (by omega)
      refine ⟨q, hq, hqi, ?_⟩
      rw [rd_it_s, rd_it_s]
      omega
theorem rd_it_bd {W : Nat → Nat → Nat} (hW : rd_ok W) : ∀ k, k ≤ 12 → ∀ i j, i < 12 → j < 12 → rd_it (rd_0 W) k i j < 1000000 → rd_it (rd_0 W) k i j ≤ 30 * 2 ^ k := by
  intro k
  induction k with
  | zero =>
    intro _ i j hi hj hlt
    by_cases e : i = j
    · rw [e, rd_it_diag _ (rd_0_diag W) 0 j]; omega
    · have hlt' : rd_0 W i j < 1000000 := hlt
      show rd_0 W i j ≤ 30 * 2 ^ 0
      rw [rd_0_ne W e] at hlt' ⊢
      have := (hW i j hi hj).2.2 hlt'
      omega
  | succ k ih =>
    intro hk i j hi hj hlt
    have h1 := ih (by omega) i j hi hj
    have h2 := ih (by omega) i k hi (by omega)
    have h3 := ih (by omega) k j (by omega) hj
    rw [rd_it_s] at hlt ⊢
    have e : 2 ^ (k + 1) = 2 * 2 ^ k := by rw [Nat.pow_succ]; omega
    rw [e]
    generalize 2 ^ k = z at *
    generalize rd_it (rd_0 W) k i j = a at *
    generalize rd_it (rd_0 W) k i k = b at *
    generalize rd_it (rd_0 W) k k j = c at *
    by_cases g : a ≤ b + c
    · have := h1 (by omega)
      omega
    · have := h2 (by omega)
      have := h3 (by omega)
      omega
theorem rd_self (W : Nat → Nat → Nat) (i : Nat) : rd_D W i i = 0 := rd_it_diag _ (rd_0_diag W) 12 i
theorem rd_tri (W : Nat → Nat → Nat) {m : Nat} (hm : m < 12) (i j : Nat) : rd_D W i j ≤ rd_D W i m + rd_D W m j := rd_it_tri _ (rd_0_diag W) 12 m hm i j
theorem rd_leW (W : Nat → Nat → Nat) (i j : Nat) : rd_D W i j ≤ W i j := by
  by_cases e : i = j
  · rw [e, rd_self]; omega
  · have h := rd_it_le (rd_0 W) 12 i j
    rw [rd_0_ne W e] at h
    exact h
theorem rd_stepF (W : Nat → Nat → Nat) {q : Nat} (hq : q < 12) (i j : Nat) : rd_D W i j ≤ rd_D W i q + W q j := by
  have h1 := rd_tri W hq i j
  have h2 := rd_leW W q j
  omega
theorem rd_stepB (W : Nat → Nat → Nat) {q : Nat} (hq : q < 12) (i j : Nat) : rd_D W i j ≤ W i q + rd_D W q j := by
  have h1 := rd_tri W hq i j
  have h2 := rd_leW W i q
  omega
theorem rd_cap {W : Nat → Nat → Nat} (hW : rd_ok W) {i j : Nat} (hi : i < 12) (hj : j < 12) : rd_D W i j ≤ 1000000 := by
  have h1 := rd_leW W i j
  have h2 := (hW i j hi hj).2.1
  omega
theorem rd_last {W : Nat → Nat → Nat} {i j : Nat} (hi : i < 12) (hj : j < 12) (hne : i ≠ j) (h : rd_D W i j < 1000000) : ∃ q, q < 12 ∧ q ≠ j ∧ rd_D W i q + W q j = rd_D W i j := by
  obtain ⟨q, hq, hqj, g⟩ := rd_it_last W 12 (Nat.le_refl _) i j hi hj hne h
  refine ⟨q, hq, hqj, ?_⟩
  have h1 := rd_stepF W hq i j
  have g' : rd_D W i q + W q j ≤ rd_D W i j := g
  omega
theorem rd_first {W : Nat → Nat → Nat} {i j : Nat} (hi : i < 12) (hj : j < 12) (hne : i ≠ j) (h : rd_D W i j < 1000000) : ∃ q, q < 12 ∧ q ≠ i ∧ W i q + rd_D W q j = rd_D W i j := by
  obtain ⟨q, hq, hqj, g⟩ := rd_it_first W 12 (Nat.le_refl _) i j hi hj hne h
  refine ⟨q, hq, hqj, ?_⟩
  have h1 := rd_stepB W hq i j
  have g' : W i q + rd_D W q j ≤ rd_D W i j := g
  omega
theorem rd_bd {W : Nat → Nat → Nat} (hW : rd_ok W) {i j : Nat} (hi : i < 12) (hj : j < 12) (h : rd_D W i j < 1000000) : rd_D W i j ≤ 122880 := by
  have := rd_it_bd hW 12 (Nat.le_refl _) i j hi hj h
  have e : 30 * 2 ^ 12 = 122880 := by decide
  rw [e] at this
  exact this
theorem rd_pos {W : Nat → Nat → Nat} (hW : rd_ok W) {i j : Nat} (hi : i < 12) (hj : j < 12) (hne : i ≠ j) : 1 ≤ rd_D W i j := by
  by_cases c : rd_D W i j < 1000000
  · obtain ⟨q, hq, hqj, g⟩ := rd_last hi hj hne c
    have := (hW q j hq hj).1
    omega
  · omega
/-- what grows by no more than the roads is at most the distance -/
theorem rd_max {W : Nat → Nat → Nat} (hW : rd_ok W) {g : Nat → Nat} {s : Nat} (hs : s < 12) (h0 : g s = 0) (hst : ∀ u v, u < 12 → v < 12 → g v ≤ g u + W u v) (hc : ∀ v, v < 12 → g v ≤ 1000000) : ∀ n v, v < 12 → rd_D W s v ≤ n → g v ≤ rd_D W s v := by
  intro n
  induction n with
  | zero =>
    intro v hv hn
    by_cases e : s = v
    · rw [← e, h0]; omega
    · have := rd_pos hW hs hv e
      omega
  | succ n ih =>
    intro v hv hn
    by_cases e : s = v
    · rw [← e, h0]; omega
    · by_cases c : rd_D W s v < 1000000
      · obtain ⟨q, hq, hqj, g1⟩ := rd_last hs hv e c
        have h1 := (hW q v hq hv).1
        have h2 := ih q hq (by omega)
        have h3 := hst q v hq hv
        omega
      · have := hc v hv
        omega
theorem rd_maxB {W : Nat → Nat → Nat} (hW : rd_ok W) {g : Nat → Nat} {t : Nat} (ht : t < 12) (h0 : g t = 0) (hst : ∀ u v, u < 12 → v < 12 → g u ≤ g v + W u v) (hc : ∀ v, v < 12 → g v ≤ 1000000) : ∀ n v, v < 12 → rd_D W v t ≤ n → g v ≤ rd_D W v t := by
  intro n
  induction n with
  | zero =>
    intro v hv hn
    by_cases e : v = t
    · rw [e, h0]; omega
    · have := rd_pos hW hv ht e
      omega
  | succ n ih =>
    intro v hv hn
    by_cases e : v = t
    · rw [e, h0]; omega
    · by_cases c : rd_D W v t < 1000000
      · obtain ⟨q, hq, hqj, g1⟩ := rd_first hv ht e c
        have h1 := (hW v q hv hq).1
        have h2 := ih q hq (by omega)
        have h3 := hst v q hv hq
        omega
      · have := hc v hv
        omega
/-- a way that leads over q: splits of it lead over q too -/
theorem rd_mid {W : Nat → Nat → Nat} {a b c d : Nat} (hb : b < 12) (hc : c < 12) (h1 : rd_D W a b + rd_D W b d = rd_D W a d) (h2 : rd_D W a c + rd_D W c b = rd_D W a b) : rd_D W a c + rd_D W c d = rd_D W a d ∧ rd_D W c b + rd_D W b d = rd_D W c d := by
  have t1 := rd_tri W hb c d
  have t2 := rd_tri W hc a d
  omega
theorem rd_midR {W : Nat → Nat → Nat} {a b c d : Nat} (hb : b < 12) (hc : c < 12) (h1 : rd_D W a b + rd_D W b d = rd_D W a d) (h2 : rd_D W b c + rd_D W c d = rd_D W b d) : rd_D W a c + rd_D W c d = rd_D W a d ∧ rd_D W a b + rd_D W b c = rd_D W a c := by
  have t1 := rd_tri W hb a c
  have t2 := rd_tri W hc a d
  omega
end
section
/-! the other way around -/
theorem rd_it_tr (d : Nat → Nat → Nat) : ∀ k i j, rd_it (fun a b => d b a) k i j = rd_it d k j i := by
  intro k
  induction k with
  | zero => intro i j; rfl
  | succ k ih =>
    intro i j
    rw [rd_it_s, rd_it_s, ih, ih, ih]
    omega
theorem rd_0_tr (W : Nat → Nat → Nat) : rd_0 (fun a b => W b a) = fun a b => rd_0 W b a := by
  funext a b
  by_cases e : a = b
  · rw [e, rd_0_diag, rd_0_diag]
  · rw [rd_0_ne _ e, rd_0_ne _ (fun h => e h.symm)]
theorem rd_D_tr (W : Nat → Nat → Nat) (i j : Nat) : rd_D (fun a b => W b a) i j = rd_D W j i := by
  unfold rd_D
  rw [rd_0_tr]
  exact rd_it_tr (rd_0 W) 12 i j
theorem rd_ok_tr {W : Nat → Nat → Nat} (h : rd_ok W) : rd_ok (fun a b => W b a) := fun i j hi hj => h j i hj hi
/-! a search that settles the nearest unsettled point each time: F how far, S settled, w what a step costs -/
def rj_rx (w : Nat → Nat → Nat) (F : Nat → Nat) (u v : Nat) : Nat := min (F v) (F u + w u v)
def rj_0 (s v : Nat) : Nat := if v = s then 0 else 1000000
theorem rj_0s (s : Nat) : rj_0 s s = 0 := if_pos rfl
theorem rj_0n {s v : Nat} (h : v ≠ s) : rj_0 s v = 1000000 := if_neg h
theorem rj_0le (s v : Nat) : rj_0 s v ≤ 1000000 := by
  by_cases e : v = s
  · rw [e, rj_0s]; omega
  · rw [rj_0n e]; omega
def rj_inv (w : Nat → Nat → Nat) (F : Nat → Nat) (S : Nat → Prop) : Prop :=
  (∀ v, v < 12 → F v ≤ 1000000) ∧ (∀ u v, u < 12 → v < 12 → S u → ¬ S v → F u ≤ F v) ∧ (∀ u v, u < 12 → v < 12 → S u → F v ≤ F u + w u v)
theorem rj_start (w : Nat → Nat → Nat) (s : Nat) {S : Nat → Prop} (hS : ∀ v, v < 12 → ¬ S v) : rj_inv w (rj_0 s) S :=
  ⟨fun v _ => rj_0le s v, fun u _ hu _ h _ => absurd h (hS u hu), fun u _ hu _ h => absurd h (hS u hu)⟩
theorem rj_step {w : Nat → Nat → Nat} {F : Nat → Nat} {S S' : Nat → Prop} {u : Nat} (h : rj_inv w F S) (hu : u < 12) (hS : ¬ S u) (hm : ∀ v, v < 12 → ¬ S v → F u ≤ F v) (hS' : ∀ v, v < 12 → (S' v ↔ S v ∨ v = u)) : rj_inv w (rj_rx w F u) S' := by
  obtain ⟨h1, h2, h3⟩ := h
  refine ⟨fun v hv => ?_, fun x v hx hv hsx hsv => ?_, fun x v hx hv hsx => ?_⟩
  · have := h1 v hv
    unfold rj_rx
    omega
  · unfold rj_rx
    have hv' : ¬ S v := fun z => hsv ((hS' v hv).mpr (Or.inl z))
    have m := hm v hv hv'
    rcases (hS' x hx).mp hsx with z | z
    · have a1 := h2 x u hx hu z hS
      have a2 := h2 x v hx hv z hv'
      omega
    · rw [z]
      omega
  · unfold rj_rx
    rcases (hS' x hx).mp hsx with z | z
    · have a1 := h2 x u hx hu z hS
      have a2 := h3 x v hx hv z
      omega
    · rw [z]
      omega
theorem rj_done {w : Nat → Nat → Nat} {F : Nat → Nat} {S : Nat → Prop} (h : rj_inv w F S) (hno : ∀ v, v < 12 → ¬ S v → 1000000 ≤ F v) : ∀ u v, u < 12 → v < 12 → F v ≤ F u + w u v := by
  intro u v hu hv
  by_cases c : S u
  · exact h.2.2 u v hu hv c
  · have a1 := hno u hu c
    have a2 := h.1 v hv
    omega
/-- the start stays at 0, nothing is nearer than it is -/
def rj_snd (d : Nat → Nat) (s : Nat) (F : Nat → Nat) : Prop := F s = 0 ∧ ∀ v, v < 12 → d v ≤ F v
theorem rj_snd0 {d : Nat → Nat} {s : Nat} (h0 : d s = 0) (hc : ∀ v, v < 12 → d v ≤ 1000000) : rj_snd d s (rj_0 s) := by
  refine ⟨rj_0s s, fun v hv => ?_⟩
  by_cases e : v = s
  · rw [e, h0]; omega
  · rw [rj_0n e]; exact hc v hv
theorem rj_sndS {d : Nat → Nat} {s u : Nat} {w : Nat → Nat → Nat} {F : Nat → Nat} (h : rj_snd d s F) (hu : u < 12) (hd : ∀ v, v < 12 → d v ≤ d u + w u v) : rj_snd d s (rj_rx w F u) := by
  refine ⟨?_, fun v hv => ?_⟩
  · unfold rj_rx
    rw [h.1]
    omega
  · have a1 := h.2 v hv
    have a2 := h.2 u hu
    have a3 := hd v hv
    unfold rj_rx
    omega
/-- the search over all roads tells the distances -/
theorem rj_all {W : Nat → Nat → Nat} (hW : rd_ok W) {F : Nat → Nat} {s : Nat} (hs : s < 12) (hF : rj_snd (rd_D W s) s F) (hc : ∀ v, v < 12 → F v ≤ 1000000) (h : ∀ u v, u < 12 → v < 12 → F v ≤ F u + W u v) : ∀ v, v < 12 → F v = rd_D W s v := by
  intro v hv
  have a := rd_max hW hs hF.1 h hc (rd_D W s v) v hv (Nat.le_refl _)
  have b := hF.2 v hv
  omega
theorem rj_exact {W : Nat → Nat → Nat} (hW : rd_ok W) {F : Nat → Nat} {S : Nat → Prop} {s m : Nat} (hs : s < 12) (h : rj_inv W F S) (h0 : F s = 0) (hm : ∀ v, v < 12 → ¬ S v → m ≤ F v) : ∀ n p, p < 12 → rd_D W s p ≤ n → rd_D W s p < m → F p ≤ rd_D W s p ∧ S p := by
  have fin : ∀ p, p < 12 → rd_D W s p < m → F p ≤ rd_D W s p → F p ≤ rd_D W s p ∧ S p := by
    intro p hp hl hF
    refine ⟨hF, Classical.byContradiction (fun c => ?_)⟩
    have := hm p hp c
    omega
  intro n
  induction n with
  | zero =>
    intro p hp hn hl
    by_cases e : s = p
    · exact fin p hp hl (by rw [← e, h0]; omega)
    · have := rd_pos hW hs hp e
      omega
  | succ n ih =>
    intro p hp hn hl
    by_cases e : s = p
    · exact fin p hp hl (by rw [← e, h0]; omega)
    · by_cases c : rd_D W s p < 1000000
      · obtain ⟨q, hq, hqj, g1⟩ := rd_last hs hp e c
        have h1 := (hW q p hq hp).1
        have h2 := ih q hq (by omega) (by omega)
        have h3 := h.2.2 q p hq hp h2.2
        exact fin p hp hl (by omega)
      · have := h.1 p hp
        exact fin p hp hl (by omega)
/-- from both ends: when the nearest unsettled points of both ends together are no nearer than the best way that was met, that one is the distance -/
theorem rj_both {W : Nat → Nat → Nat} (hW : rd_ok W) {F B : Nat → Nat} {S T : Nat → Prop} {s t m m' best : Nat} (hs : s < 12) (ht : t < 12) (hF : rj_inv W F S) (hB : rj_inv (fun a b => W b a) B T) (hF0 : F s = 0) (hB0 : B t = 0) (hm : ∀ v, v < 12 → ¬ S v → m ≤ F v) (hm' : ∀ v, v < 12 → ¬ T v → m' ≤ B v) (hb : ∀ p, p < 12 → best ≤ F p + B p) (hc : best ≤ 1000000) (hstop : best ≤ m + m') : best ≤ rd_D W s t := by
  refine Classical.byContradiction (fun c => ?_)
  have lt : rd_D W s t < best := by omega
  have main : ∀ n p, p < 12 → rd_D W s p ≤ n → rd_D W s p + rd_D W p t = rd_D W s t → B p ≤ rd_D W p t → False := by
    intro n
    induction n with
    | zero =>
      intro p hp hn hpath hBp
      by_cases e : s = p
      · have := hb p hp
        rw [← e] at this hBp
        omega
      · have := rd_pos hW hs hp e
        omega
    | succ n ih =>
      intro p hp hn hpath hBp
      by_cases e : s = p
      · have := hb p hp
        rw [← e] at this hBp
        omega
      · obtain ⟨q, hq, hqj, g1⟩ := rd_last (W := W) hs hp e (by omega)
        have h1 := (hW q p hq hp).1
        have h2 := rd_tri W hq s t
        have h3 := rd_stepB W hp q t
        by_cases c2 : rd_D W q t < m'
        · have x := rj_exact (rd_ok_tr hW) ht hB hB0 hm' (rd_D W q t) q hq (by rw [rd_D_tr]; omega) (by rw [rd_D_tr]; exact c2)
          rw [rd_D_tr] at x
          exact ih q hq (by omega) (by omega) x.1
        · have x := rj_exact hW hs hF hF0 hm (rd_D W s q) q hq (Nat.le_refl _) (by omega)
          have y := hF.2.2 q p hq hp x.2
          have z := hb p hp
          omega
  exact main (rd_D W s t) t ht (Nat.le_refl _) (by rw [rd_self]; omega) (by rw [hB0]; omega)
/-- on a shortest way to an unsettled point there is an unsettled point that is known exactly -/
theorem rj_path {W : Nat → Nat → Nat} (hW : rd_ok W) {F : Nat → Nat} {S G : Nat → Prop} {s : Nat} (hs : s < 12) (h0 : F s = 0) (hpred : ∀ p u, p < 12 → u < 12 → G u → rd_D W s u < 1000000 → rd_D W s p + W p u = rd_D W s u → G p) (hset : ∀ x, x < 12 → S x → G x → ∀ v, v < 12 → F v ≤ rd_D W s x + W x v) : ∀ n u, u < 12 → G u → rd_D W s u ≤ n → rd_D W s u < 1000000 → ¬ S u → ∃ y, y < 12 ∧ G y ∧ ¬ S y ∧ F y ≤ rd_D W s y ∧ rd_D W s y + rd_D W y u = rd_D W s u := by
  intro n
  induction n with
  | zero =>
    intro u hu hg hn hl hS
    by_cases e : s = u
    · exact ⟨u, hu, hg, hS, by rw [← e, h0]; omega, by rw [rd_self]; omega⟩
    · have := rd_pos hW hs hu e
      omega
  | succ n ih =>
    intro u hu hg hn hl hS
    by_cases e : s = u
    · exact ⟨u, hu, hg, hS, by rw [← e, h0]; omega, by rw [rd_self]; omega⟩
    · obtain ⟨q, hq, hqj, g1⟩ := rd_last hs hu e hl
      have h1 := (hW q u hq hu).1
      have gq := hpred q u hq hu hg hl g1
      by_cases c : S q
      · have h3 := hset q hq c gq u hu
        exact ⟨u, hu, hg, hS, by omega, by rw [rd_self]; omega⟩
      · obtain ⟨y, hy, gy, sy, fy, py⟩ := ih q hq gq (by omega) (by omega) c
        refine ⟨y, hy, gy, sy, fy, ?_⟩
        have t1 := rd_tri W hy s u
        have t2 := rd_stepF W hq y u
        omega
end
section
/-! the hierarchy: L the points that are left, E the edges -/
def rh_P (W : Nat → Nat → Nat) (L : Nat → Prop) (E : Nat → Nat → Nat) : Prop :=
  ∀ u v, u < 12 → v < 12 → L u → L v → u ≠ v → rd_D W u v < 1000000 → E u v = rd_D W u v ∨ ∃ w, w < 12 ∧ L w ∧ w ≠ u ∧ w ≠ v ∧ rd_D W u w + rd_D W w v = rd_D W u v
theorem rh_P0 (W : Nat → Nat → Nat) {L : Nat → Prop} (hL : ∀ v, v < 12 → L v) {E : Nat → Nat → Nat} (hE : ∀ u v, u < 12 → v < 12 → E u v = W u v) : rh_P W L E := by
  intro u v hu hv _ _ hne hl
  obtain ⟨q, hq, hqv, g⟩ := rd_last hu hv hne hl
  by_cases e : q = u
  · left
    rw [e, rd_self] at g
    rw [hE u v hu hv]
    omega
  · right
    refine ⟨q, hq, hL q hq, e, hqv, ?_⟩
    have t1 := rd_tri W hq u v
    have t2 := rd_leW W q v
    omega
theorem rh_step {W : Nat → Nat → Nat} (hW : rd_ok W) {L L' : Nat → Prop} {E E' : Nat → Nat → Nat} {x : Nat} (hx : x < 12) (hP : rh_P W L E) (hLx : L x) (hL' : ∀ v, v < 12 → (L' v ↔ L v ∧ v ≠ x))
    (hge : ∀ u v, u < 12 → v < 12 → rd_D W u v ≤ E' u v) (hle : ∀ u v, u < 12 → v < 12 → E' u v ≤ E u v)
    (hnew : ∀ u v, u < 12 → v < 12 → L' u → L' v → u ≠ v → rd_D W u v < 1000000 → E u x + E x v = rd_D W u v → E' u v = rd_D W u v ∨ ∃ w, w < 12 ∧ L' w ∧ w ≠ u ∧ w ≠ v ∧ rd_D W u w + rd_D W w v = rd_D W u v) : rh_P W L' E' := by
  intro u v hu hv hLu hLv hne hl
  obtain ⟨lu, ux⟩ := (hL' u hu).mp hLu
  obtain ⟨lv, vx⟩ := (hL' v hv).mp hLv
  rcases hP u v hu hv lu lv hne hl with z | ⟨w, hw, lw, wu, wv, hb⟩
  · left
    have a1 := hge u v hu hv
    have a2 := hle u v hu hv
    omega
  · by_cases e : w = x
    · rw [e] at hb
      rcases hP u x hu hx lu hLx ux (by omega) with z1 | ⟨y, hy, ly, yu, yx, hby⟩
      · rcases hP x v hx hv hLx lv (fun h => vx h.symm) (by omega) with z2 | ⟨y, hy, ly, yx, yv, hby⟩
        · exact hnew u v hu hv hLu hLv hne hl (by omega)
        · right
          have m := rd_midR hx hy hb hby
          refine ⟨y, hy, (hL' y hy).mpr ⟨ly, yx⟩, ?_, yv, m.1⟩
          intro h
          have m2 := m.2
          rw [h, rd_self] at m2
          have := rd_pos hW hu hx ux
          omega
      · right
        have m := rd_mid hx hy hb hby
        refine ⟨y, hy, (hL' y hy).mpr ⟨ly, yx⟩, yu, ?_, m.1⟩
        intro h
        have m2 := m.2
        rw [h, rd_self] at m2
        have := rd_pos hW hx hv (fun h => vx h.symm)
        omega
    · right
      exact ⟨w, hw, (hL' w hw).mpr ⟨lw, e⟩, wu, wv, hb⟩
/-- what stands for points that are taken out: R their ranks -/
def rh_Q (W : Nat → Nat → Nat) (L : Nat → Prop) (R : Nat → Nat) (E : Nat → Nat → Nat) : Prop :=
  ∀ u v, u < 12 → v < 12 → u ≠ v → (¬ L u ∨ ¬ L v) → rd_D W u v < 1000000 → E u v = rd_D W u v ∨ ∃ w, w < 12 ∧ w ≠ u ∧ w ≠ v ∧ rd_D W u w + rd_D W w v = rd_D W u v ∧ ((¬ L u ∧ (L w ∨ R u < R w)) ∨ (¬ L v ∧ (L w ∨ R v < R w)))
theorem rh_Qs {W : Nat → Nat → Nat} {L L' : Nat → Prop} {R R' : Nat → Nat} {E E' : Nat → Nat → Nat} {x r : Nat} (hx : x < 12) (hLx : L x) (hL' : ∀ v, v < 12 → (L' v ↔ L v ∧ v ≠ x)) (hP : rh_P W L E) (hQ : rh_Q W L R E)
    (hR : ∀ v, v < 12 → ¬ L v → R v < r) (hRx : R' x = r) (hRn : ∀ v, v < 12 → v ≠ x → R' v = R v) (hE : ∀ u v, u < 12 → v < 12 → (¬ L' u ∨ ¬ L' v) → E' u v = E u v) : rh_Q W L' R' E' := by
  intro u v hu hv hne hd hl
  rw [hE u v hu hv hd]
  have key : ∀ p w, p < 12 → w < 12 → ¬ L p → (L w ∨ R p < R w) → (¬ L' p ∧ (L' w ∨ R' p < R' w)) := by
    intro p w hp hw hLp h
    have px : p ≠ x := fun e => hLp (by rw [e]; exact hLx)
    refine ⟨fun z => hLp ((hL' p hp).mp z).1, ?_⟩
    by_cases e : w = x
    · right
      rw [e, hRx, hRn p hp px]
      exact hR p hp hLp
    · rcases h with h | h
      · left
        exact (hL' w hw).mpr ⟨h, e⟩
      · right
        rw [hRn p hp px, hRn w hw e]
        exact h
  by_cases c : ¬ L u ∨ ¬ L v
  · rcases hQ u v hu hv hne c hl with z | ⟨w, hw, wu, wv, hb, h⟩
    · left; exact z
    · right
      refine ⟨w, hw, wu, wv, hb, ?_⟩
      rcases h with ⟨h1, h2⟩ | ⟨h1, h2⟩
      · exact Or.inl (key u w hu hw h1 h2)
      · exact Or.inr (key v w hv hw h1 h2)
  · have lu : L u := Classical.byContradiction (fun z => c (Or.inl z))
    have lv : L v := Classical.byContradiction (fun z => c (Or.inr z))
    rcases hP u v hu hv lu lv hne hl with z | ⟨w, hw, lw, wu, wv, hb⟩
    · left; exact z
    · right
      refine ⟨w, hw, wu, wv, hb, ?_⟩
      have wx : w ≠ x := by
        intro e
        rcases hd with h | h
        · have : u = x := Classical.byContradiction (fun k => h ((hL' u hu).mpr ⟨lu, k⟩))
          exact wu (by rw [e, this])
        · have : v = x := Classical.byContradiction (fun k => h ((hL' v hv).mpr ⟨lv, k⟩))
          exact wv (by rw [e, this])
      have lw' : L' w := (hL' w hw).mpr ⟨lw, wx⟩
      rcases hd with h | h
      · exact Or.inl ⟨h, Or.inl lw'⟩
      · exact Or.inr ⟨h, Or.inl lw'⟩
/-- all are taken out -/
def rh_F (W : Nat → Nat → Nat) (R : Nat → Nat) (E : Nat → Nat → Nat) : Prop :=
  ∀ u v, u < 12 → v < 12 → u ≠ v → rd_D W u v < 1000000 → E u v = rd_D W u v ∨ ∃ w, w < 12 ∧ w ≠ u ∧ w ≠ v ∧ rd_D W u w + rd_D W w v = rd_D W u v ∧ (R u < R w ∨ R v < R w)
theorem rh_QF {W : Nat → Nat → Nat} {L : Nat → Prop} {R : Nat → Nat} {E : Nat → Nat → Nat} (hQ : rh_Q W L R E) (hL : ∀ v, v < 12 → ¬ L v) : rh_F W R E := by
  intro u v hu hv hne hl
  rcases hQ u v hu hv hne (Or.inl (hL u hu)) hl with z | ⟨w, hw, wu, wv, hb, h⟩
  · left; exact z
  · right
    refine ⟨w, hw, wu, wv, hb, ?_⟩
    rcases h with ⟨_, h2⟩ | ⟨_, h2⟩
    · rcases h2 with h2 | h2
      · exact absurd h2 (hL w hw)
      · exact Or.inl h2
    · rcases h2 with h2 | h2
      · exact absurd h2 (hL w hw)
      · exact Or.inr h2
theorem rh_Ftr {W : Nat → Nat → Nat} {R : Nat → Nat} {E : Nat → Nat → Nat} (h : rh_F W R E) : rh_F (fun a b => W b a) R (fun a b => E b a) := by
  intro u v hu hv hne hl
  rw [rd_D_tr W] at hl
  rcases h v u hv hu (fun e => hne e.symm) hl with z | ⟨w, hw, wv, wu, hb, c⟩
  · left
    rw [rd_D_tr W]
    exact z
  · right
    refine ⟨w, hw, wu, wv, ?_, c.symm⟩
    rw [rd_D_tr W, rd_D_tr W, rd_D_tr W]
    omega
theorem rh_near {W : Nat → Nat → Nat} (hW : rd_ok W) {R : Nat → Nat} {E : Nat → Nat → Nat} (hF : rh_F W R E) {a : Nat} (ha : a < 12) : ∀ n w, w < 12 → R a < R w → rd_D W a w ≤ n → rd_D W a w < 1000000 → ∃ y, y < 12 ∧ y ≠ a ∧ R a < R y ∧ E a y = rd_D W a y ∧ rd_D W a y + rd_D W y w = rd_D W a w := by
  intro n
  induction n with
  | zero =>
    intro w hw hr hn _
    have aw : a ≠ w := fun e => by rw [e] at hr; omega
    have := rd_pos hW ha hw aw
    omega
  | succ n ih =>
    intro w hw hr hn hl
    have aw : a ≠ w := fun e => by rw [e] at hr; omega
    rcases hF a w ha hw aw hl with z | ⟨z, hz, za, zw, hb, c⟩
    · exact ⟨w, hw, fun e => aw e.symm, hr, z, by rw [rd_self]; omega⟩
    · have p := rd_pos hW hz hw zw
      obtain ⟨y, hy, ya, yr, ye, yb⟩ := ih z hz (by omega) (by omega) (by omega)
      exact ⟨y, hy, ya, yr, ye, (rd_mid hz hy hb yb).1⟩
theorem rh_up {W : Nat → Nat → Nat} (hW : rd_ok W) {R F : Nat → Nat} {E : Nat → Nat → Nat} (hF : rh_F W R E) (hR : ∀ u v, u < 12 → v < 12 → R u = R v → u = v) (hs : ∀ u v, u < 12 → v < 12 → R u < R v → F v ≤ F u + E u v) : ∀ n a b, a < 12 → b < 12 → rd_D W a b ≤ n → rd_D W a b < 1000000 → (∀ w, w < 12 → rd_D W a w + rd_D W w b = rd_D W a b → R w ≤ R b) → F b ≤ F a + rd_D W a b := by
  intro n
  induction n with
  | zero =>
    intro a b ha hb hn _ _
    by_cases e : a = b
    · rw [e]; omega
    · have := rd_pos hW ha hb e
      omega
  | succ n ih =>
    intro a b ha hb hn hl hm
    by_cases e : a = b
    · rw [e]; omega
    · have r1 := hm a ha (by rw [rd_self]; omega)
      have r2 : R a ≠ R b := fun h => e (hR a b ha hb h)
      obtain ⟨y, hy, ya, yr, ye, yb⟩ := rh_near hW hF ha (rd_D W a b) b hb (by omega) (Nat.le_refl _) hl
      have p := rd_pos hW ha hy (fun h => ya h.symm)
      have h1 := hs a y ha hy yr
      have h2 := ih y b hy hb (by omega) (by omega) (fun w hw hwb => hm w hw (rd_midR hy hw yb hwb).1)
      omega
theorem rx_max (P : Nat → Prop) (f : Nat → Nat) : ∀ n, (∃ p, p < n ∧ P p) → ∃ p, p < n ∧ P p ∧ ∀ q, q < n → P q → f q ≤ f p := by
  intro n
  induction n with
  | zero => rintro ⟨p, hp, _⟩; omega
  | succ n ih =>
    rintro ⟨p, hp, hP⟩
    by_cases c : ∃ p, p < n ∧ P p
    · obtain ⟨b, hb, pb, mb⟩ := ih c
      by_cases d : P n ∧ f b < f n
      · refine ⟨n, by omega, d.1, fun q hq hPq => ?_⟩
        by_cases e : q = n
        · rw [e]; omega
        · have := mb q (by omega) hPq
          omega
      · refine ⟨b, by omega, pb, fun q hq hPq => ?_⟩
        by_cases e : q = n
        · rw [e]
          rw [e] at hPq
          exact Nat.le_of_not_lt (fun z => d ⟨hPq, z⟩)
        · exact mb q (by omega) hPq
    · have e : p = n := Classical.byContradiction (fun z => c ⟨p, by omega, hP⟩)
      refine ⟨p, hp, hP, fun q hq hPq => ?_⟩
      have e2 : q = n := Classical.byContradiction (fun z => c ⟨q, by omega, hPq⟩)
      rw [e, e2]
      omega
/-- up from both ends -/
theorem rh_meet {W : Nat → Nat → Nat} (hW : rd_ok W) {R F B : Nat → Nat} {E : Nat → Nat → Nat} {s t : Nat} (hs : s < 12) (ht : t < 12) (hQ : rh_F W R E) (hR : ∀ u v, u < 12 → v < 12 → R u = R v → u = v) (hF : ∀ u v, u < 12 → v < 12 → R u < R v → F v ≤ F u + E u v) (hB : ∀ u v, u < 12 → v < 12 → R u < R v → B v ≤ B u + E v u) (hF0 : F s = 0) (hB0 : B t = 0) (hl : rd_D W s t < 1000000) : ∃ p, p < 12 ∧ F p + B p ≤ rd_D W s t := by
  obtain ⟨p, hp, pb, pm⟩ := rx_max (fun p => rd_D W s p + rd_D W p t = rd_D W s t) R 12 ⟨s, hs, by rw [rd_self]; omega⟩
  refine ⟨p, hp, ?_⟩
  have h1 := rh_up hW hQ hR hF (rd_D W s p) s p hs hp (Nat.le_refl _) (by omega) (fun w hw hwb => pm w hw (rd_mid hp hw pb hwb).1)
  have h2 := rh_up (rd_ok_tr hW) (rh_Ftr hQ) hR hB (rd_D W p t) t p ht hp (by rw [rd_D_tr W]; omega) (by rw [rd_D_tr W]; omega) (fun w hw hwb => pm w hw (by
    rw [rd_D_tr W, rd_D_tr W, rd_D_tr W] at hwb
    exact (rd_midR hp hw pb (by omega)).1))
  rw [rd_D_tr W] at h2
  omega
end
section
/-! the least of some numbers, capped: what the loops over 12 points tell -/
def rl_min (G : Nat → Nat) (v : Nat) : Prop := v ≤ 1000000 ∧ (∀ h, h < 12 → v ≤ G h) ∧ (v = 1000000 ∨ ∃ h, h < 12 ∧ v = G h)
/-! labels: H the hubs that are done, T how far from points to hubs, X from hubs to points -/
def rl_cov (W : Nat → Nat → Nat) (H : Nat → Prop) (a b : Nat) : Prop := ∃ h, h < 12 ∧ H h ∧ rd_D W a h + rd_D W h b = rd_D W a b
def rl_inv (W : Nat → Nat → Nat) (H : Nat → Prop) (T X : Nat → Nat → Nat) : Prop :=
  (∀ a h, a < 12 → h < 12 → T a h = 1000000 ∨ T a h = rd_D W a h) ∧ (∀ b h, b < 12 → h < 12 → X b h = 1000000 ∨ X b h = rd_D W h b) ∧ (∀ a h, a < 12 → h < 12 → ¬ H h → T a h = 1000000 ∧ X a h = 1000000) ∧
  (∀ a b, a < 12 → b < 12 → rd_D W a b < 1000000 → rl_cov W H a b → ∃ h, h < 12 ∧ H h ∧ T a h = rd_D W a h ∧ X b h = rd_D W h b ∧ rd_D W a h + rd_D W h b = rd_D W a b)
theorem rl_q {W : Nat → Nat → Nat} (hW : rd_ok W) {H : Nat → Prop} {T X : Nat → Nat → Nat} (h : rl_inv W H T X) {s t v : Nat} (hs : s < 12) (ht : t < 12) (hv : rl_min (fun h => T s h + X t h) v) :
    rd_D W s t ≤ v ∧ (rd_D W s t < 1000000 → rl_cov W H s t → v = rd_D W s t) ∧ (rd_D W s t < 1000000 → ¬ rl_cov W H s t → rd_D W s t < v) := by
  obtain ⟨h1, h2, h3, h4⟩ := h
  obtain ⟨v1, v2, v3⟩ := hv
  have ge : rd_D W s t ≤ v := by
    rcases v3 with z | ⟨k, hk, z⟩
    · rw [z]; exact rd_cap hW hs ht
    · have t1 := rd_tri W hk s t
      have c1 := rd_cap hW hs hk
      have c2 := rd_cap hW hk ht
      have a1 := h1 s k hs hk
      have a2 := h2 t k ht hk
      dsimp only at z
      omega
  refine ⟨ge, fun hl hc => ?_, fun hl hc => ?_⟩
  · obtain ⟨k, hk, _, a1, a2, a3⟩ := h4 s t hs ht hl hc
    have a4 := v2 k hk
    dsimp only at a4
    omega
  · rcases Nat.lt_or_ge (rd_D W s t) v with z | z
    · exact z
    · refine absurd ?_ hc
      rcases v3 with y | ⟨k, hk, y⟩
      · omega
      · dsimp only at y
        refine ⟨k, hk, Classical.byContradiction (fun n => ?_), ?_⟩
        · have := h3 s k hs hk n
          omega
        · have a1 := h1 s k hs hk
          have a2 := h2 t k ht hk
          omega
/-- a search that doesn't go on where earlier hubs tell the distance; C: where they do; N what is noted -/
def rl_pi (W : Nat → Nat → Nat) (C : Nat → Prop) (s : Nat) (F : Nat → Nat) (S : Nat → Prop) (N : Nat → Nat) : Prop :=
  F s = 0 ∧ (∀ v, v < 12 → rd_D W s v ≤ F v ∧ F v ≤ 1000000) ∧ (∀ x, x < 12 → S x → ¬ C x → F x = rd_D W s x ∧ ∀ v, v < 12 → F v ≤ rd_D W s x + W x v) ∧ (∀ x, x < 12 → (S x ∧ ¬ C x ∧ N x = rd_D W s x) ∨ (¬ (S x ∧ ¬ C x) ∧ N x = 1000000))
theorem rl_pi0 {W : Nat → Nat → Nat} (hW : rd_ok W) {C : Nat → Prop} {s : Nat} (hs : s < 12) {S : Nat → Prop} {N : Nat → Nat} (hS : ∀ v, v < 12 → ¬ S v) (hN : ∀ v, v < 12 → N v = 1000000) : rl_pi W C s (rj_0 s) S N := by
  have h := rj_snd0 (rd_self W s) (fun v hv => rd_cap hW hs hv)
  exact ⟨h.1, fun v hv => ⟨h.2 v hv, rj_0le s v⟩, fun x hx z => absurd z (hS x hx), fun x hx => Or.inr ⟨fun z => hS x hx z.1, hN x hx⟩⟩
theorem rl_covP {W : Nat → Nat → Nat} {H : Nat → Prop} {s p u : Nat} (hp : p < 12) (hu : ¬ rl_cov W H s u) (h : rd_D W s p + W p u = rd_D W s u) : ¬ rl_cov W H s p := by
  rintro ⟨k, hk, hH, e⟩
  refine hu ⟨k, hk, hH, ?_⟩
  have t1 := rd_tri W hk s u
  have t2 := rd_stepF W hp k u
  omega
theorem rl_ex {W : Nat → Nat → Nat} (hW : rd_ok W) {H : Nat → Prop} {s : Nat} (hs : s < 12) {F : Nat → Nat} {S : Nat → Prop} {N : Nat → Nat} (h : rl_pi W (rl_cov W H s) s F S N) {u : Nat} (hu : u < 12) (hSu : ¬ S u) (hc : ¬ rl_cov W H s u) (hl : rd_D W s u < 1000000) (hm : ∀ v, v < 12 → ¬ S v → F u ≤ F v) : F u = rd_D W s u := by
  obtain ⟨h1, h2, h3, h4⟩ := h
  obtain ⟨y, hy, gy, sy, fy, py⟩ := rj_path hW (G := fun x => ¬ rl_cov W H s x) hs h1 (fun p u hp hu g _ e => rl_covP hp g e) (fun x hx sx gx => (h3 x hx sx gx).2) (rd_D W s u) u hu hc (Nat.le_refl _) hl hSu
  have a1 := hm y hy sy
  have a2 := (h2 u hu).1
  omega
theorem rl_piA {W : Nat → Nat → Nat} {C : Nat → Prop} {s : Nat} {F : Nat → Nat} {S S' : Nat → Prop} {N : Nat → Nat} (h : rl_pi W C s F S N) {u : Nat} (hc : C u) (hS' : ∀ v, v < 12 → (S' v ↔ S v ∨ v = u)) : rl_pi W C s F S' N := by
  obtain ⟨h1, h2, h3, h4⟩ := h
  have key : ∀ x, x < 12 → ¬ C x → S' x → S x := by
    intro x hx c sx
    rcases (hS' x hx).mp sx with z | z
    · exact z
    · exact absurd (by rw [z]; exact hc) c
  refine ⟨h1, h2, fun x hx sx c => h3 x hx (key x hx c sx) c, fun x hx => ?_⟩
  rcases h4 x hx with z | z
  · exact Or.inl ⟨(hS' x hx).mpr (Or.inl z.1), z.2⟩
  · exact Or.inr ⟨fun y => z.1 ⟨key x hx y.2 y.1, y.2⟩, z.2⟩
theorem rl_piB {W : Nat → Nat → Nat} {C : Nat → Prop} {s : Nat} (hs : s < 12) {F : Nat → Nat} {S S' : Nat → Prop} {N N' : Nat → Nat} (h : rl_pi W C s F S N) {u : Nat} (hu : u < 12) (hc : ¬ C u) (he : F u = rd_D W s u) (hS' : ∀ v, v < 12 → (S' v ↔ S v ∨ v = u)) (hN : N' u = F u) (hN' : ∀ v, v < 12 → v ≠ u → N' v = N v) : rl_pi W C s (rj_rx W F u) S' N' := by
  obtain ⟨h1, h2, h3, h4⟩ := h
  have snd : ∀ v, v < 12 → rd_D W s v ≤ rj_rx W F u v ∧ rj_rx W F u v ≤ F v := by
    intro v hv
    have a1 := (h2 v hv).1
    have a2 := rd_stepF W hu s v
    unfold rj_rx
    omega
  refine ⟨?_, fun v hv => ?_, fun x hx sx c => ?_, fun x hx => ?_⟩
  · have := (snd s hs).2
    omega
  · have a1 := snd v hv
    have a2 := (h2 v hv).2
    omega
  · rcases (hS' x hx).mp sx with z | z
    · obtain ⟨b1, b2⟩ := h3 x hx z c
      refine ⟨?_, fun v hv => ?_⟩
      · have := snd x hx
        omega
      · have a1 := snd v hv
        have a2 := b2 v hv
        omega
    · rw [z]
      refine ⟨?_, fun v hv => ?_⟩
      · have := snd u hu
        omega
      · unfold rj_rx
        omega
  · by_cases e : x = u
    · left
      rw [e]
      exact ⟨(hS' u hu).mpr (Or.inr rfl), hc, by rw [hN, he]⟩
    · rw [hN' x hx e]
      have eq : S' x ↔ S x := ⟨fun z => by
        rcases (hS' x hx).mp z with y | y
        · exact y
        · exact absurd y e, fun z => (hS' x hx).mpr (Or.inl z)⟩
      rw [eq]
      exact h4 x hx
theorem rl_piE {W : Nat → Nat → Nat} (hW : rd_ok W) {H : Nat → Prop} {s : Nat} (hs : s < 12) {F : Nat → Nat} {S : Nat → Prop} {N : Nat → Nat} (h : rl_pi W (rl_cov W H s) s F S N) (hno : ∀ v, v < 12 → ¬ S v → 1000000 ≤ F v) : ∀ x, x < 12 → (N x = 1000000 ∨ N x = rd_D W s x) ∧ (rd_D W s x < 1000000 → ¬ rl_cov W H s x → N x = rd_D W s x) := by
  intro x hx
  obtain ⟨h1, h2, h3, h4⟩ := h
  refine ⟨?_, fun hl hc => ?_⟩
  · rcases h4 x hx with z | z
    · exact Or.inr z.2.2
    · exact Or.inl z.2
  · rcases h4 x hx with z | z
    · exact z.2.2
    · exfalso
      have ns : ¬ S x := fun y => z.1 ⟨y, hc⟩
      obtain ⟨y, hy, gy, sy, fy, py⟩ := rj_path hW (G := fun x => ¬ rl_cov W H s x) hs h1 (fun p u hp hu g _ e => rl_covP hp g e) (fun x hx sx gx => (h3 x hx sx gx).2) (rd_D W s x) x hx hc (Nat.le_refl _) hl ns
      have := hno y hy sy
      omega
theorem rl_covT {W : Nat → Nat → Nat} {H : Nat → Prop} {a b : Nat} : rl_cov (fun a b => W b a) H a b ↔ rl_cov W H b a := by
  constructor
  · rintro ⟨k, hk, hH, e⟩
    rw [rd_D_tr W, rd_D_tr W, rd_D_tr W] at e
    exact ⟨k, hk, hH, by omega⟩
  · rintro ⟨k, hk, hH, e⟩
    refine ⟨k, hk, hH, ?_⟩
    rw [rd_D_tr W, rd_D_tr W, rd_D_tr W]
    omega
/-- a hub is done -/
theorem rl_hub {W : Nat → Nat → Nat} {H H' : Nat → Prop} {T X T' X' : Nat → Nat → Nat} (h : rl_inv W H T X) {k : Nat} (hk : k < 12) (hHk : ¬ H k) (hH' : ∀ v, v < 12 → (H' v ↔ H v ∨ v = k))
    (hTn : ∀ a j, a < 12 → j < 12 → j ≠ k → T' a j = T a j) (hXn : ∀ a j, a < 12 → j < 12 → j ≠ k → X' a j = X a j)
    (hX : ∀ x, x < 12 → (X' x k = 1000000 ∨ X' x k = rd_D W k x) ∧ (rd_D W k x < 1000000 → ¬ rl_cov W H k x → X' x k = rd_D W k x))
    (hT : ∀ x, x < 12 → (T' x k = 1000000 ∨ T' x k = rd_D W x k) ∧ (rd_D W x k < 1000000 → ¬ rl_cov W H x k → T' x k = rd_D W x k)) : rl_inv W H' T' X' := by
  obtain ⟨h1, h2, h3, h4⟩ := h
  refine ⟨fun a j ha hj => ?_, fun a j ha hj => ?_, fun a j ha hj hn => ?_, fun a b ha hb hl hc => ?_⟩
  · by_cases e : j = k
    · rw [e]; exact (hT a ha).1
    · rw [hTn a j ha hj e]; exact h1 a j ha hj
  · by_cases e : j = k
    · rw [e]; exact (hX a ha).1
    · rw [hXn a j ha hj e]; exact h2 a j ha hj
  · have e : j ≠ k := fun e => hn ((hH' j hj).mpr (Or.inr e))
    rw [hTn a j ha hj e, hXn a j ha hj e]
    exact h3 a j ha hj (fun z => hn ((hH' j hj).mpr (Or.inl z)))
  · by_cases c : rl_cov W H a b
    · obtain ⟨j, hj, jH, e1, e2, e3⟩ := h4 a b ha hb hl c
      have e : j ≠ k := fun e => hHk (by rw [← e]; exact jH)
      exact ⟨j, hj, (hH' j hj).mpr (Or.inl jH), by rw [hTn a j ha hj e]; exact e1, by rw [hXn b j hb hj e]; exact e2, e3⟩
    · obtain ⟨j, hj, jH, je⟩ := hc
      rcases (hH' j hj).mp jH with z | z
      · exact absurd ⟨j, hj, z, je⟩ c
      · rw [z] at je
        refine ⟨k, hk, (hH' k hk).mpr (Or.inr rfl), (hT a ha).2 (by omega) ?_, (hX b hb).2 (by omega) ?_, je⟩
        · rintro ⟨i, hi, iH, ie⟩
          exact c ⟨i, hi, iH, (rd_mid hk hi je ie).1⟩
        · rintro ⟨i, hi, iH, ie⟩
          exact c ⟨i, hi, iH, (rd_midR hk hi je ie).1⟩
theorem rl_inv0 {W : Nat → Nat → Nat} {H : Nat → Prop} {T X : Nat → Nat → Nat} (hH : ∀ v, v < 12 → ¬ H v) (hT : ∀ a h, a < 12 → h < 12 → T a h = 1000000) (hX : ∀ a h, a < 12 → h < 12 → X a h = 1000000) : rl_inv W H T X :=
  ⟨fun a h ha hh => Or.inl (hT a h ha hh), fun a h ha hh => Or.inl (hX a h ha hh), fun a h ha hh _ => ⟨hT a h ha hh, hX a h ha hh⟩, fun a b ha hb hl hc => by
    obtain ⟨k, hk, kH, _⟩ := hc
    exact absurd kH (hH k hk)⟩
/-- all hubs are done: the labels tell the distances -/
theorem rl_fin {W : Nat → Nat → Nat} (hW : rd_ok W) {H : Nat → Prop} {T X : Nat → Nat → Nat} (h : rl_inv W H T X) (hH : ∀ v, v < 12 → H v) {s t v : Nat} (hs : s < 12) (ht : t < 12) (hv : rl_min (fun h => T s h + X t h) v) : v = rd_D W s t := by
  have q := rl_q hW h hs ht hv
  by_cases c : rd_D W s t < 1000000
  · exact q.2.1 c ⟨s, hs, hH s hs, by rw [rd_self]; omega⟩
  · have := rd_cap hW hs ht
    have := hv.1
    omega
/-- a query while a hub is being done: its own column doesn't count -/
theorem rl_minC {G G' : Nat → Nat} {k v : Nat} (hG : ∀ h, h < 12 → h ≠ k → G' h = G h) (h1 : 1000000 ≤ G k) (h2 : 1000000 ≤ G' k) (h : rl_min G' v) : rl_min G v := by
  obtain ⟨v1, v2, v3⟩ := h
  refine ⟨v1, fun j hj => ?_, ?_⟩
  · by_cases e : j = k
    · rw [e]; omega
    · rw [← hG j hj e]; exact v2 j hj
  · rcases v3 with z | ⟨j, hj, z⟩
    · exact Or.inl z
    · by_cases e : j = k
      · left
        rw [e] at z
        omega
      · exact Or.inr ⟨j, hj, by rw [z, hG j hj e]⟩
/-- the least of the ways over points where both ends meet -/
theorem rl_meet {W : Nat → Nat → Nat} (hW : rd_ok W) {F B : Nat → Nat} {s t v : Nat} (hs : s < 12) (ht : t < 12) (hF : ∀ p, p < 12 → rd_D W s p ≤ F p) (hB : ∀ p, p < 12 → rd_D W p t ≤ B p) (hv : rl_min (fun p => F p + B p) v) : rd_D W s t ≤ v := by
  rcases hv.2.2 with z | ⟨p, hp, z⟩
  · rw [z]; exact rd_cap hW hs ht
  · have a1 := hF p hp
    have a2 := hB p hp
    have a3 := rd_tri W hp s t
    dsimp only at z
    omega
/-! landmarks: what they say the distance is at least -/
def rm_t (a b : Nat) : Nat := if a < 1000000 ∧ b < 1000000 then b - a else 0
def rm_pi (M N : Nat → Nat → Nat) (p t : Nat) : Nat → Nat
  | 0 => 0
  | l + 1 => max (max (rm_pi M N p t l) (rm_t (M l p) (M l t))) (rm_t (N l t) (N l p))
theorem rm_t_self (a : Nat) : rm_t a a = 0 := by
  unfold rm_t
  split <;> omega
theorem rm_t_le (a b : Nat) : rm_t a b ≤ 1000000 := by
  unfold rm_t
  split <;> omega
theorem rm_pi_self (M N : Nat → Nat → Nat) (t l : Nat) : rm_pi M N t t l = 0 := by
  induction l with
  | zero => rfl
  | succ l ih =>
    show max (max (rm_pi M N t t l) (rm_t (M l t) (M l t))) (rm_t (N l t) (N l t)) = 0
    rw [ih, rm_t_self, rm_t_self]
    omega
theorem rm_pi_le (M N : Nat → Nat → Nat) (p t l : Nat) : rm_pi M N p t l ≤ 1000000 := by
  induction l with
  | zero => show 0 ≤ 1000000; omega
  | succ l ih =>
    show max (max (rm_pi M N p t l) (rm_t (M l p) (M l t))) (rm_t (N l t) (N l p)) ≤ 1000000
    have := rm_t_le (M l p) (M l t)
    have := rm_t_le (N l t) (N l p)
    omega
def rm_k (l : Nat) : Nat := l * 5 % 12
theorem rm_k_lt (l : Nat) : rm_k l < 12 := by unfold rm_k; omega
theorem rm_cons {W : Nat → Nat → Nat} (hW : rd_ok W) {M N : Nat → Nat → Nat} {n : Nat} (hM : ∀ l p, l < n → p < 12 → M l p = rd_D W (rm_k l) p) (hN : ∀ l p, l < n → p < 12 → N l p = rd_D W p (rm_k l)) {y u t : Nat} (hy : y < 12) (hu : u < 12) (ht : t < 12) (h1 : rd_D W y u < 1000000) (h2 : rd_D W u t < 1000000) : ∀ l, l ≤ n → rm_pi M N y t l ≤ rd_D W y u + rm_pi M N u t l := by
  intro l
  induction l with
  | zero => intro _; show 0 ≤ _; omega
  | succ l ih =>
    intro hl
    have a0 := ih (by omega)
    show max (max (rm_pi M N y t l) (rm_t (M l y) (M l t))) (rm_t (N l t) (N l y)) ≤ rd_D W y u + max (max (rm_pi M N u t l) (rm_t (M l u) (M l t))) (rm_t (N l t) (N l u))
    rw [hM l y (by omega) hy, hM l t (by omega) ht, hM l u (by omega) hu, hN l y (by omega) hy, hN l t (by omega) ht, hN l u (by omega) hu]
    have hk := rm_k_lt l
    generalize rm_k l = k at hk
    have t1 := rd_tri W hy k u
    have t2 := rd_tri W ht u k
    have t3 := rd_tri W hu y k
    have b1 := rd_bd hW hk hy
    have b2 := rd_bd hW hy hu h1
    have b3 := rd_bd hW ht hk
    have b4 := rd_bd hW hu ht h2
    generalize rd_D W k y = ky at *
    generalize rd_D W k u = ku at *
    generalize rd_D W k t = kt at *
    generalize rd_D W y k = yk at *
    generalize rd_D W u k = uk at *
    generalize rd_D W t k = tk at *
    generalize rd_D W y u = yu at *
    generalize rd_D W u t = ut at *
    have e1 : rm_t ky kt ≤ yu + rm_t ku kt := by
      unfold rm_t
      by_cases c : ky < 1000000 ∧ kt < 1000000
      · have := b1 c.1
        rw [if_pos c, if_pos ⟨by omega, c.2⟩]
        omega
      · rw [if_neg c]
        omega
    have e2 : rm_t tk yk ≤ yu + rm_t tk uk := by
      unfold rm_t
      by_cases c : tk < 1000000 ∧ yk < 1000000
      · have := b3 c.1
        rw [if_pos c, if_pos ⟨c.1, by omega⟩]
        omega
      · rw [if_neg c]
        omega
    omega
theorem rm_adm {W : Nat → Nat → Nat} (hW : rd_ok W) {M N : Nat → Nat → Nat} {n : Nat} (hM : ∀ l p, l < n → p < 12 → M l p = rd_D W (rm_k l) p) (hN : ∀ l p, l < n → p < 12 → N l p = rd_D W p (rm_k l)) {s t : Nat} (hs : s < 12) (ht : t < 12) : rm_pi M N s t n ≤ rd_D W s t := by
  by_cases c : rd_D W s t < 1000000
  · have := rm_cons hW hM hN hs ht ht c (by rw [rd_self]; omega) n (Nat.le_refl _)
    rw [rm_pi_self] at this
    omega
  · have := rm_pi_le M N s t n
    omega
/-- the search towards t -/
def rm_ai (W : Nat → Nat → Nat) (s t : Nat) (F : Nat → Nat) (S : Nat → Prop) : Prop :=
  F s = 0 ∧ (∀ v, v < 12 → rd_D W s v ≤ F v ∧ F v ≤ 1000000) ∧ (∀ x, x < 12 → S x → rd_D W x t < 1000000 → F x ≤ rd_D W s x ∧ ∀ v, v < 12 → F v ≤ rd_D W s x + W x v)
theorem rm_ai0 {W : Nat → Nat → Nat} (hW : rd_ok W) {s t : Nat} (hs : s < 12) {S : Nat → Prop} (hS : ∀ v, v < 12 → ¬ S v) : rm_ai W s t (rj_0 s) S := by
  have h := rj_snd0 (rd_self W s) (fun v hv => rd_cap hW hs hv)
  exact ⟨h.1, fun v hv => ⟨h.2 v hv, rj_0le s v⟩, fun x hx z => absurd z (hS x hx)⟩
theorem rm_open {W : Nat → Nat → Nat} (hW : rd_ok W) {s t : Nat} (hs : s < 12) (ht : t < 12) {F : Nat → Nat} {S : Nat → Prop} (h : rm_ai W s t F S) {u : Nat} (hu : u < 12) (hg : rd_D W u t < 1000000) (hl : rd_D W s u < 1000000) (hSu : ¬ S u) : ∃ y, y < 12 ∧ rd_D W y t < 1000000 ∧ ¬ S y ∧ F y ≤ rd_D W s y ∧ rd_D W s y + rd_D W y u = rd_D W s u := by
  refine rj_path hW (G := fun x => rd_D W x t < 1000000) hs h.1 (fun p u hp hu g hl e => ?_) (fun x hx sx gx => (h.2.2 x hx sx gx).2) (rd_D W s u) u hu hg (Nat.le_refl _) hl hSu
  have a1 := rd_stepB W hu p t
  have a2 := (hW p u hp hu).2.2 (by omega)
  have a3 := rd_bd hW hu ht g
  omega
theorem rm_sel {W : Nat → Nat → Nat} (hW : rd_ok W) {s t : Nat} (hs : s < 12) (ht : t < 12) {F π : Nat → Nat} {S : Nat → Prop} (h : rm_ai W s t F S) {u : Nat} (hu : u < 12) (hg : rd_D W u t < 1000000) (hSu : ¬ S u) (hm : ∀ v, v < 12 → ¬ S v → F v < 1000000 → F u + π u ≤ F v + π v) (hc : ∀ y, y < 12 → rd_D W y u < 1000000 → π y ≤ rd_D W y u + π u) : F u ≤ rd_D W s u := by
  refine Classical.byContradiction (fun c => ?_)
  have b := (h.2.1 u hu).2
  obtain ⟨y, hy, gy, sy, fy, py⟩ := rm_open hW hs ht h hu hg (by omega) hSu
  have a1 := hm y hy sy (by omega)
  have a2 := hc y hy (by omega)
  omega
theorem rm_step {W : Nat → Nat → Nat} {s t : Nat} (hs : s < 12) {F : Nat → Nat} {S S' : Nat → Prop} (h : rm_ai W s t F S) {u : Nat} (hu : u < 12) (he : rd_D W u t < 1000000 → F u ≤ rd_D W s u) (hS' : ∀ v, v < 12 → (S' v ↔ S v ∨ v = u)) : rm_ai W s t (rj_rx W F u) S' := by
  obtain ⟨h1, h2, h3⟩ := h
  have snd : ∀ v, v < 12 → rd_D W s v ≤ rj_rx W F u v ∧ rj_rx W F u v ≤ F v := by
    intro v hv
    have a1 := (h2 v hv).1
    have a2 := rd_stepF W hu s v
    have a3 := (h2 u hu).1
    unfold rj_rx
    omega
  refine ⟨?_, fun v hv => ?_, fun x hx sx g => ?_⟩
  · have := (snd s hs).2
    omega
  · have a1 := snd v hv
    have a2 := (h2 v hv).2
    omega
  · rcases (hS' x hx).mp sx with z | z
    · obtain ⟨b1, b2⟩ := h3 x hx z g
      refine ⟨?_, fun v hv => ?_⟩
      · have := snd x hx
        omega
      · have a1 := snd v hv
        have a2 := b2 v hv
        omega
    · rw [z]
      rw [z] at g
      have e := he g
      refine ⟨?_, fun v hv => ?_⟩
      · have := snd u hu
        omega
      · unfold rj_rx
        omega
/-! cells -/
def rz_0 (W : Nat → Nat → Nat) (i j : Nat) : Nat := if i = j then 0 else if i / 4 = j / 4 then W i j else 1000000
def rz_X (W : Nat → Nat → Nat) : Nat → Nat → Nat := rd_it (rz_0 W) 12
theorem rz_0_diag (W : Nat → Nat → Nat) (i : Nat) : rz_0 W i i = 0 := if_pos rfl
theorem rz_0_in (W : Nat → Nat → Nat) {i j : Nat} (h : i ≠ j) (hc : i / 4 = j / 4) : rz_0 W i j = W i j := by
  unfold rz_0
  rw [if_neg h, if_pos hc]
theorem rz_ge {W : Nat → Nat → Nat} (hW : rd_ok W) : ∀ k, k ≤ 12 → ∀ i j, i < 12 → j < 12 → rd_D W i j ≤ rd_it (rz_0 W) k i j := by
  intro k
  induction k with
  | zero =>
    intro _ i j hi hj
    show rd_D W i j ≤ rz_0 W i j
    unfold rz_0
    by_cases e : i = j
    · rw [e, rd_self]; omega
    · rw [if_neg e]
      by_cases c : i / 4 = j / 4
      · rw [if_pos c]; exact rd_leW W i j
      · rw [if_neg c]; exact rd_cap hW hi hj
  | succ k ih =>
    intro hk i j hi hj
    have a1 := ih (by omega) i j hi hj
    have a2 := ih (by omega) i k hi (by omega)
    have a3 := ih (by omega) k j (by omega) hj
    have a4 := rd_tri W (show k < 12 by omega) i j
    rw [rd_it_s]
    omega
def rz_st (W X : Nat → Nat → Nat) (b : Nat → Prop) (s t u v c : Nat) : Prop :=
  ((u / 4 ≠ v / 4 ∨ u / 4 = s / 4 ∨ u / 4 = t / 4) → c = W u v) ∧ (¬ (u / 4 ≠ v / 4 ∨ u / 4 = s / 4 ∨ u / 4 = t / 4) → (b u ∧ b v → c = X u v) ∧ (¬ (b u ∧ b v) → c = 1000000))
theorem rz_entry {W : Nat → Nat → Nat} (hW : rd_ok W) {s : Nat} (hs : s < 12) : ∀ n v, v < 12 → rd_D W s v ≤ n → rd_D W s v < 1000000 → v / 4 ≠ s / 4 → ∃ p e, p < 12 ∧ e < 12 ∧ p / 4 ≠ e / 4 ∧ e / 4 = v / 4 ∧ rd_D W s p + W p e = rd_D W s e ∧ rd_D W s e + rz_X W e v = rd_D W s v := by
  intro n
  induction n with
  | zero =>
    intro v hv hn _ hc
    have e : s ≠ v := fun e => hc (by rw [e])
    have := rd_pos hW hs hv e
    omega
  | succ n ih =>
    intro v hv hn hl hc
    have e : s ≠ v := fun e => hc (by rw [e])
    obtain ⟨q, hq, hqv, g⟩ := rd_last hs hv e hl
    have p1 := (hW q v hq hv).1
    by_cases c : q / 4 = v / 4
    · obtain ⟨p, x, hp, hx, h1, h2, h3, h4⟩ := ih q hq (by omega) (by omega) (by rw [c]; exact hc)
      refine ⟨p, x, hp, hx, h1, by rw [h2, c], h3, ?_⟩
      have t1 : rz_X W x v ≤ rz_X W x q + rz_X W q v := rd_it_tri _ (rz_0_diag W) 12 q hq x v
      have t2 : rz_X W q v ≤ rz_0 W q v := rd_it_le (rz_0 W) 12 q v
      rw [rz_0_in W hqv c] at t2
      have t3 : rd_D W x v ≤ rz_X W x v := rz_ge hW 12 (Nat.le_refl _) x v hx hv
      have t4 := rd_tri W hx s v
      omega
    · refine ⟨q, v, hq, hv, c, rfl, g, ?_⟩
      have : rz_X W v v = 0 := rd_it_diag _ (rz_0_diag W) 12 v
      omega
/-- the search over cells -/
theorem rz_main {W : Nat → Nat → Nat} (hW : rd_ok W) {s t : Nat} (hs : s < 12) {b : Nat → Prop} {st : Nat → Nat → Nat} {F : Nat → Nat} (hb : ∀ u v, u < 12 → v < 12 → W u v < 1000000 → u / 4 ≠ v / 4 → b u ∧ b v) (hst : ∀ u v, u < 12 → v < 12 → rz_st W (rz_X W) b s t u v (st u v)) (h0 : F s = 0) (hF : ∀ u v, u < 12 → v < 12 → F v ≤ F u + st u v) : ∀ n v, v < 12 → rd_D W s v ≤ n → rd_D W s v < 1000000 → (v / 4 = s / 4 ∨ v / 4 = t / 4 ∨ b v) → F v ≤ rd_D W s v := by
  intro n
  induction n with
  | zero =>
    intro v hv hn _ _
    by_cases e : s = v
    · rw [← e, h0]; omega
    · have := rd_pos hW hs hv e
      omega
  | succ n ih =>
    intro v hv hn hl hc
    by_cases e : s = v
    · rw [← e, h0]; omega
    · by_cases cc : v / 4 = s / 4 ∨ v / 4 = t / 4
      · obtain ⟨q, hq, hqv, g⟩ := rd_last hs hv e hl
        have p1 := (hW q v hq hv).1
        have f1 := hF q v hq hv
        by_cases c : q / 4 = v / 4
        · have e1 := (hst q v hq hv).1 (by rw [c]; exact Or.inr cc)
          have i1 := ih q hq (by omega) (by omega) (by
            rcases cc with z | z
            · exact Or.inl (by rw [c]; exact z)
            · exact Or.inr (Or.inl (by rw [c]; exact z)))
          omega
        · have e1 := (hst q v hq hv).1 (Or.inl c)
          have i1 := ih q hq (by omega) (by omega) (Or.inr (Or.inr (hb q v hq hv (by omega) c).1))
          omega
      · have bv : b v := by
          rcases hc with z | z | z
          · exact absurd (Or.inl z) cc
          · exact absurd (Or.inr z) cc
          · exact z
        obtain ⟨p, x, hp, hx, h1, h2, h3, h4⟩ := rz_entry hW hs (rd_D W s v) v hv (Nat.le_refl _) hl (fun z => cc (Or.inl z))
        have p1 := (hW p x hp hx).1
        have bb := hb p x hp hx (by omega) h1
        have i1 := ih p hp (by omega) (by omega) (Or.inr (Or.inr bb.1))
        have f1 := hF p x hp hx
        have e1 := (hst p x hp hx).1 (Or.inl h1)
        by_cases ev : x = v
        · rw [← ev]
          omega
        · have f2 := hF x v hx hv
          have e2 := ((hst x v hx hv).2 (by
            rintro (z | z | z)
            · exact z h2
            · exact cc (Or.inl (by rw [← h2]; exact z))
            · exact cc (Or.inr (by rw [← h2]; exact z)))).1 ⟨bb.2, bv⟩
          omega
end
section
/-! arrays and their pictures -/
def ra_1 (a : Nat → Int32) (n : Nat) (F : Nat → Nat) : Prop := ∀ j, j < n → a j = nI (F j)
def ra_2 (a : Nat → Int32) (M : Nat → Nat → Nat) : Prop := ∀ i j, i < 12 → j < 12 → a (i * 12 + j) = nI (M i j)
theorem ra_at {a : Nat → Int32} {n : Nat} {F : Nat → Nat} (h : ra_1 a n F) {x : Int32} (k : Nat) (hk : k < n) (hx : x = nI k := by rfl) (hn : k < 2 ^ 31 := by omega) : a x.toNatClampNeg = nI (F k) := by
  rw [hx, nI_clamp hn]
  exact h k hk
theorem ra_ix (i j : Nat) : nI i * 12 + nI j = nI (i * 12 + j) := by
  rw [show (12 : Int32) = nI 12 from rfl, pk_mul, nI_add]
theorem ra_at2 {a : Nat → Int32} {M : Nat → Nat → Nat} (h : ra_2 a M) {x : Int32} (i j : Nat) (hi : i < 12) (hj : j < 12) (hx : x = nI (i * 12 + j)) : a x.toNatClampNeg = nI (M i j) := by
  rw [hx, nI_clamp (by omega)]
  exact h i j hi hj
theorem ra_dv {k : Nat} (hk : k < 144) : nI k / 12 = nI (k / 12) := pk_div (d := 12) (by omega) (by omega) (by omega)
theorem ra_md {k : Nat} (hk : k < 144) : nI k - nI k / 12 * 12 = nI (k % 12) := pk_rem (d := 12) (by omega) (by omega) (by omega)
theorem ra_d4 {k : Nat} (hk : k < 2 ^ 31) : nI k / 4 = nI (k / 4) := pk_div (d := 4) hk (by omega) (by omega)
theorem ra_d3 {k : Nat} (hk : k < 2 ^ 31) : nI k / 3 = nI (k / 3) := pk_div (d := 3) hk (by omega) (by omega)
/-- places below i are done -/
def ra_mx (i : Nat) (G F : Nat → Nat) (j : Nat) : Nat := if j < i then G j else F j
theorem ra_mxl {i j : Nat} {G F : Nat → Nat} (h : j < i) : ra_mx i G F j = G j := if_pos h
theorem ra_mxg {i j : Nat} {G F : Nat → Nat} (h : i ≤ j) : ra_mx i G F j = F j := if_neg (by omega)
theorem ra_mx0 {a : Nat → Int32} {n : Nat} {G F : Nat → Nat} (h : ra_1 a n F) : ra_1 a n (ra_mx 0 G F) := by
  intro j hj
  rw [ra_mxg (Nat.zero_le j)]
  exact h j hj
theorem ra_mxS {a : Nat → Int32} {n i : Nat} {G F : Nat → Nat} {x : Int32} {k : Nat} (h : ra_1 a n (ra_mx i G F)) (hk : k = i) (hx : x = nI (G i)) : ra_1 (upd a k x) n (ra_mx (i + 1) G F) := by
  intro j hj
  rw [hk]
  by_cases e : j = i
  · rw [e, pk_us, ra_mxl (by omega), hx]
  · rw [pk_un e, h j hj]
    by_cases c : j < i
    · rw [ra_mxl c, ra_mxl (by omega)]
    · rw [ra_mxg (by omega), ra_mxg (by omega)]
theorem ra_mxE {a : Nat → Int32} {n : Nat} {G F : Nat → Nat} (h : ra_1 a n (ra_mx n G F)) : ra_1 a n G := by
  intro j hj
  rw [h j hj, ra_mxl hj]
theorem ra_ext {a : Nat → Int32} {n : Nat} {G F : Nat → Nat} (h : ra_1 a n F) (e : ∀ j, j < n → F j = G j) : ra_1 a n G := by
  intro j hj
  rw [h j hj, e j hj]
theorem ra_up {a : Nat → Int32} {n : Nat} {F F' : Nat → Nat} {k : Nat} {x : Int32} (h : ra_1 a n F) (hx : x = nI (F' k)) (hn : ∀ j, j < n → j ≠ k → F' j = F j) : ra_1 (upd a k x) n F' := by
  intro j hj
  by_cases e : j = k
  · rw [e, pk_us, hx]
  · rw [pk_un e, h j hj, hn j hj e]
theorem ra_up2 {a : Nat → Int32} {M M' : Nat → Nat → Nat} {u v k : Nat} {x : Int32} (h : ra_2 a M) (hu : u < 12) (hv : v < 12) (hk : k = u * 12 + v) (hx : x = nI (M' u v)) (hn : ∀ i j, i < 12 → j < 12 → ¬ (i = u ∧ j = v) → M' i j = M i j) : ra_2 (upd a k x) M' := by
  intro i j hi hj
  rw [hk]
  by_cases e : i * 12 + j = u * 12 + v
  · have e1 : i = u := by omega
    have e2 : j = v := by omega
    rw [e1, e2, pk_us, hx]
  · rw [pk_un e, h i j hi hj, hn i j hi hj (fun z => e (by rw [z.1, z.2]))]
theorem ra_12 {a : Nat → Int32} {M : Nat → Nat → Nat} (h : ra_2 a M) : ra_1 a 144 (fun k => M (k / 12) (k % 12)) := by
  intro j hj
  have := h (j / 12) (j % 12) (by omega) (by omega)
  rw [show j / 12 * 12 + j % 12 = j by omega] at this
  exact this
theorem ra_21 {a : Nat → Int32} {F : Nat → Nat} {M : Nat → Nat → Nat} (h : ra_1 a 144 F) (e : ∀ i j, i < 12 → j < 12 → F (i * 12 + j) = M i j) : ra_2 a M := by
  intro i j hi hj
  rw [h (i * 12 + j) (by omega), e i j hi hj]
/-- how many of the first n places hold 0 -/
def ra_c0 (a : Nat → Int32) : Nat → Nat
  | 0 => 0
  | n + 1 => ra_c0 a n + (if a n = 0 then 1 else 0)
theorem ra_c0_ge {a : Nat → Int32} {k n : Nat} (h : n ≤ k) (x : Int32) : ra_c0 (upd a k x) n = ra_c0 a n := by
  induction n with
  | zero => rfl
  | succ n ih =>
    show ra_c0 (upd a k x) n + (if upd a k x n = 0 then 1 else 0) = ra_c0 a n + (if a n = 0 then 1 else 0)
    rw [ih (by omega), pk_un (show n ≠ k by omega)]
theorem ra_c0_up {a : Nat → Int32} {k n : Nat} (h : k < n) (h0 : a k = 0) {x : Int32} (hx : ¬ x = 0) : ra_c0 (upd a k x) n + 1 = ra_c0 a n := by
  induction n with
  | zero => omega
  | succ n ih =>
    show ra_c0 (upd a k x) n + (if upd a k x n = 0 then 1 else 0) + 1 = ra_c0 a n + (if a n = 0 then 1 else 0)
    by_cases e : k = n
    · rw [e] at h0 ⊢
      rw [ra_c0_ge (Nat.le_refl n), pk_us, if_neg hx, if_pos h0]
    · have := ih (by omega)
      rw [pk_un (show n ≠ k by omega)]
      omega
theorem ra_s0 {a : Nat → Int32} {u : Nat} : ∀ v, v < 12 → (¬ upd a u 1 v = 0 ↔ ¬ a v = 0 ∨ v = u) := by
  intro v _
  by_cases e : v = u
  · rw [e, pk_us]
    exact ⟨fun _ => Or.inr rfl, fun _ => by decide⟩
  · rw [pk_un e]
    exact ⟨Or.inl, fun z => z.elim id (fun y => absurd y e)⟩
end
section
/-! leaves -/
theorem wk_no4 {post : Int32 → Prop} {fp fh : Int32} {a1 a2 a3 a4 a5 a6 a7 a8 a9 a10 a11 a12 a13 a14 a15 a16 a17 a18 a19 a20 a21 a22 : Nat → Int32} {F : Nat → Nat} (hF : ra_1 a7 12 F) (hc : ∀ v, v < 12 → F v ≤ 1000000) (H1 : (∀ v, v < 12 → a8 v = 0 → 1000000 ≤ F v) → post (-1)) (H2 : ∀ u, u < 12 → a8 u = 0 → F u < 1000000 → (∀ v, v < 12 → a8 v = 0 → F u ≤ F v) → post (nI u)) : ∃ n, wX_nearestOpen_4 post fp fh a1 a2 a3 a4 a5 a6 a7 a8 a9 a10 a11 a12 a13 a14 a15 a16 a17 a18 a19 a20 a21 a22 n (-1) 0 := by
  refine pk_loop (fun n i b => wX_nearestOpen_4 post fp fh a1 a2 a3 a4 a5 a6 a7 a8 a9 a10 a11 a12 a13 a14 a15 a16 a17 a18 a19 a20 a21 a22 n b (nI i)) (fun i b => (b = -1 ∧ ∀ v, v < i → a8 v = 0 → 1000000 ≤ F v) ∨ (∃ u, u < i ∧ b = nI u ∧ a8 u = 0 ∧ F u < 1000000 ∧ ∀ v, v < i → a8 v = 0 → F u ≤ F v)) 12 0 (-1) (by omega) (Or.inl ⟨rfl, fun v hv => absurd hv (by omega)⟩) ?_ ?_
  · intro n b h
    refine pk_le 12 12 (fun _ => ?_) (fun z => absurd z (by omega))
    rcases h with ⟨e, h⟩ | ⟨u, hu, e, h8, hl, h⟩
    · rw [e]
      exact H1 h
    · rw [e]
      exact H2 u hu h8 hl h
  · intro n i b hi h hw
    have ci := hc i hi
    refine pk_le 12 i (fun z => absurd z (by omega)) (fun _ => ⟨pk_in i 12 hi, ?_⟩)
    rw [nI_clamp (show i < 2 ^ 31 by omega)]
    refine br_c (fun h8 => ⟨pk_in i 12 hi, ?_⟩) (fun h8 => nm_r (nI_1 i) (hw b ?_))
    · refine pk_le 1000000 (F i) (fun z => nm_r (nI_1 i) (hw b ?_)) (fun z => ?_) rfl (hF i hi)
      · rcases h with ⟨e, h⟩ | ⟨u, hu, e, hu8, hl, h⟩
        · exact Or.inl ⟨e, lt_s h (fun _ => z)⟩
        · exact Or.inr ⟨u, by omega, e, hu8, hl, lt_s h (fun _ => by omega)⟩
      · rcases h with ⟨e, h⟩ | ⟨u, hu, e, hu8, hl, h⟩
        · rw [e]
          refine br_t (by decide) (nm_r (nI_1 i) (hw (nI i) (Or.inr ⟨i, by omega, rfl, h8, z, lt_s (fun v hv h0 => ?_) (fun _ => Nat.le_refl _)⟩)))
          have := h v hv h0
          omega
        · rw [e]
          have cu := hc u (by omega)
          refine br_f (nI_pos (by omega)) ⟨pk_in i 12 hi, pk_in u 12 (by omega), pk_le (F u) (F i) (fun z2 => nm_r (nI_1 i) (hw (nI u) ?_)) (fun z2 => nm_r (nI_1 i) (hw (nI i) ?_)) (ra_at hF u (by omega)) (hF i hi)⟩
          · exact Or.inr ⟨u, by omega, rfl, hu8, hl, lt_s h (fun _ => z2)⟩
          · refine Or.inr ⟨i, by omega, rfl, h8, z, lt_s (fun v hv h0 => ?_) (fun _ => Nat.le_refl _)⟩
            have := h v hv h0
            omega
    · rcases h with ⟨e, h⟩ | ⟨u, hu, e, hu8, hl, h⟩
      · exact Or.inl ⟨e, lt_s h (fun z => absurd z h8)⟩
      · exact Or.inr ⟨u, by omega, e, hu8, hl, lt_s h (fun z => absurd z h8)⟩
theorem wk_nearestOpen {post : Int32 → Prop} {fp fh : Int32} {a1 a2 a3 a4 a5 a6 a7 a8 a9 a10 a11 a12 a13 a14 a15 a16 a17 a18 a19 a20 a21 a22 : Nat → Int32} {F : Nat → Nat} (hF : ra_1 a7 12 F) (hc : ∀ v, v < 12 → F v ≤ 1000000) (H1 : (∀ v, v < 12 → a8 v = 0 → 1000000 ≤ F v) → post (-1)) (H2 : ∀ u, u < 12 → a8 u = 0 → F u < 1000000 → (∀ v, v < 12 → a8 v = 0 → F u ≤ F v) → post (nI u)) : wpX_nearestOpen post (fp, fh, a1, a2, a3, a4, a5, a6, a7, a8, a9, a10, a11, a12, a13, a14, a15, a16, a17, a18, a19, a20, a21, a22) := wk_no4 hF hc H1 H2
theorem wk_nb4 {post : Int32 → Prop} {fp fh : Int32} {a1 a2 a3 a4 a5 a6 a7 a8 a9 a10 a11 a12 a13 a14 a15 a16 a17 a18 a19 a20 a21 a22 : Nat → Int32} {F : Nat → Nat} (hF : ra_1 a9 12 F) (hc : ∀ v, v < 12 → F v ≤ 1000000) (H1 : (∀ v, v < 12 → a10 v = 0 → 1000000 ≤ F v) → post (-1)) (H2 : ∀ u, u < 12 → a10 u = 0 → F u < 1000000 → (∀ v, v < 12 → a10 v = 0 → F u ≤ F v) → post (nI u)) : ∃ n, wX_nearestOpenBack_4 post fp fh a1 a2 a3 a4 a5 a6 a7 a8 a9 a10 a11 a12 a13 a14 a15 a16 a17 a18 a19 a20 a21 a22 n (-1) 0 := by
  refine pk_loop (fun n i b => wX_nearestOpenBack_4 post fp fh a1 a2 a3 a4 a5 a6 a7 a8 a9 a10 a11 a12 a13 a14 a15 a16 a17 a18 a19 a20 a21 a22 n b (nI i)) (fun i b => (b = -1 ∧ ∀ v, v < i → a10 v = 0 → 1000000 ≤ F v) ∨ (∃ u, u < i ∧ b = nI u ∧ a10 u = 0 ∧ F u < 1000000 ∧ ∀ v, v < i → a10 v = 0 → F u ≤ F v)) 12 0 (-1) (by omega) (Or.inl ⟨rfl, fun v hv => absurd hv (by omega)⟩) ?_ ?_
  · intro n b h
    refine pk_le 12 12 (fun _ => ?_) (fun z => absurd z (by omega))
    rcases h with ⟨e, h⟩ | ⟨u, hu, e, h8, hl, h⟩
    · rw [e]
      exact H1 h
    · rw [e]
      exact H2 u hu h8 hl h
  · intro n i b hi h hw
    have ci := hc i hi
    refine pk_le 12 i (fun z => absurd z (by omega)) (fun _ => ⟨pk_in i 12 hi, ?_⟩)
    rw [nI_clamp (show i < 2 ^ 31 by omega)]
    refine br_c (fun h8 => ⟨pk_in i 12 hi, ?_⟩) (fun h8 => nm_r (nI_1 i) (hw b ?_))
    · refine pk_le 1000000 (F i) (fun z => nm_r (nI_1 i) (hw b ?_)) (fun z => ?_) rfl (hF i hi)
      · rcases h with ⟨e, h⟩ | ⟨u, hu, e, hu8, hl, h⟩
        · exact Or.inl ⟨e, lt_s h (fun _ => z)⟩
        · exact Or.inr ⟨u, by omega, e, hu8, hl, lt_s h (fun _ => by omega)⟩
      · rcases h with ⟨e, h⟩ | ⟨u, hu, e, hu8, hl, h⟩
        · rw [e]
          refine br_t (by decide) (nm_r (nI_1 i) (hw (nI i) (Or.inr ⟨i, by omega, rfl, h8, z, lt_s (fun v hv h0 => ?_) (fun _ => Nat.le_refl _)⟩)))
          have := h v hv h0
          omega
        · rw [e]
          have cu := hc u (by omega)
          refine br_f (nI_pos (by omega)) ⟨pk_in i 12 hi, pk_in u 12 (by omega), pk_le (F u) (F i) (fun z2 => nm_r (nI_1 i) (hw (nI u) ?_)) (fun z2 => nm_r (nI_1 i) (hw (nI i) ?_)) (ra_at hF u (by omega)) (hF i hi)⟩
          · exact Or.inr ⟨u, by omega, rfl, hu8, hl, lt_s h (fun _ => z2)⟩
          · refine Or.inr ⟨i, by omega, rfl, h8, z, lt_s (fun v hv h0 => ?_) (fun _ => Nat.le_refl _)⟩
            have := h v hv h0
            omega
    · rcases h with ⟨e, h⟩ | ⟨u, hu, e, hu8, hl, h⟩
      · exact Or.inl ⟨e, lt_s h (fun z => absurd z h8)⟩
      · exact Or.inr ⟨u, by omega, e, hu8, hl, lt_s h (fun z => absurd z h8)⟩
theorem wk_nearestOpenBack {post : Int32 → Prop} {fp fh : Int32} {a1 a2 a3 a4 a5 a6 a7 a8 a9 a10 a11 a12 a13 a14 a15 a16 a17 a18 a19 a20 a21 a22 : Nat → Int32} {F : Nat → Nat} (hF : ra_1 a9 12 F) (hc : ∀ v, v < 12 → F v ≤ 1000000) (H1 : (∀ v, v < 12 → a10 v = 0 → 1000000 ≤ F v) → post (-1)) (H2 : ∀ u, u < 12 → a10 u = 0 → F u < 1000000 → (∀ v, v < 12 → a10 v = 0 → F u ≤ F v) → post (nI u)) : wpX_nearestOpenBack post (fp, fh, a1, a2, a3, a4, a5, a6, a7, a8, a9, a10, a11, a12, a13, a14, a15, a16, a17, a18, a19, a20, a21, a22) := wk_nb4 hF hc H1 H2
/-- relaxing the roads out of u -/
theorem wk_settleForwards {post : St1 → Prop} {fp fh : Int32} {a1 a2 a3 a4 a5 a6 a7 a8 a9 a10 a11 a12 a13 a14 a15 a16 a17 a18 a19 a20 a21 a22 : Nat → Int32} {F : Nat → Nat} {W : Nat → Nat → Nat} {u : Nat} (hu : u < 12) (hF : ra_1 a7 12 F) (hc : ∀ v, v < 12 → F v ≤ 1000000) (hW : ra_2 a4 W) (hWc : ∀ i j, i < 12 → j < 12 → W i j ≤ 1000000) (H : ∀ b7, ra_1 b7 12 (rj_rx W F u) → post (fp, fh, a1, a2, a3, a4, a5, a6, b7, upd a8 u 1, a9, a10, a11, a12, a13, a14, a15, a16, a17, a18, a19, a20, a21, a22)) : wpX_settleForwards post (fp, fh, a1, a2, a3, a4, a5, a6, a7, a8, a9, a10, a11, a12, a13, a14, a15, a16, a17, a18, a19, a20, a21, a22) (nI u) := by
  refine ⟨pk_in u 12 hu, nm_r (by rw [nI_clamp (by omega)]) ?_⟩
  refine pk_loop (fun n i s => wX_settleForwards_9 post (nI u) fp fh n (nI i) a1 a2 a3 a4 a5 a6 s (upd a8 u 1) a9 a10 a11 a12 a13 a14 a15 a16 a17 a18 a19 a20 a21 a22) (fun i s => ra_1 s 12 (ra_mx i (rj_rx W F u) F)) 12 0 a7 (by omega) (ra_mx0 hF) ?_ ?_
  · intro n s h
    exact pk_le 12 12 (fun _ => H s (ra_mxE h)) (fun z => absurd z (by omega))
  · intro n i s hi h hw
    have ci := hc i hi
    have cu := hc u hu
    have cw := hWc u i hu hi
    have eu : ra_mx i (rj_rx W F u) F u = F u := by
      by_cases c : u < i
      · rw [ra_mxl c]; unfold rj_rx; omega
      · rw [ra_mxg (by omega)]
    refine pk_le 12 i (fun z => absurd z (by omega)) (fun _ => ⟨pk_in u 12 hu, pk_in (u * 12 + i) 144 (by omega) (ra_ix u i), nm_r (e' := nI (F u + W u i)) (by rw [ra_at h u hu, ra_at2 hW u i hu hi (ra_ix u i), eu, nI_add]) ⟨pk_in i 12 hi, ?_⟩⟩)
    refine pk_le (F i) (F u + W u i) (fun z => ⟨pk_in i 12 hi, pk_in i 12 hi, nm_e (nm_r (nI_1 i) (hw _ (ra_mxS h (nI_clamp (by omega)) ?_)))⟩) (fun z => ⟨pk_in i 12 hi, nm_e (nm_r (nI_1 i) (hw _ (ra_mxS h (nI_clamp (by omega)) ?_)))⟩) (by rw [ra_at h i hi, ra_mxg (Nat.le_refl i)])
    · rw [ra_at h i hi, ra_mxg (Nat.le_refl i)]
      unfold rj_rx
      rw [Nat.min_eq_left z]
    · unfold rj_rx
      rw [Nat.min_eq_right (by omega)]
theorem wk_settleBackwards {post : St1 → Prop} {fp fh : Int32} {a1 a2 a3 a4 a5 a6 a7 a8 a9 a10 a11 a12 a13 a14 a15 a16 a17 a18 a19 a20 a21 a22 : Nat → Int32} {F : Nat → Nat} {W : Nat → Nat → Nat} {u : Nat} (hu : u < 12) (hF : ra_1 a9 12 F) (hc : ∀ v, v < 12 → F v ≤ 1000000) (hW : ra_2 a4 W) (hWc : ∀ i j, i < 12 → j < 12 → W i j ≤ 1000000) (H : ∀ b9, ra_1 b9 12 (rj_rx (fun i j => W j i) F u) → post (fp, fh, a1, a2, a3, a4, a5, a6, a7, a8, b9, upd a10 u 1, a11, a12, a13, a14, a15, a16, a17, a18, a19, a20, a21, a22)) : wpX_settleBackwards post (fp, fh, a1, a2, a3, a4, a5, a6, a7, a8, a9, a10, a11, a12, a13, a14, a15, a16, a17, a18, a19, a20, a21, a22) (nI u) := by
  refine ⟨pk_in u 12 hu, nm_r (by rw [nI_clamp (by omega)]) ?_⟩
  refine pk_loop (fun n i s => wX_settleBackwards_9 post (nI u) fp fh n (nI i) a1 a2 a3 a4 a5 a6 a7 a8 s (upd a10 u 1) a11 a12 a13 a14 a15 a16 a17 a18 a19 a20 a21 a22) (fun i s => ra_1 s 12 (ra_mx i (rj_rx (fun i j => W j i) F u) F)) 12 0 a9 (by omega) (ra_mx0 hF) ?_ ?_
  · intro n s h
    exact pk_le 12 12 (fun _ => H s (ra_mxE h)) (fun z => absurd z (by omega))
  · intro n i s hi h hw
    have ci := hc i hi
    have cu := hc u hu
    have cw := hWc i u hi hu
    have eu : ra_mx i (rj_rx (fun i j => W j i) F u) F u = F u := by
      by_cases c : u < i
      · rw [ra_mxl c]; unfold rj_rx; omega
      · rw [ra_mxg (by omega)]
    refine pk_le 12 i (fun z => absurd z (by omega)) (fun _ => ⟨pk_in u 12 hu, pk_in (i * 12 + u) 144 (by omega) (ra_ix i u), nm_r (e' := nI (F u + W i u)) (by rw [ra_at h u hu, ra_at2 hW i u hi hu (ra_ix i u), eu, nI_add]) ⟨pk_in i 12 hi, ?_⟩⟩)
    refine pk_le (F i) (F u + W i u) (fun z => ⟨pk_in i 12 hi, pk_in i 12 hi, nm_e (nm_r (nI_1 i) (hw _ (ra_mxS h (nI_clamp (by omega)) ?_)))⟩) (fun z => ⟨pk_in i 12 hi, nm_e (nm_r (nI_1 i) (hw _ (ra_mxS h (nI_clamp (by omega)) ?_)))⟩) (by rw [ra_at h i hi, ra_mxg (Nat.le_refl i)])
    · rw [ra_at h i hi, ra_mxg (Nat.le_refl i)]
      unfold rj_rx
      rw [Nat.min_eq_left z]
    · unfold rj_rx
      dsimp only
      rw [Nat.min_eq_right (by omega)]
end
section
theorem ra_fl {f s : Nat → Int32} {i k : Nat} {x : Int32} (h : ∀ j, j < i → s j = f j) (hk : k = i) (hx : x = f i) : ∀ j, j < i + 1 → upd s k x j = f j := by
  intro j hj
  rw [hk]
  by_cases e : j = i
  · rw [e, pk_us, hx]
  · rw [pk_un e]
    exact h j (by omega)
/-! a search begins -/
theorem wk_startBoth {post : St1 → Prop} {fp fh : Int32} {a1 a2 a3 a4 a5 a6 a7 a8 a9 a10 a11 a12 a13 a14 a15 a16 a17 a18 a19 a20 a21 a22 : Nat → Int32} {s t : Nat} (hs : s < 12) (ht : t < 12) (H : ∀ b7 b8 b9 b10, ra_1 b7 12 (rj_0 s) → (∀ v, v < 12 → b8 v = 0) → ra_1 b9 12 (rj_0 t) → (∀ v, v < 12 → b10 v = 0) → post (fp, fh, a1, a2, a3, a4, a5, a6, b7, b8, b9, b10, a11, a12, a13, a14, a15, a16, a17, a18, a19, a20, a21, a22)) : wpX_startBoth post (fp, fh, a1, a2, a3, a4, a5, a6, a7, a8, a9, a10, a11, a12, a13, a14, a15, a16, a17, a18, a19, a20, a21, a22) (nI s) (nI t) := by
  refine pk_loop (σ := (Nat → Int32) × (Nat → Int32) × (Nat → Int32) × (Nat → Int32)) (fun n i q => wX_startBoth_2 post (nI s) (nI t) fp fh n (nI i) a1 a2 a3 a4 a5 a6 q.1 q.2.1 q.2.2.1 q.2.2.2 a11 a12 a13 a14 a15 a16 a17 a18 a19 a20 a21 a22) (fun i q => (∀ j, j < i → q.1 j = nI (rj_0 s j)) ∧ (∀ j, j < i → q.2.1 j = 0) ∧ (∀ j, j < i → q.2.2.1 j = nI (rj_0 t j)) ∧ (∀ j, j < i → q.2.2.2 j = 0)) 12 0 (a7, a8, a9, a10) (by omega) ⟨lt_0, lt_0, lt_0, lt_0⟩ ?_ ?_
  · intro n q h
    exact pk_le 12 12 (fun _ => H q.1 q.2.1 q.2.2.1 q.2.2.2 h.1 h.2.1 h.2.2.1 h.2.2.2) (fun z => absurd z (by omega))
  · intro n i q hi h hw
    obtain ⟨h1, h2, h3, h4⟩ := h
    refine pk_le 12 i (fun z => absurd z (by omega)) (fun _ => ?_)
    have e1 : ∀ z, z = nI (rj_0 s i) → wX_startBoth_24 post (wX_startBoth_2 post (nI s) (nI t) fp fh n) (nI s) (nI t) (nI i) z (nI i) fp fh a1 a2 a3 a4 a5 a6 q.1 q.2.1 q.2.2.1 q.2.2.2 a11 a12 a13 a14 a15 a16 a17 a18 a19 a20 a21 a22 := by
      intro z hz
      refine ⟨pk_in i 12 hi, nm_e ?_⟩
      have e2 : ∀ y, y = nI (rj_0 t i) → wX_startBoth_41 post (wX_startBoth_2 post (nI s) (nI t) fp fh n) (nI s) (nI t) (nI i) y (nI i) fp fh a1 a2 a3 a4 a5 a6 (upd q.1 (nI i).toNatClampNeg z) q.2.1 q.2.2.1 q.2.2.2 a11 a12 a13 a14 a15 a16 a17 a18 a19 a20 a21 a22 := by
        intro y hy
        refine ⟨pk_in i 12 hi, nm_e ⟨pk_in i 12 hi, nm_e ⟨pk_in i 12 hi, nm_e (nm_r (nI_1 i) ?_)⟩⟩⟩
        exact hw (_, _, _, _) ⟨ra_fl (f := fun j => nI (rj_0 s j)) h1 (nI_clamp (by omega)) hz, ra_fl (f := fun _ => 0) h2 (nI_clamp (by omega)) rfl, ra_fl (f := fun j => nI (rj_0 t j)) h3 (nI_clamp (by omega)) hy, ra_fl (f := fun _ => 0) h4 (nI_clamp (by omega)) rfl⟩
      exact pk_eq i t (fun e => e2 0 (by rw [e, rj_0s]; rfl)) (fun e => e2 1000000 (by rw [rj_0n e]; rfl))
    exact pk_eq i s (fun e => e1 0 (by rw [e, rj_0s]; rfl)) (fun e => e1 1000000 (by rw [rj_0n e]; rfl))
/-! the least over 12 points -/
theorem rl_mnS {G : Nat → Nat} {i v : Nat} (h : v ≤ 1000000 ∧ (∀ j, j < i → v ≤ G j) ∧ (v = 1000000 ∨ ∃ j, j < i ∧ v = G j)) : (v ≤ G i → v ≤ 1000000 ∧ (∀ j, j < i + 1 → v ≤ G j) ∧ (v = 1000000 ∨ ∃ j, j < i + 1 ∧ v = G j)) ∧ (G i < v → G i ≤ 1000000 ∧ (∀ j, j < i + 1 → G i ≤ G j) ∧ (G i = 1000000 ∨ ∃ j, j < i + 1 ∧ G i = G j)) := by
  obtain ⟨h1, h2, h3⟩ := h
  refine ⟨fun z => ⟨h1, lt_s h2 z, ?_⟩, fun z => ⟨by omega, lt_s (fun j hj => ?_) (Nat.le_refl _), Or.inr ⟨i, by omega, rfl⟩⟩⟩
  · rcases h3 with y | ⟨j, hj, y⟩
    · exact Or.inl y
    · exact Or.inr ⟨j, by omega, y⟩
  · have := h2 j hj
    omega
theorem wk_shortestMeeting {post : Int32 → Prop} {fp fh : Int32} {a1 a2 a3 a4 a5 a6 a7 a8 a9 a10 a11 a12 a13 a14 a15 a16 a17 a18 a19 a20 a21 a22 : Nat → Int32} {F B : Nat → Nat} (hF : ra_1 a7 12 F) (hB : ra_1 a9 12 B) (hFc : ∀ v, v < 12 → F v ≤ 1000000) (hBc : ∀ v, v < 12 → B v ≤ 1000000) (H : ∀ v, rl_min (fun p => F p + B p) v → post (nI v)) : wpX_shortestMeeting post (fp, fh, a1, a2, a3, a4, a5, a6, a7, a8, a9, a10, a11, a12, a13, a14, a15, a16, a17, a18, a19, a20, a21, a22) := by
  refine pk_loop (fun n i b => wX_shortestMeeting_5 post fp fh a1 a2 a3 a4 a5 a6 a7 a8 a9 a10 a11 a12 a13 a14 a15 a16 a17 a18 a19 a20 a21 a22 n b (nI i)) (fun i b => ∃ v, b = nI v ∧ v ≤ 1000000 ∧ (∀ j, j < i → v ≤ F j + B j) ∧ (v = 1000000 ∨ ∃ j, j < i ∧ v = F j + B j)) 12 0 1000000 (by omega) ⟨1000000, rfl, by omega, lt_0, Or.inl rfl⟩ ?_ ?_
  · rintro n b ⟨v, e, h⟩
    rw [e]
    exact pk_le 12 12 (fun _ => H v h) (fun z => absurd z (by omega))
  · rintro n i b hi ⟨v, e, h⟩ hw
    rw [e]
    have f1 := hFc i hi
    have f2 := hBc i hi
    have f3 := h.1
    have st := rl_mnS (G := fun p => F p + B p) h
    refine pk_le 12 i (fun z => absurd z (by omega)) (fun _ => ⟨pk_in i 12 hi, pk_in i 12 hi, nm_r (e' := nI (F i + B i)) (by rw [ra_at hF i hi, ra_at hB i hi, nI_add]) ?_⟩)
    exact pk_le v (F i + B i) (fun z => nm_r (nI_1 i) (hw _ ⟨v, rfl, st.1 z⟩)) (fun z => nm_r (nI_1 i) (hw _ ⟨F i + B i, rfl, st.2 z⟩))
theorem wk_distanceByLabels {post : Int32 → Prop} {fp fh : Int32} {a1 a2 a3 a4 a5 a6 a7 a8 a9 a10 a11 a12 a13 a14 a15 a16 a17 a18 a19 a20 a21 a22 : Nat → Int32} {T X : Nat → Nat → Nat} {s t : Nat} (hs : s < 12) (ht : t < 12) (hT : ra_2 a15 T) (hX : ra_2 a16 X) (hTc : ∀ i j, i < 12 → j < 12 → T i j ≤ 1000000) (hXc : ∀ i j, i < 12 → j < 12 → X i j ≤ 1000000) (H : ∀ v, rl_min (fun h => T s h + X t h) v → post (nI v)) : wpX_distanceByLabels post (fp, fh, a1, a2, a3, a4, a5, a6, a7, a8, a9, a10, a11, a12, a13, a14, a15, a16, a17, a18, a19, a20, a21, a22) (nI s) (nI t) := by
  refine pk_loop (fun n i b => wX_distanceByLabels_6 post (nI s) (nI t) fp fh a1 a2 a3 a4 a5 a6 a7 a8 a9 a10 a11 a12 a13 a14 a15 a16 a17 a18 a19 a20 a21 a22 n b (nI i)) (fun i b => ∃ v, b = nI v ∧ v ≤ 1000000 ∧ (∀ j, j < i → v ≤ T s j + X t j) ∧ (v = 1000000 ∨ ∃ j, j < i ∧ v = T s j + X t j)) 12 0 1000000 (by omega) ⟨1000000, rfl, by omega, lt_0, Or.inl rfl⟩ ?_ ?_
  · rintro n b ⟨v, e, h⟩
    rw [e]
    exact pk_le 12 12 (fun _ => H v h) (fun z => absurd z (by omega))
  · rintro n i b hi ⟨v, e, h⟩ hw
    rw [e]
    have f1 := hTc s i hs hi
    have f2 := hXc t i ht hi
    have f3 := h.1
    have st := rl_mnS (G := fun p => T s p + X t p) h
    refine pk_le 12 i (fun z => absurd z (by omega)) (fun _ => ⟨pk_in (s * 12 + i) 144 (by omega) (ra_ix s i), pk_in (t * 12 + i) 144 (by omega) (ra_ix t i), nm_r (e' := nI (T s i + X t i)) (by rw [ra_at2 hT s i hs hi (ra_ix s i), ra_at2 hX t i ht hi (ra_ix t i), nI_add]) ?_⟩)
    exact pk_le v (T s i + X t i) (fun z => nm_r (nI_1 i) (hw _ ⟨v, rfl, st.1 z⟩)) (fun z => nm_r (nI_1 i) (hw _ ⟨T s i + X t i, rfl, st.2 z⟩))
/-! roads: P the bits of those that are there, f from, t to, l how long (0 where there is none) -/
def rn_h (P : Int32) (k : Nat) : Bool := decide (¬ ((P >>> (nI k &&& 31)) &&& 1) = 0)
def rn_ok (P : Int32) (a1 a2 a3 : Nat → Int32) (f t l : Nat → Nat) : Prop :=
  (∀ k, k < 28 → (∃ x, x < 12 ∧ a1 k = nI x) ∧ (∃ x, x < 12 ∧ a2 k = nI x)) ∧
  (∀ k, k < 28 → rn_h P k = true → a1 k = nI (f k) ∧ a2 k = nI (t k) ∧ a3 k = nI (l k) ∧ f k < 12 ∧ t k < 12 ∧ f k ≠ t k ∧ 1 ≤ l k ∧ l k ≤ 30) ∧
  (∀ k, (28 ≤ k ∨ rn_h P k = false) → f k = 0 ∧ t k = 0 ∧ l k = 0)
def rn_W (P : Int32) (f t l : Nat → Nat) : Nat → Nat → Nat → Nat
  | 0 => fun _ _ => 1000000
  | k + 1 => fun u v => if rn_h P k = true ∧ f k = u ∧ t k = v ∧ l k < rn_W P f t l k u v then l k else rn_W P f t l k u v
theorem rn_Ws (P : Int32) (f t l : Nat → Nat) (k u v : Nat) : rn_W P f t l (k + 1) u v = if rn_h P k = true ∧ f k = u ∧ t k = v ∧ l k < rn_W P f t l k u v then l k else rn_W P f t l k u v := rfl
theorem rn_W1 {P : Int32} {f t l : Nat → Nat} {k : Nat} (hh : rn_h P k = true) : ∀ n, k < n → rn_W P f t l n (f k) (t k) ≤ l k := by
  intro n
  induction n with
  | zero => intro h; omega
  | succ n ih =>
    intro h
    rw [rn_Ws]
    by_cases e : k = n
    · rw [← e]
      by_cases c : l k < rn_W P f t l k (f k) (t k)
      · rw [if_pos ⟨hh, rfl, rfl, c⟩]
        exact Nat.le_refl _
      · rw [if_neg (fun z => c z.2.2.2)]
        omega
    · have := ih (by omega)
      split
      · rename_i z
        have := z.2.2.2
        omega
      · omega
theorem rn_W2 (P : Int32) (f t l : Nat → Nat) (u v : Nat) : ∀ n, rn_W P f t l n u v = 1000000 ∨ ∃ k, k < n ∧ rn_h P k = true ∧ f k = u ∧ t k = v ∧ rn_W P f t l n u v = l k := by
  intro n
  induction n with
  | zero => exact Or.inl rfl
  | succ n ih =>
    rw [rn_Ws]
    by_cases c : rn_h P n = true ∧ f n = u ∧ t n = v ∧ l n < rn_W P f t l n u v
    · rw [if_pos c]
      exact Or.inr ⟨n, by omega, c.1, c.2.1, c.2.2.1, rfl⟩
    · rw [if_neg c]
      rcases ih with z | ⟨k, hk, z⟩
      · exact Or.inl z
      · exact Or.inr ⟨k, by omega, z⟩
theorem rn_wok {P : Int32} {a1 a2 a3 : Nat → Int32} {f t l : Nat → Nat} (h : rn_ok P a1 a2 a3 f t l) : ∀ n, n ≤ 28 → rd_ok (rn_W P f t l n) := by
  intro n hn i j hi hj
  rcases rn_W2 P f t l i j n with z | ⟨k, hk, hh, _, _, z⟩
  · rw [z]; omega
  · have := h.2.1 k (by omega) hh
    rw [z]
    omega
theorem wk_has {post : Int32 → Prop} {fp fh : Int32} {a1 a2 a3 a4 a5 a6 a7 a8 a9 a10 a11 a12 a13 a14 a15 a16 a17 a18 a19 a20 a21 a22 : Nat → Int32} {k : Nat} (hk : k < 28) (H1 : rn_h fp k = true → post 1) (H0 : rn_h fp k = false → post 0) : wpX_has post (fp, fh, a1, a2, a3, a4, a5, a6, a7, a8, a9, a10, a11, a12, a13, a14, a15, a16, a17, a18, a19, a20, a21, a22) (nI k) := by
  refine br_f (nI_pos (by omega)) (pk_le 28 k (fun z => absurd z (by omega)) (fun _ => br_c (fun z => H0 ?_) (fun z => H1 ?_)))
  · unfold rn_h
    rw [decide_eq_false_iff_not]
    exact fun y => y z
  · unfold rn_h
    rw [decide_eq_true_eq]
    exact z
theorem wk_layRoads {post : St1 → Prop} {fp fh : Int32} {a1 a2 a3 a4 a5 a6 a7 a8 a9 a10 a11 a12 a13 a14 a15 a16 a17 a18 a19 a20 a21 a22 : Nat → Int32} {f t l : Nat → Nat} (hN : rn_ok fp a1 a2 a3 f t l) (H : ∀ b4, ra_2 b4 (rn_W fp f t l 28) → post (fp, fh, a1, a2, a3, b4, a5, a6, a7, a8, a9, a10, a11, a12, a13, a14, a15, a16, a17, a18, a19, a20, a21, a22)) : wpX_layRoads post (fp, fh, a1, a2, a3, a4, a5, a6, a7, a8, a9, a10, a11, a12, a13, a14, a15, a16, a17, a18, a19, a20, a21, a22) := by
  refine pk_loop (fun n i s => wX_layRoads_2 post fp fh n (nI i) a1 a2 a3 s a5 a6 a7 a8 a9 a10 a11 a12 a13 a14 a15 a16 a17 a18 a19 a20 a21 a22) (fun i s => ∀ j, j < i → s j = nI 1000000) 144 0 a4 (by omega) lt_0 ?_ ?_
  · intro n s h
    refine pk_le 144 144 (fun _ => ?_) (fun z => absurd z (by omega))
    refine pk_loop (fun n i s => wX_layRoads_25 post fp fh n (nI i) a1 a2 a3 s a5 a6 a7 a8 a9 a10 a11 a12 a13 a14 a15 a16 a17 a18 a19 a20 a21 a22) (fun i s => ra_2 s (rn_W fp f t l i)) 28 0 s (by omega) (fun i j hi hj => h (i * 12 + j) (by omega)) ?_ ?_
    · intro n s h
      exact pk_le 28 28 (fun _ => H s h) (fun z => absurd z (by omega))
    · intro n k s hk h hw
      obtain ⟨⟨x, hx, ex⟩, ⟨y, hy, ey⟩⟩ := hN.1 k hk
      refine pk_le 28 k (fun z => absurd z (by omega)) (fun _ => ⟨pk_in k 28 hk, pk_in k 28 hk, nm_r (e' := nI (x * 12 + y)) (by rw [nI_clamp (by omega), ex, ey, ra_ix]) ?_⟩)
      have rx := ra_at2 h x y hx hy rfl
      have cap := ((rn_wok hN k (by omega)) x y hx hy).2.1
      refine wk_has hk (fun hh => ?_) (fun hh => ?_)
      · have g := hN.2.1 k hk hh
        refine br_f (by decide) ⟨pk_in k 28 hk, pk_in (x * 12 + y) 144 (by omega), ?_⟩
        have fx : f k = x := by
          have := g.1
          rw [ex] at this
          exact ((nI_eq (by omega) (by omega)).mp this).symm
        have ty : t k = y := by
          have := g.2.1
          rw [ey] at this
          exact ((nI_eq (by omega) (by omega)).mp this).symm
        have rl : a3 (nI k).toNatClampNeg = nI (l k) := by rw [nI_clamp (by omega)]; exact g.2.2.1
        refine pk_le (rn_W fp f t l k x y) (l k) (fun z => ⟨pk_in (x * 12 + y) 144 (by omega), pk_in (x * 12 + y) 144 (by omega), nm_e (nm_r (nI_1 k) (hw _ ?_))⟩) (fun z => ⟨pk_in k 28 hk, pk_in (x * 12 + y) 144 (by omega), nm_e (nm_r (nI_1 k) (hw _ ?_))⟩) rx rl
        · refine ra_up2 h hx hy (nI_clamp (by omega)) ?_ (fun i j hi hj ne => ?_)
          · rw [rx, rn_Ws, if_neg (fun w => by have := w.2.2.2; omega)]
          · rw [rn_Ws, if_neg (fun w => ne ⟨by rw [← fx, w.2.1], by rw [← ty, w.2.2.1]⟩)]
        · refine ra_up2 h hx hy (nI_clamp (by omega)) ?_ (fun i j hi hj ne => ?_)
          · rw [rl, rn_Ws, if_pos ⟨hh, fx, ty, z⟩]
          · rw [rn_Ws, if_neg (fun w => ne ⟨by rw [← fx, w.2.1], by rw [← ty, w.2.2.1]⟩)]
      · refine br_t rfl ⟨pk_in (x * 12 + y) 144 (by omega), pk_in (x * 12 + y) 144 (by omega), nm_e (nm_r (nI_1 k) (hw _ ?_))⟩
        refine ra_up2 h hx hy (nI_clamp (by omega)) ?_ (fun i j hi hj ne => ?_)
        · rw [rx, rn_Ws, if_neg (fun w => by rw [hh] at w; exact absurd w.1 (by decide))]
        · rw [rn_Ws, if_neg (fun w => by rw [hh] at w; exact absurd w.1 (by decide))]
  · intro n i s hi h hw
    exact pk_le 144 i (fun z => absurd z (by omega)) (fun _ => ⟨pk_in i 144 hi, nm_e (nm_r (nI_1 i) (hw _ (ra_fl (f := fun _ => nI 1000000) h (nI_clamp (by omega)) rfl)))⟩)
end
section
/-! cells are laid -/
theorem rz_0_le {W : Nat → Nat → Nat} (hW : rd_ok W) {i j : Nat} (hi : i < 12) (hj : j < 12) : rz_0 W i j ≤ 1000000 := by
  unfold rz_0
  have := (hW i j hi hj).2.1
  split
  · omega
  · split <;> omega
theorem rz_it_col (d : Nat → Nat → Nat) (hd : ∀ i, d i i = 0) (m a : Nat) : rd_it d (m + 1) a m = rd_it d m a m := by
  have := rd_it_diag d hd m m
  rw [rd_it_s]
  omega
theorem rz_it_row (d : Nat → Nat → Nat) (hd : ∀ i, d i i = 0) (m a : Nat) : rd_it d (m + 1) m a = rd_it d m m a := by
  have := rd_it_diag d hd m m
  rw [rd_it_s]
  omega
theorem wk_lc184 {post : St1 → Prop} {J : Int32 → (Nat → Int32) → (Nat → Int32) → (Nat → Int32) → (Nat → Int32) → (Nat → Int32) → (Nat → Int32) → (Nat → Int32) → (Nat → Int32) → (Nat → Int32) → (Nat → Int32) → (Nat → Int32) → (Nat → Int32) → (Nat → Int32) → (Nat → Int32) → (Nat → Int32) → (Nat → Int32) → (Nat → Int32) → (Nat → Int32) → (Nat → Int32) → (Nat → Int32) → (Nat → Int32) → (Nat → Int32) → Prop} {fp fh : Int32} {a1 a2 a3 a4 a5 a6 a7 a8 a9 a10 a11 a12 a13 a14 a15 a16 a17 a18 a19 a20 a21 a22 : Nat → Int32} {d : Nat → Nat → Nat} (hd : ∀ i, d i i = 0) (hdc : ∀ i j, i < 12 → j < 12 → d i j ≤ 1000000) {m : Nat} (hm : m < 12) (h22 : ra_2 a22 (rd_it d m)) (H : ∀ b22, ra_2 b22 (rd_it d (m + 1)) → J (nI (m + 1)) a1 a2 a3 a4 a5 a6 a7 a8 a9 a10 a11 a12 a13 a14 a15 a16 a17 a18 a19 a20 a21 b22) : ∃ n, wX_layCells_184 post J (nI m) fp fh n 0 a1 a2 a3 a4 a5 a6 a7 a8 a9 a10 a11 a12 a13 a14 a15 a16 a17 a18 a19 a20 a21 a22 := by
  refine pk_loop (fun n i s => wX_layCells_184 post J (nI m) fp fh n (nI i) a1 a2 a3 a4 a5 a6 a7 a8 a9 a10 a11 a12 a13 a14 a15 a16 a17 a18 a19 a20 a21 s) (fun i s => ra_1 s 144 (ra_mx i (fun k => rd_it d (m + 1) (k / 12) (k % 12)) (fun k => rd_it d m (k / 12) (k % 12)))) 144 0 a22 (by omega) (ra_mx0 (ra_12 h22)) ?_ ?_
  · intro n s h
    refine pk_le 144 144 (fun _ => nm_r (nI_1 m) (H s (ra_21 (ra_mxE h) (fun i j hi hj => ?_)))) (fun z => absurd z (by omega))
    rw [show (i * 12 + j) / 12 = i by omega, show (i * 12 + j) % 12 = j by omega]
  · intro n i s hi h hw
    have le1 : ∀ a b, a < 12 → b < 12 → rd_it d m a b ≤ 1000000 := fun a b ha hb => Nat.le_trans (rd_it_le d m a b) (hdc a b ha hb)
    have c1 := le1 (i / 12) m (by omega) hm
    have c2 := le1 m (i % 12) hm (by omega)
    have c3 := le1 (i / 12) (i % 12) (by omega) (by omega)
    have ix1 : nI i / 12 * 12 + nI m = nI (i / 12 * 12 + m) := by rw [ra_dv hi, ra_ix]
    have ix2 : nI m * 12 + (nI i - nI i / 12 * 12) = nI (m * 12 + i % 12) := by rw [ra_md hi, ra_ix]
    have r1 : s (nI i / 12 * 12 + nI m).toNatClampNeg = nI (rd_it d m (i / 12) m) := by
      rw [ra_at h (i / 12 * 12 + m) (by omega) ix1]
      by_cases c : i / 12 * 12 + m < i
      · rw [ra_mxl c]
        rw [show (i / 12 * 12 + m) / 12 = i / 12 by omega, show (i / 12 * 12 + m) % 12 = m by omega, rz_it_col d hd]
      · rw [ra_mxg (by omega)]
        rw [show (i / 12 * 12 + m) / 12 = i / 12 by omega, show (i / 12 * 12 + m) % 12 = m by omega]
    have r2 : s (nI m * 12 + (nI i - nI i / 12 * 12)).toNatClampNeg = nI (rd_it d m m (i % 12)) := by
      rw [ra_at h (m * 12 + i % 12) (by omega) ix2]
      by_cases c : m * 12 + i % 12 < i
      · rw [ra_mxl c]
        rw [show (m * 12 + i % 12) / 12 = m by omega, show (m * 12 + i % 12) % 12 = i % 12 by omega, rz_it_row d hd]
      · rw [ra_mxg (by omega)]
        rw [show (m * 12 + i % 12) / 12 = m by omega, show (m * 12 + i % 12) % 12 = i % 12 by omega]
    have r3 : s (nI i).toNatClampNeg = nI (rd_it d m (i / 12) (i % 12)) := by rw [ra_at h i hi, ra_mxg (Nat.le_refl i)]
    refine pk_le 144 i (fun z => absurd z (by omega)) (fun _ => ⟨by decide, pk_in (i / 12 * 12 + m) 144 (by omega) ix1, by decide, pk_in (m * 12 + i % 12) 144 (by omega) ix2, nm_r (e' := nI (rd_it d m (i / 12) m + rd_it d m m (i % 12))) (by rw [r1, r2, nI_add]) ⟨pk_in i 144 hi, ?_⟩⟩)
    refine pk_le (rd_it d m (i / 12) (i % 12)) (rd_it d m (i / 12) m + rd_it d m m (i % 12)) (fun z => ⟨pk_in i 144 hi, pk_in i 144 hi, nm_e (nm_r (nI_1 i) (hw _ (ra_mxS h (nI_clamp (by omega)) ?_)))⟩) (fun z => ⟨pk_in i 144 hi, nm_e (nm_r (nI_1 i) (hw _ (ra_mxS h (nI_clamp (by omega)) ?_)))⟩) r3
    · rw [r3, rd_it_s, Nat.min_eq_left z]
    · rw [rd_it_s, Nat.min_eq_right (by omega)]
theorem wk_lc176 {post : St1 → Prop} {fp fh : Int32} {a1 a2 a3 a4 a5 a6 a7 a8 a9 a10 a11 a12 a13 a14 a15 a16 a17 a18 a19 a20 a21 a22 : Nat → Int32} {d : Nat → Nat → Nat} (hd : ∀ i, d i i = 0) (hdc : ∀ i j, i < 12 → j < 12 → d i j ≤ 1000000) (h22 : ra_2 a22 d) (H : ∀ b22, ra_2 b22 (rd_it d 12) → post (fp, fh, a1, a2, a3, a4, a5, a6, a7, a8, a9, a10, a11, a12, a13, a14, a15, a16, a17, a18, a19, a20, a21, b22)) : ∃ n, wX_layCells_176 post fp fh n 0 a1 a2 a3 a4 a5 a6 a7 a8 a9 a10 a11 a12 a13 a14 a15 a16 a17 a18 a19 a20 a21 a22 := by
  refine pk_loop (fun n i s => wX_layCells_176 post fp fh n (nI i) a1 a2 a3 a4 a5 a6 a7 a8 a9 a10 a11 a12 a13 a14 a15 a16 a17 a18 a19 a20 a21 s) (fun i s => ra_2 s (rd_it d i)) 12 0 a22 (by omega) h22 ?_ ?_
  · intro n s h
    exact pk_le 12 12 (fun _ => H s h) (fun z => absurd z (by omega))
  · intro n i s hi h hw
    exact pk_le 12 i (fun z => absurd z (by omega)) (fun _ => wk_lc184 hd hdc hi h (fun b22 hb => hw b22 hb))
theorem wk_lc90 {post : St1 → Prop} {fp fh : Int32} {a1 a2 a3 a4 a5 a6 a7 a8 a9 a10 a11 a12 a13 a14 a15 a16 a17 a18 a19 a20 a21 a22 : Nat → Int32} {W : Nat → Nat → Nat} (hW : rd_ok W) (h4 : ra_2 a4 W) (H : ∀ b22, ra_2 b22 (rz_X W) → post (fp, fh, a1, a2, a3, a4, a5, a6, a7, a8, a9, a10, a11, a12, a13, a14, a15, a16, a17, a18, a19, a20, a21, b22)) : ∃ n, wX_layCells_90 post fp fh n 0 a1 a2 a3 a4 a5 a6 a7 a8 a9 a10 a11 a12 a13 a14 a15 a16 a17 a18 a19 a20 a21 a22 := by
  refine pk_loop (fun n i s => wX_layCells_90 post fp fh n (nI i) a1 a2 a3 a4 a5 a6 a7 a8 a9 a10 a11 a12 a13 a14 a15 a16 a17 a18 a19 a20 a21 s) (fun i s => ∀ j, j < i → s j = nI (rz_0 W (j / 12) (j % 12))) 144 0 a22 (by omega) lt_0 ?_ ?_
  · intro n s h
    refine pk_le 144 144 (fun _ => wk_lc176 (d := rz_0 W) (rz_0_diag W) (fun i j hi hj => rz_0_le hW hi hj) (fun i j hi hj => ?_) H) (fun z => absurd z (by omega))
    rw [h (i * 12 + j) (by omega), show (i * 12 + j) / 12 = i by omega, show (i * 12 + j) % 12 = j by omega]
  · intro n i s hi h hw
    have e140 : ∀ z, (i / 12 ≠ i % 12 → z = nI (rz_0 W (i / 12) (i % 12))) → wX_layCells_140 post (wX_layCells_90 post fp fh n) (nI i) z (nI i) fp fh a1 a2 a3 a4 a5 a6 a7 a8 a9 a10 a11 a12 a13 a14 a15 a16 a17 a18 a19 a20 a21 s := by
      intro z hz
      refine ⟨pk_in i 144 hi, nm_e ⟨by decide, by decide, ?_⟩⟩
      refine pk_eq (i / 12) (i % 12) (fun e => ⟨pk_in i 144 hi, nm_e (nm_r (nI_1 i) (hw _ ?_))⟩) (fun e => ⟨pk_in i 144 hi, pk_in i 144 hi, nm_e (nm_r (nI_1 i) (hw _ ?_))⟩) (ra_dv hi) (ra_md hi)
      · intro j hj
        rw [nI_clamp (show i < 2 ^ 31 by omega)]
        by_cases c : j = i
        · rw [c, pk_us, e, rz_0_diag]
          rfl
        · rw [pk_un c, pk_un c]
          exact h j (by omega)
      · intro j hj
        rw [nI_clamp (show i < 2 ^ 31 by omega)]
        by_cases c : j = i
        · rw [c, pk_us, pk_us, hz e]
        · rw [pk_un c, pk_un c]
          exact h j (by omega)
    refine pk_le 144 i (fun z => absurd z (by omega)) (fun _ => ⟨by decide, by decide, by decide, by decide, ?_⟩)
    refine pk_eq (i / 12 / 4) (i % 12 / 4) (fun e => ?_) (fun e => ?_) (by rw [ra_dv hi]; exact ra_d4 (by omega)) (by rw [ra_md hi]; exact ra_d4 (by omega))
    · refine br_f (by decide) ⟨pk_in i 144 hi, e140 _ (fun ne => ?_)⟩
      rw [ra_at (ra_12 h4) i hi]
      rw [rz_0_in W ne e]
    · refine br_t rfl (e140 _ (fun ne => ?_))
      unfold rz_0
      rw [if_neg ne, if_neg e]
      rfl
theorem wk_layCells {post : St1 → Prop} {fp fh : Int32} {a1 a2 a3 a4 a5 a6 a7 a8 a9 a10 a11 a12 a13 a14 a15 a16 a17 a18 a19 a20 a21 a22 : Nat → Int32} {f t l : Nat → Nat} (hN : rn_ok fp a1 a2 a3 f t l) (h4 : ra_2 a4 (rn_W fp f t l 28)) (H : ∀ b21 b22, (∀ u v, u < 12 → v < 12 → rn_W fp f t l 28 u v < 1000000 → u / 4 ≠ v / 4 → ¬ b21 u = 0 ∧ ¬ b21 v = 0) → ra_2 b22 (rz_X (rn_W fp f t l 28)) → post (fp, fh, a1, a2, a3, a4, a5, a6, a7, a8, a9, a10, a11, a12, a13, a14, a15, a16, a17, a18, a19, a20, b21, b22)) : wpX_layCells post (fp, fh, a1, a2, a3, a4, a5, a6, a7, a8, a9, a10, a11, a12, a13, a14, a15, a16, a17, a18, a19, a20, a21, a22) := by
  refine pk_loop (fun n i s => wX_layCells_2 post fp fh n (nI i) a1 a2 a3 a4 a5 a6 a7 a8 a9 a10 a11 a12 a13 a14 a15 a16 a17 a18 a19 a20 s a22) (fun i s => True) 12 0 a21 (by omega) trivial ?_ ?_
  · intro n s _
    refine pk_le 12 12 (fun _ => ?_) (fun z => absurd z (by omega))
    refine pk_loop (fun n i s => wX_layCells_23 post fp fh n (nI i) a1 a2 a3 a4 a5 a6 a7 a8 a9 a10 a11 a12 a13 a14 a15 a16 a17 a18 a19 a20 s a22) (fun i s => ∀ k, k < i → rn_h fp k = true → f k / 4 ≠ t k / 4 → ¬ s (f k) = 0 ∧ ¬ s (t k) = 0) 28 0 s (by omega) lt_0 ?_ ?_
    · intro n s h
      refine pk_le 28 28 (fun _ => wk_lc90 (rn_wok hN 28 (by omega)) h4 (fun b22 hb => H s b22 (fun u v hu hv hl hc => ?_) hb)) (fun z => absurd z (by omega))
      rcases rn_W2 fp f t l u v 28 with z | ⟨k, hk, hh, e1, e2, z⟩
      · omega
      · rw [← e1, ← e2]
        exact h k hk hh (by rw [e1, e2]; exact hc)
    · intro n k s hk h hw
      refine pk_le 28 k (fun z => absurd z (by omega)) (fun _ => wk_has hk (fun hh => ?_) (fun hh => ?_))
      · have g := hN.2.1 k hk hh
        have c1 : a1 (nI k).toNatClampNeg = nI (f k) := by rw [nI_clamp (by omega)]; exact g.1
        have c2 : a2 (nI k).toNatClampNeg = nI (t k) := by rw [nI_clamp (by omega)]; exact g.2.1
        refine br_f (by decide) ⟨pk_in k 28 hk, by decide, pk_in k 28 hk, by decide, ?_⟩
        rw [c1, c2]
        refine pk_eq (f k / 4) (t k / 4) (fun e => nm_r (nI_1 k) (hw _ (lt_s h (fun _ ne => absurd e ne)))) (fun e => ⟨pk_in k 28 hk, pk_in (f k) 12 g.2.2.2.1, nm_e ⟨pk_in k 28 hk, pk_in (t k) 12 g.2.2.2.2.1, nm_e (nm_r (nI_1 k) (hw _ ?_))⟩⟩) (ra_d4 (by omega)) (ra_d4 (by omega))
        rw [nI_clamp (show f k < 2 ^ 31 by omega), nI_clamp (show t k < 2 ^ 31 by omega)]
        have up : ∀ v, ¬ s v = 0 ∨ v = f k ∨ v = t k → ¬ upd (upd s (f k) 1) (t k) 1 v = 0 := by
          intro v hv
          by_cases e1 : v = t k
          · rw [e1, pk_us]; decide
          · rw [pk_un e1]
            by_cases e2 : v = f k
            · rw [e2, pk_us]; decide
            · rw [pk_un e2]
              rcases hv with z | z | z
              · exact z
              · exact absurd z e2
              · exact absurd z e1
        refine lt_s (fun j hj hhj ne => ?_) (fun _ _ => ⟨up _ (Or.inr (Or.inl rfl)), up _ (Or.inr (Or.inr rfl))⟩)
        have := h j hj hhj ne
        exact ⟨up _ (Or.inl this.1), up _ (Or.inl this.2)⟩
      · refine br_t rfl (nm_r (nI_1 k) (hw _ (lt_s h (fun z => ?_))))
        rw [hh] at z
        exact absurd z (by decide)
  · intro n i s hi h hw
    exact pk_le 12 i (fun z => absurd z (by omega)) (fun _ => ⟨pk_in i 12 hi, nm_e (nm_r (nI_1 i) (hw _ trivial))⟩)
end
section
/-! what a search of the nearest unsettled point says -/
def rq_x (x : Int32) (F : Nat → Nat) (b : Nat → Int32) : Prop := (x = -1 ∧ ∀ v, v < 12 → b v = 0 → 1000000 ≤ F v) ∨ (∃ u, u < 12 ∧ x = nI u ∧ b u = 0 ∧ F u < 1000000 ∧ ∀ v, v < 12 → b v = 0 → F u ≤ F v)
theorem wk_open {post : Int32 → Prop} {fp fh : Int32} {a1 a2 a3 a4 a5 a6 a7 a8 a9 a10 a11 a12 a13 a14 a15 a16 a17 a18 a19 a20 a21 a22 : Nat → Int32} {F : Nat → Nat} (hF : ra_1 a7 12 F) (hc : ∀ v, v < 12 → F v ≤ 1000000) (H : ∀ x, rq_x x F a8 → post x) : wpX_nearestOpen post (fp, fh, a1, a2, a3, a4, a5, a6, a7, a8, a9, a10, a11, a12, a13, a14, a15, a16, a17, a18, a19, a20, a21, a22) :=
  wk_nearestOpen hF hc (fun h => H _ (Or.inl ⟨rfl, h⟩)) (fun u hu h8 hl hm => H _ (Or.inr ⟨u, hu, rfl, h8, hl, hm⟩))
theorem wk_openB {post : Int32 → Prop} {fp fh : Int32} {a1 a2 a3 a4 a5 a6 a7 a8 a9 a10 a11 a12 a13 a14 a15 a16 a17 a18 a19 a20 a21 a22 : Nat → Int32} {F : Nat → Nat} (hF : ra_1 a9 12 F) (hc : ∀ v, v < 12 → F v ≤ 1000000) (H : ∀ x, rq_x x F a10 → post x) : wpX_nearestOpenBack post (fp, fh, a1, a2, a3, a4, a5, a6, a7, a8, a9, a10, a11, a12, a13, a14, a15, a16, a17, a18, a19, a20, a21, a22) :=
  wk_nearestOpenBack hF hc (fun h => H _ (Or.inl ⟨rfl, h⟩)) (fun u hu h8 hl hm => H _ (Or.inr ⟨u, hu, rfl, h8, hl, hm⟩))
theorem rq_no {F : Nat → Nat} {b : Nat → Int32} (h : ∀ v, v < 12 → b v = 0 → 1000000 ≤ F v) : ∀ v, v < 12 → ¬ (¬ b v = 0) → 1000000 ≤ F v := fun v hv z => h v hv (Decidable.not_not.mp z)
theorem rq_mn {F : Nat → Nat} {b : Nat → Int32} {m : Nat} (h : ∀ v, v < 12 → b v = 0 → m ≤ F v) : ∀ v, v < 12 → ¬ (¬ b v = 0) → m ≤ F v := fun v hv z => h v hv (Decidable.not_not.mp z)
/-- a state of a search from s over steps w: its picture, d what is known to be no more -/
def rq_s (w : Nat → Nat → Nat) (d : Nat → Nat) (s : Nat) (b7 b8 : Nat → Int32) (F : Nat → Nat) : Prop := ra_1 b7 12 F ∧ rj_inv w F (fun v => ¬ b8 v = 0) ∧ rj_snd d s F
theorem rq_s0 {w : Nat → Nat → Nat} {d : Nat → Nat} {s : Nat} {b7 b8 : Nat → Int32} (h0 : d s = 0) (hc : ∀ v, v < 12 → d v ≤ 1000000) (h7 : ra_1 b7 12 (rj_0 s)) (h8 : ∀ v, v < 12 → b8 v = 0) : rq_s w d s b7 b8 (rj_0 s) :=
  ⟨h7, rj_start w s (fun v hv z => z (h8 v hv)), rj_snd0 h0 hc⟩
theorem rq_sS {w : Nat → Nat → Nat} {d : Nat → Nat} {s : Nat} {b7 b8 b7' : Nat → Int32} {F : Nat → Nat} {u : Nat} (h : rq_s w d s b7 b8 F) (hd : ∀ v, v < 12 → d v ≤ d u + w u v) (hu : u < 12) (h8 : b8 u = 0) (hm : ∀ v, v < 12 → b8 v = 0 → F u ≤ F v) (h7' : ra_1 b7' 12 (rj_rx w F u)) : rq_s w d s b7' (upd b8 u 1) (rj_rx w F u) :=
  ⟨h7', rj_step h.2.1 hu (fun z => z h8) (rq_mn hm) ra_s0, rj_sndS h.2.2 hu hd⟩
theorem rq_c {b8 : Nat → Int32} {u : Nat} (hu : u < 12) (h8 : b8 u = 0) : ra_c0 (upd b8 u 1) 12 < ra_c0 b8 12 := by
  have := ra_c0_up hu h8 (x := 1) (by decide)
  omega
theorem rq_all {W : Nat → Nat → Nat} (hW : rd_ok W) {s : Nat} (hs : s < 12) {b7 b8 : Nat → Int32} {F : Nat → Nat} (h : rq_s W (rd_D W s) s b7 b8 F) (hno : ∀ v, v < 12 → b8 v = 0 → 1000000 ≤ F v) : ra_1 b7 12 (rd_D W s) :=
  ra_ext h.1 (rj_all hW hs h.2.2 h.2.1.1 (rj_done h.2.1 (rq_no hno)))
theorem rq_wc {W : Nat → Nat → Nat} (hW : rd_ok W) : ∀ i j, i < 12 → j < 12 → W i j ≤ 1000000 := fun i j hi hj => (hW i j hi hj).2.1
theorem rq_tr {W : Nat → Nat → Nat} {b : Nat → Int32} {t : Nat} (h : ra_1 b 12 (rd_D (fun i j => W j i) t)) : ra_1 b 12 (fun v => rd_D W v t) := ra_ext h (fun j _ => rd_D_tr W t j)
/-! landmarks are laid -/
theorem rs_b8 : ∀ k, k < 128 → (nI k).toInt8.toInt32 = nI k := by decide +kernel
theorem wk_ll82 {post : St1 → Prop} {J : Int32 → Int32 → Int32 → (Nat → Int32) → (Nat → Int32) → (Nat → Int32) → (Nat → Int32) → (Nat → Int32) → (Nat → Int32) → (Nat → Int32) → (Nat → Int32) → (Nat → Int32) → (Nat → Int32) → (Nat → Int32) → (Nat → Int32) → (Nat → Int32) → (Nat → Int32) → (Nat → Int32) → (Nat → Int32) → (Nat → Int32) → (Nat → Int32) → (Nat → Int32) → (Nat → Int32) → (Nat → Int32) → (Nat → Int32) → Prop} {fp fh : Int32} {a1 a2 a3 a4 a5 a6 a7 a8 a9 a10 a11 a12 a13 a14 a15 a16 a17 a18 a19 a20 a21 a22 : Nat → Int32} {W : Nat → Nat → Nat} {l : Nat} (hl : l < 3) (h7 : ra_1 a7 12 (rd_D W (rm_k l))) (h9 : ra_1 a9 12 (fun v => rd_D W v (rm_k l))) (h18 : ∀ j, j < l * 12 → a18 j = nI (rd_D W (rm_k (j / 12)) (j % 12))) (h19 : ∀ j, j < l * 12 → a19 j = nI (rd_D W (j % 12) (rm_k (j / 12)))) (H : ∀ b18 b19, (∀ j, j < (l + 1) * 12 → b18 j = nI (rd_D W (rm_k (j / 12)) (j % 12))) → (∀ j, j < (l + 1) * 12 → b19 j = nI (rd_D W (j % 12) (rm_k (j / 12)))) → J (nI (l + 1)) fp fh a1 a2 a3 a4 a5 a6 a7 a8 a9 a10 a11 a12 a13 a14 a15 a16 a17 b18 b19 a20 a21 a22) : ∃ n, wX_layLandmarks_82 post J (nI l) fp fh n 0 a1 a2 a3 a4 a5 a6 a7 a8 a9 a10 a11 a12 a13 a14 a15 a16 a17 a18 a19 a20 a21 a22 := by
  refine pk_loop (σ := (Nat → Int32) × (Nat → Int32)) (fun n i q => wX_layLandmarks_82 post J (nI l) fp fh n (nI i) a1 a2 a3 a4 a5 a6 a7 a8 a9 a10 a11 a12 a13 a14 a15 a16 a17 q.1 q.2 a20 a21 a22) (fun i q => (∀ j, j < l * 12 + i → q.1 j = nI (rd_D W (rm_k (j / 12)) (j % 12))) ∧ (∀ j, j < l * 12 + i → q.2 j = nI (rd_D W (j % 12) (rm_k (j / 12))))) 12 0 (a18, a19) (by omega) ⟨h18, h19⟩ ?_ ?_
  · intro n q h
    refine pk_le 12 12 (fun _ => nm_r (nI_1 l) (H q.1 q.2 ?_ ?_)) (fun z => absurd z (by omega))
    · rw [show (l + 1) * 12 = l * 12 + 12 by omega]; exact h.1
    · rw [show (l + 1) * 12 = l * 12 + 12 by omega]; exact h.2
  · intro n i q hi h hw
    have e1 : (l * 12 + i) / 12 = l := by omega
    have e2 : (l * 12 + i) % 12 = i := by omega
    have cl : (nI l * 12 + nI i).toNatClampNeg = l * 12 + i := by rw [ra_ix]; exact nI_clamp (by omega)
    refine pk_le 12 i (fun z => absurd z (by omega)) (fun _ => ⟨pk_in i 12 hi, pk_in (l * 12 + i) 36 (by omega) (ra_ix l i), nm_e ⟨pk_in i 12 hi, pk_in (l * 12 + i) 36 (by omega) (ra_ix l i), nm_e (nm_r (nI_1 i) (hw (_, _) ⟨?_, ?_⟩))⟩⟩)
    · exact ra_fl (i := l * 12 + i) (f := fun j => nI (rd_D W (rm_k (j / 12)) (j % 12))) h.1 cl (by rw [ra_at h7 i hi]; rw [e1, e2])
    · exact ra_fl (i := l * 12 + i) (f := fun j => nI (rd_D W (j % 12) (rm_k (j / 12)))) h.2 cl (by rw [ra_at h9 i hi]; rw [e1, e2])
theorem wk_ll63 {post : St1 → Prop} {J : Int32 → Int32 → Int32 → (Nat → Int32) → (Nat → Int32) → (Nat → Int32) → (Nat → Int32) → (Nat → Int32) → (Nat → Int32) → (Nat → Int32) → (Nat → Int32) → (Nat → Int32) → (Nat → Int32) → (Nat → Int32) → (Nat → Int32) → (Nat → Int32) → (Nat → Int32) → (Nat → Int32) → (Nat → Int32) → (Nat → Int32) → (Nat → Int32) → (Nat → Int32) → (Nat → Int32) → (Nat → Int32) → (Nat → Int32) → Prop} {fp fh : Int32} {a1 a2 a3 a4 a5 a6 a7 a8 a9 a10 a11 a12 a13 a14 a15 a16 a17 a18 a19 a20 a21 a22 : Nat → Int32} {W : Nat → Nat → Nat} (hW : rd_ok W) (h4 : ra_2 a4 W) {t : Nat} (ht : t < 12) {x1 x : Int32} {F : Nat → Nat} (hq : rq_s (fun i j => W j i) (rd_D (fun i j => W j i) t) t a9 a10 F) (hx : rq_x x F a10) (H : ∀ b9 b10, ra_1 b9 12 (fun v => rd_D W v t) → ∃ n, wX_layLandmarks_82 post J x1 fp fh n 0 a1 a2 a3 a4 a5 a6 a7 a8 b9 b10 a11 a12 a13 a14 a15 a16 a17 a18 a19 a20 a21 a22) : ∃ n, wX_layLandmarks_63 post J x1 n x fp fh a1 a2 a3 a4 a5 a6 a7 a8 a9 a10 a11 a12 a13 a14 a15 a16 a17 a18 a19 a20 a21 a22 := by
  refine lp3 (fun n x b9 b10 => wX_layLandmarks_63 post J x1 n x fp fh a1 a2 a3 a4 a5 a6 a7 a8 b9 b10 a11 a12 a13 a14 a15 a16 a17 a18 a19 a20 a21 a22) (fun x b9 b10 => ∃ F, rq_s (fun i j => W j i) (rd_D (fun i j => W j i) t) t b9 b10 F ∧ rq_x x F b10) (fun _ _ b10 => ra_c0 b10 12) ?_ x a9 a10 ⟨F, hq, hx⟩
  rintro n x b9 b10 ⟨F, hq, hx⟩ hw
  rcases hx with ⟨e, hno⟩ | ⟨u, hu, e, h8, hl, hm⟩
  · rw [e]
    exact br_t (by decide) (H b9 b10 (rq_tr (rq_all (rd_ok_tr hW) ht hq hno)))
  · rw [e]
    refine br_f (nI_pos (by omega)) (wk_settleBackwards hu hq.1 hq.2.1.1 h4 (rq_wc hW) (fun c9 hc9 => ?_))
    have hq' := rq_sS hq (fun v hv => rd_stepF (fun i j => W j i) hu t v) hu h8 hm hc9
    exact wk_openB hc9 hq'.2.1.1 (fun y hy => hw y c9 (upd b10 u 1) ⟨_, hq', hy⟩ (rq_c hu h8))
theorem wk_ll41 {post : St1 → Prop} {J : Int32 → Int32 → Int32 → (Nat → Int32) → (Nat → Int32) → (Nat → Int32) → (Nat → Int32) → (Nat → Int32) → (Nat → Int32) → (Nat → Int32) → (Nat → Int32) → (Nat → Int32) → (Nat → Int32) → (Nat → Int32) → (Nat → Int32) → (Nat → Int32) → (Nat → Int32) → (Nat → Int32) → (Nat → Int32) → (Nat → Int32) → (Nat → Int32) → (Nat → Int32) → (Nat → Int32) → (Nat → Int32) → (Nat → Int32) → Prop} {fp fh : Int32} {a1 a2 a3 a4 a5 a6 a7 a8 a9 a10 a11 a12 a13 a14 a15 a16 a17 a18 a19 a20 a21 a22 : Nat → Int32} {W : Nat → Nat → Nat} (hW : rd_ok W) (h4 : ra_2 a4 W) {s : Nat} (hs : s < 12) {x1 x : Int32} {F : Nat → Nat} (hq : rq_s W (rd_D W s) s a7 a8 F) (hx : rq_x x F a8) (H : ∀ b7 b8, ra_1 b7 12 (rd_D W s) → wpX_nearestOpenBack (fun r => ∃ n, wX_layLandmarks_63 post J x1 n r fp fh a1 a2 a3 a4 a5 a6 b7 b8 a9 a10 a11 a12 a13 a14 a15 a16 a17 a18 a19 a20 a21 a22) (fp, fh, a1, a2, a3, a4, a5, a6, b7, b8, a9, a10, a11, a12, a13, a14, a15, a16, a17, a18, a19, a20, a21, a22)) : ∃ n, wX_layLandmarks_41 post J x1 n x fp fh a1 a2 a3 a4 a5 a6 a7 a8 a9 a10 a11 a12 a13 a14 a15 a16 a17 a18 a19 a20 a21 a22 := by
  refine lp3 (fun n x b7 b8 => wX_layLandmarks_41 post J x1 n x fp fh a1 a2 a3 a4 a5 a6 b7 b8 a9 a10 a11 a12 a13 a14 a15 a16 a17 a18 a19 a20 a21 a22) (fun x b7 b8 => ∃ F, rq_s W (rd_D W s) s b7 b8 F ∧ rq_x x F b8) (fun _ _ b8 => ra_c0 b8 12) ?_ x a7 a8 ⟨F, hq, hx⟩
  rintro n x b7 b8 ⟨F, hq, hx⟩ hw
  rcases hx with ⟨e, hno⟩ | ⟨u, hu, e, h8, hl, hm⟩
  · rw [e]
    exact br_t (by decide) (H b7 b8 (rq_all hW hs hq hno))
  · rw [e]
    refine br_f (nI_pos (by omega)) (wk_settleForwards hu hq.1 hq.2.1.1 h4 (rq_wc hW) (fun c7 hc7 => ?_))
    have hq' := rq_sS hq (fun v hv => rd_stepF W hu s v) hu h8 hm hc7
    exact wk_open hc7 hq'.2.1.1 (fun y hy => hw y c7 (upd b8 u 1) ⟨_, hq', hy⟩ (rq_c hu h8))
/-- both tables of the landmarks -/
def rm_ok (W : Nat → Nat → Nat) (a18 a19 : Nat → Int32) : Prop := (∀ j, j < 36 → a18 j = nI (rd_D W (rm_k (j / 12)) (j % 12))) ∧ (∀ j, j < 36 → a19 j = nI (rd_D W (j % 12) (rm_k (j / 12))))
theorem wk_layLandmarks {post : St1 → Prop} {fp fh : Int32} {a1 a2 a3 a4 a5 a6 a7 a8 a9 a10 a11 a12 a13 a14 a15 a16 a17 a18 a19 a20 a21 a22 : Nat → Int32} {W : Nat → Nat → Nat} (hW : rd_ok W) (h4 : ra_2 a4 W) (H : ∀ b7 b8 b9 b10 b17 b18 b19, rm_ok W b18 b19 → post (fp, fh, a1, a2, a3, a4, a5, a6, b7, b8, b9, b10, a11, a12, a13, a14, a15, a16, b17, b18, b19, a20, a21, a22)) : wpX_layLandmarks post (fp, fh, a1, a2, a3, a4, a5, a6, a7, a8, a9, a10, a11, a12, a13, a14, a15, a16, a17, a18, a19, a20, a21, a22) := by
  refine pk_loop (σ := (Nat → Int32) × (Nat → Int32) × (Nat → Int32) × (Nat → Int32) × (Nat → Int32) × (Nat → Int32) × (Nat → Int32)) (fun n i q => wX_layLandmarks_2 post n (nI i) fp fh a1 a2 a3 a4 a5 a6 q.1 q.2.1 q.2.2.1 q.2.2.2.1 a11 a12 a13 a14 a15 a16 q.2.2.2.2.1 q.2.2.2.2.2.1 q.2.2.2.2.2.2 a20 a21 a22) (fun i q => (∀ j, j < i * 12 → q.2.2.2.2.2.1 j = nI (rd_D W (rm_k (j / 12)) (j % 12))) ∧ (∀ j, j < i * 12 → q.2.2.2.2.2.2 j = nI (rd_D W (j % 12) (rm_k (j / 12))))) 3 0 (a7, a8, a9, a10, a17, a18, a19) (by omega) ⟨fun j hj => absurd hj (by omega), fun j hj => absurd hj (by omega)⟩ ?_ ?_
  · intro n q h
    exact pk_le 3 3 (fun _ => H _ _ _ _ _ _ _ ⟨h.1, h.2⟩) (fun z => absurd z (by omega))
  · intro n l q hl h hw
    have hk := rm_k_lt l
    have ek : (nI l * 5 - nI l * 5 / 12 * 12).toInt8.toInt32 = nI (rm_k l) := by
      rw [show (5 : Int32) = nI 5 from rfl, pk_mul, show nI (l * 5) - nI (l * 5) / 12 * 12 = nI (l * 5 % 12) from pk_rem (d := 12) (by omega) (by omega) (by omega)]
      exact rs_b8 _ (by omega)
    refine pk_le 3 l (fun z => absurd z (by omega)) (fun _ => ⟨by decide, pk_in l 3 hl, nm_e ⟨pk_in l 3 hl, pk_in l 3 hl, ?_⟩⟩)
    rw [pk_us, ek]
    refine wk_startBoth hk hk (fun b7 b8 b9 b10 h7 h8 h9 h10 => ?_)
    refine wk_open h7 (fun v _ => rj_0le _ v) (fun x hx => ?_)
    refine wk_ll41 hW h4 hk (rq_s0 (rd_self W _) (fun v hv => rd_cap hW hk hv) h7 h8) hx (fun c7 c8 hc7 => ?_)
    refine wk_openB h9 (fun v _ => rj_0le _ v) (fun y hy => ?_)
    refine wk_ll63 hW h4 hk (rq_s0 (rd_self (fun i j => W j i) _) (fun v hv => rd_cap (rd_ok_tr hW) hk hv) h9 h10) hy (fun c9 c10 hc9 => ?_)
    exact wk_ll82 hl hc7 hc9 h.1 h.2 (fun b18 b19 k1 k2 => hw (_, _, _, _, _, _, _) ⟨k1, k2⟩)
/-! flags are laid -/
def rf_on (P : Int32) (W : Nat → Nat → Nat) (f t l : Nat → Nat) (k d : Nat) : Prop := rn_h P k = true ∧ rd_D W (t k) d < 1000000 ∧ rd_D W (f k) d = l k + rd_D W (t k) d
/-- flags are small, and those of the points below m are there -/
def rf_ok (P : Int32) (W : Nat → Nat → Nat) (f t l : Nat → Nat) (m : Nat) (b : Nat → Int32) : Prop := ∀ k, k < 28 → ∃ z, z < 16 ∧ b k = nI z ∧ ∀ d, d < m → rf_on P W f t l k d → z.testBit (d / 3) = true
theorem rf_or : ∀ z, z < 16 → ∀ r, r < 4 → (nI z ||| ((1 : Int32) <<< (nI r &&& 31))).toInt8.toInt32 = nI (z ||| 2 ^ r) := by decide +kernel
theorem rf_or0 : ∀ z, z < 16 → (nI z ||| 0).toInt8.toInt32 = nI z := by decide +kernel
theorem rf_orlt : ∀ z, z < 16 → ∀ r, r < 4 → z ||| 2 ^ r < 16 := by decide +kernel
theorem rf_tb : ∀ z, z < 16 → ∀ r, r < 4 → (¬ (nI z >>> (nI r &&& 31)) &&& 1 = 0 ↔ z.testBit r = true) := by decide +kernel
end
section
theorem wk_lf59 {post : St1 → Prop} {J : Int32 → Int32 → Int32 → (Nat → Int32) → (Nat → Int32) → (Nat → Int32) → (Nat → Int32) → (Nat → Int32) → (Nat → Int32) → (Nat → Int32) → (Nat → Int32) → (Nat → Int32) → (Nat → Int32) → (Nat → Int32) → (Nat → Int32) → (Nat → Int32) → (Nat → Int32) → (Nat → Int32) → (Nat → Int32) → (Nat → Int32) → (Nat → Int32) → (Nat → Int32) → (Nat → Int32) → (Nat → Int32) → (Nat → Int32) → Prop} {fp fh : Int32} {a1 a2 a3 a4 a5 a6 a7 a8 a9 a10 a11 a12 a13 a14 a15 a16 a17 a18 a19 a20 a21 a22 : Nat → Int32} {f t l : Nat → Nat} (hN : rn_ok fp a1 a2 a3 f t l) {W : Nat → Nat → Nat} (hW : rd_ok W) {m : Nat} (hm : m < 12) (h9 : ra_1 a9 12 (fun v => rd_D W v m)) (h20 : rf_ok fp W f t l m a20) (H : ∀ b20, rf_ok fp W f t l (m + 1) b20 → J (nI (m + 1)) fp fh a1 a2 a3 a4 a5 a6 a7 a8 a9 a10 a11 a12 a13 a14 a15 a16 a17 a18 a19 b20 a21 a22) : ∃ n, wX_layFlags_59 post J (nI m) fp fh n 0 a1 a2 a3 a4 a5 a6 a7 a8 a9 a10 a11 a12 a13 a14 a15 a16 a17 a18 a19 a20 a21 a22 := by
  refine pk_loop (fun n i s => wX_layFlags_59 post J (nI m) fp fh n (nI i) a1 a2 a3 a4 a5 a6 a7 a8 a9 a10 a11 a12 a13 a14 a15 a16 a17 a18 a19 s a21 a22) (fun i s => ∀ k, k < 28 → ∃ z, z < 16 ∧ s k = nI z ∧ (∀ d, d < m → rf_on fp W f t l k d → z.testBit (d / 3) = true) ∧ (k < i → rf_on fp W f t l k m → z.testBit (m / 3) = true)) 28 0 a20 (by omega) ?_ ?_ ?_
  · intro k hk
    obtain ⟨z, hz, e, h⟩ := h20 k hk
    exact ⟨z, hz, e, h, fun y => absurd y (by omega)⟩
  · intro n s h
    refine pk_le 28 28 (fun _ => nm_r (nI_1 m) (H s (fun k hk => ?_))) (fun z => absurd z (by omega))
    obtain ⟨z, hz, e, h1, h2⟩ := h k hk
    exact ⟨z, hz, e, lt_s h1 (h2 hk)⟩
  · intro n k s hk h hw
    obtain ⟨z, hz, ez, hz1, hz2⟩ := h k hk
    have rd : s (nI k).toNatClampNeg = nI z := by rw [nI_clamp (by omega)]; exact ez
    have other : ∀ x j, j < 28 → j ≠ k → ∃ z, z < 16 ∧ upd s (nI k).toNatClampNeg x j = nI z ∧ (∀ d, d < m → rf_on fp W f t l j d → z.testBit (d / 3) = true) ∧ (j < k + 1 → rf_on fp W f t l j m → z.testBit (m / 3) = true) := by
      intro x j hj ne
      obtain ⟨y, hy, ey, hy1, hy2⟩ := h j hj
      exact ⟨y, hy, by rw [nI_clamp (by omega), pk_un ne]; exact ey, hy1, fun c => hy2 (by omega)⟩
    have e0 : ¬ rf_on fp W f t l k m → wX_layFlags_126 post J (wX_layFlags_59 post J (nI m) fp fh n) (nI m) (nI k) 0 fp fh a1 a2 a3 a4 a5 a6 a7 a8 a9 a10 a11 a12 a13 a14 a15 a16 a17 a18 a19 s a21 a22 := by
      intro no
      refine ⟨pk_in k 28 hk, br_t rfl ⟨pk_in k 28 hk, nm_e (nm_r (nI_1 k) (hw _ (fun j hj => ?_)))⟩⟩
      by_cases e : j = k
      · rw [e]
        exact ⟨z, hz, by rw [rd, rf_or0 z hz, nI_clamp (by omega), pk_us], hz1, fun _ y => absurd y no⟩
      · exact other _ j hj e
    have e1 : wX_layFlags_126 post J (wX_layFlags_59 post J (nI m) fp fh n) (nI m) (nI k) 1 fp fh a1 a2 a3 a4 a5 a6 a7 a8 a9 a10 a11 a12 a13 a14 a15 a16 a17 a18 a19 s a21 a22 := by
      refine ⟨pk_in k 28 hk, br_f (by decide) ⟨by decide, pk_in k 28 hk, nm_e (nm_r (nI_1 k) (hw _ (fun j hj => ?_)))⟩⟩
      by_cases e : j = k
      · rw [e]
        have em : nI m / 3 = nI (m / 3) := ra_d3 (by omega)
        refine ⟨z ||| 2 ^ (m / 3), rf_orlt z hz _ (by omega), by rw [rd, em, rf_or z hz _ (by omega), nI_clamp (by omega), pk_us], fun d hd on => ?_, fun _ _ => ?_⟩
        · rw [Nat.testBit_or, hz1 d hd on, Bool.true_or]
        · rw [Nat.testBit_or, Nat.testBit_two_pow_self, Bool.or_true]
      · exact other _ j hj e
    refine pk_le 28 k (fun y => absurd y (by omega)) (fun _ => wk_has hk (fun hh => ?_) (fun hh => br_t rfl (e0 (fun on => ?_))))
    · have g := hN.2.1 k hk hh
      have c1 : a1 (nI k).toNatClampNeg = nI (f k) := by rw [nI_clamp (by omega)]; exact g.1
      have c2 : a2 (nI k).toNatClampNeg = nI (t k) := by rw [nI_clamp (by omega)]; exact g.2.1
      have c3 : a3 (nI k).toNatClampNeg = nI (l k) := by rw [nI_clamp (by omega)]; exact g.2.2.1
      have b1 := rd_cap hW (show f k < 12 by omega) hm
      have b2 := rd_cap hW (show t k < 12 by omega) hm
      have r1 : a9 (nI (f k)).toNatClampNeg = nI (rd_D W (f k) m) := ra_at h9 (f k) (by omega)
      have r2 : a9 (nI (t k)).toNatClampNeg = nI (rd_D W (t k) m) := ra_at h9 (t k) (by omega)
      refine br_f (by decide) ⟨pk_in k 28 hk, pk_in (t k) 12 (by omega) c2, ?_⟩
      rw [c2, r2]
      refine pk_le 1000000 (rd_D W (t k) m) (fun y => e0 (fun on => by have := on.2.1; omega)) (fun y => ⟨pk_in k 28 hk, pk_in (f k) 12 (by omega) c1, pk_in k 28 hk, pk_in k 28 hk, pk_in (t k) 12 (by omega), ?_⟩)
      rw [c1, r1, c3]
      exact pk_eq (rd_D W (f k) m) (l k + rd_D W (t k) m) (fun _ => e1) (fun ne => e0 (fun on => ne on.2.2)) rfl (nI_add _ _)
    · have := on.1
      rw [hh] at this
      exact absurd this (by decide)
theorem wk_lf40 {post : St1 → Prop} {J : Int32 → Int32 → Int32 → (Nat → Int32) → (Nat → Int32) → (Nat → Int32) → (Nat → Int32) → (Nat → Int32) → (Nat → Int32) → (Nat → Int32) → (Nat → Int32) → (Nat → Int32) → (Nat → Int32) → (Nat → Int32) → (Nat → Int32) → (Nat → Int32) → (Nat → Int32) → (Nat → Int32) → (Nat → Int32) → (Nat → Int32) → (Nat → Int32) → (Nat → Int32) → (Nat → Int32) → (Nat → Int32) → (Nat → Int32) → Prop} {fp fh : Int32} {a1 a2 a3 a4 a5 a6 a7 a8 a9 a10 a11 a12 a13 a14 a15 a16 a17 a18 a19 a20 a21 a22 : Nat → Int32} {W : Nat → Nat → Nat} (hW : rd_ok W) (h4 : ra_2 a4 W) {t : Nat} (ht : t < 12) {x1 x : Int32} {F : Nat → Nat} (hq : rq_s (fun i j => W j i) (rd_D (fun i j => W j i) t) t a9 a10 F) (hx : rq_x x F a10) (H : ∀ b9 b10, ra_1 b9 12 (fun v => rd_D W v t) → ∃ n, wX_layFlags_59 post J x1 fp fh n 0 a1 a2 a3 a4 a5 a6 a7 a8 b9 b10 a11 a12 a13 a14 a15 a16 a17 a18 a19 a20 a21 a22) : ∃ n, wX_layFlags_40 post J x1 n x fp fh a1 a2 a3 a4 a5 a6 a7 a8 a9 a10 a11 a12 a13 a14 a15 a16 a17 a18 a19 a20 a21 a22 := by
  refine lp3 (fun n x b9 b10 => wX_layFlags_40 post J x1 n x fp fh a1 a2 a3 a4 a5 a6 a7 a8 b9 b10 a11 a12 a13 a14 a15 a16 a17 a18 a19 a20 a21 a22) (fun x b9 b10 => ∃ F, rq_s (fun i j => W j i) (rd_D (fun i j => W j i) t) t b9 b10 F ∧ rq_x x F b10) (fun _ _ b10 => ra_c0 b10 12) ?_ x a9 a10 ⟨F, hq, hx⟩
  rintro n x b9 b10 ⟨F, hq, hx⟩ hw
  rcases hx with ⟨e, hno⟩ | ⟨u, hu, e, h8, hl, hm⟩
  · rw [e]
    exact br_t (by decide) (H b9 b10 (rq_tr (rq_all (rd_ok_tr hW) ht hq hno)))
  · rw [e]
    refine br_f (nI_pos (by omega)) (wk_settleBackwards hu hq.1 hq.2.1.1 h4 (rq_wc hW) (fun c9 hc9 => ?_))
    have hq' := rq_sS hq (fun v hv => rd_stepF (fun i j => W j i) hu t v) hu h8 hm hc9
    exact wk_openB hc9 hq'.2.1.1 (fun y hy => hw y c9 (upd b10 u 1) ⟨_, hq', hy⟩ (rq_c hu h8))
theorem wk_layFlags {post : St1 → Prop} {fp fh : Int32} {a1 a2 a3 a4 a5 a6 a7 a8 a9 a10 a11 a12 a13 a14 a15 a16 a17 a18 a19 a20 a21 a22 : Nat → Int32} {f t l : Nat → Nat} (hN : rn_ok fp a1 a2 a3 f t l) {W : Nat → Nat → Nat} (hW : rd_ok W) (h4 : ra_2 a4 W) (H : ∀ b7 b8 b9 b10 b20, rf_ok fp W f t l 12 b20 → post (fp, fh, a1, a2, a3, a4, a5, a6, b7, b8, b9, b10, a11, a12, a13, a14, a15, a16, a17, a18, a19, b20, a21, a22)) : wpX_layFlags post (fp, fh, a1, a2, a3, a4, a5, a6, a7, a8, a9, a10, a11, a12, a13, a14, a15, a16, a17, a18, a19, a20, a21, a22) := by
  refine pk_loop (fun n i s => wX_layFlags_2 post fp fh n (nI i) a1 a2 a3 a4 a5 a6 a7 a8 a9 a10 a11 a12 a13 a14 a15 a16 a17 a18 a19 s a21 a22) (fun i s => ∀ j, j < i → s j = 0) 28 0 a20 (by omega) lt_0 ?_ ?_
  · intro n s h
    refine pk_le 28 28 (fun _ => ?_) (fun z => absurd z (by omega))
    refine pk_loop (σ := (Nat → Int32) × (Nat → Int32) × (Nat → Int32) × (Nat → Int32) × (Nat → Int32)) (fun n i q => wX_layFlags_23 post n (nI i) fp fh a1 a2 a3 a4 a5 a6 q.1 q.2.1 q.2.2.1 q.2.2.2.1 a11 a12 a13 a14 a15 a16 a17 a18 a19 q.2.2.2.2 a21 a22) (fun i q => rf_ok fp W f t l i q.2.2.2.2) 12 0 (a7, a8, a9, a10, s) (by omega) ?_ ?_ ?_
    · intro k hk
      exact ⟨0, by omega, h k hk, fun d hd => absurd hd (by omega)⟩
    · intro n q h
      exact pk_le 12 12 (fun _ => H _ _ _ _ _ h) (fun z => absurd z (by omega))
    · intro n m q hm h hw
      refine pk_le 12 m (fun z => absurd z (by omega)) (fun _ => ?_)
      refine wk_startBoth hm hm (fun b7 b8 b9 b10 h7 h8 h9 h10 => ?_)
      refine wk_openB h9 (fun v _ => rj_0le _ v) (fun y hy => ?_)
      refine wk_lf40 hW h4 hm (rq_s0 (rd_self (fun i j => W j i) _) (fun v hv => rd_cap (rd_ok_tr hW) hm hv) h9 h10) hy (fun c9 c10 hc9 => ?_)
      exact wk_lf59 hN hW hm hc9 h (fun b20 hb => hw (_, _, _, _, _) hb)
  · intro n i s hi h hw
    exact pk_le 28 i (fun z => absurd z (by omega)) (fun _ => ⟨pk_in i 28 hi, nm_e (nm_r (nI_1 i) (hw _ (ra_fl (f := fun _ => 0) h (nI_clamp (by omega)) rfl)))⟩)
end
section
/-! engine 6 -/
def rz_sf (W X : Nat → Nat → Nat) (b : Nat → Int32) (s t u v : Nat) : Nat := if (u / 4 ≠ v / 4 ∨ u / 4 = s / 4 ∨ u / 4 = t / 4) then W u v else if (¬ b u = 0 ∧ ¬ b v = 0) then X u v else 1000000
theorem rz_sf_st (W X : Nat → Nat → Nat) (b : Nat → Int32) (s t u v : Nat) : rz_st W X (fun p => ¬ b p = 0) s t u v (rz_sf W X b s t u v) := by
  unfold rz_sf
  refine ⟨fun c => if_pos c, fun c => ⟨fun d => ?_, fun d => ?_⟩⟩
  · rw [if_neg c, if_pos d]
  · rw [if_neg c, if_neg d]
theorem wk_stepOver {post : Int32 → Prop} {fp fh : Int32} {a1 a2 a3 a4 a5 a6 a7 a8 a9 a10 a11 a12 a13 a14 a15 a16 a17 a18 a19 a20 a21 a22 : Nat → Int32} {W X : Nat → Nat → Nat} {s t u v : Nat} (hs : s < 12) (ht : t < 12) (hu : u < 12) (hv : v < 12) (h4 : ra_2 a4 W) (h22 : ra_2 a22 X) (H : post (nI (rz_sf W X a21 s t u v))) : wpX_stepOver post (fp, fh, a1, a2, a3, a4, a5, a6, a7, a8, a9, a10, a11, a12, a13, a14, a15, a16, a17, a18, a19, a20, a21, a22) (nI u) (nI v) (nI s) (nI t) := by
  have dv : ∀ p, p < 12 → nI p / 4 = nI (p / 4) := fun p hp => ra_d4 (by omega)
  have e34 : (u / 4 ≠ v / 4 ∨ u / 4 = s / 4 ∨ u / 4 = t / 4) → wX_stepOver_34 post (nI u) (nI v) fp fh a1 a2 a3 a4 a5 a6 a7 a8 a9 a10 a11 a12 a13 a14 a15 a16 a17 a18 a19 a20 a21 a22 := by
    intro c
    unfold rz_sf at H
    rw [if_pos c] at H
    exact ⟨pk_in (u * 12 + v) 144 (by omega) (ra_ix u v), by rw [ra_at2 h4 u v hu hv (ra_ix u v)]; exact H⟩
  refine ⟨by decide, by decide, pk_eq (u / 4) (v / 4) (fun e => ⟨by decide, pk_eq (u / 4) (s / 4) (fun e2 => e34 (Or.inr (Or.inl e2))) (fun e2 => ⟨by decide, pk_eq (u / 4) (t / 4) (fun e3 => e34 (Or.inr (Or.inr e3))) (fun e3 => ?_) (dv u hu) (dv t ht)⟩) (dv u hu) (dv s hs)⟩) (fun e => e34 (Or.inl e)) (dv u hu) (dv v hv)⟩
  have nc : ¬ (u / 4 ≠ v / 4 ∨ u / 4 = s / 4 ∨ u / 4 = t / 4) := by
    rintro (z | z | z)
    · exact z e
    · exact e2 z
    · exact e3 z
  unfold rz_sf at H
  rw [if_neg nc] at H
  refine ⟨pk_in u 12 hu, br_c (fun z => ?_) (fun z => ⟨pk_in v 12 hv, br_c (fun z2 => ?_) (fun z2 => ⟨pk_in (u * 12 + v) 144 (by omega) (ra_ix u v), ?_⟩)⟩)⟩
  · rw [nI_clamp (by omega)] at z
    rw [if_neg (fun y => y.1 z)] at H
    exact H
  · rw [nI_clamp (by omega)] at z2
    rw [if_neg (fun y => y.2 z2)] at H
    exact H
  · rw [nI_clamp (by omega)] at z z2
    rw [if_pos ⟨z, z2⟩] at H
    rw [ra_at2 h22 u v hu hv (ra_ix u v)]
    exact H
theorem wk_oc25 {post : Int32 → St1 → Prop} {J : Int32 → (Nat → Int32) → (Nat → Int32) → (Nat → Int32) → (Nat → Int32) → (Nat → Int32) → (Nat → Int32) → (Nat → Int32) → (Nat → Int32) → (Nat → Int32) → (Nat → Int32) → (Nat → Int32) → (Nat → Int32) → (Nat → Int32) → (Nat → Int32) → (Nat → Int32) → (Nat → Int32) → (Nat → Int32) → (Nat → Int32) → (Nat → Int32) → (Nat → Int32) → (Nat → Int32) → (Nat → Int32) → Prop} {fp fh : Int32} {a1 a2 a3 a4 a5 a6 a7 a8 a9 a10 a11 a12 a13 a14 a15 a16 a17 a18 a19 a20 a21 a22 : Nat → Int32} {W X : Nat → Nat → Nat} {s t u : Nat} (hs : s < 12) (ht : t < 12) (hu : u < 12) (h4 : ra_2 a4 W) (h22 : ra_2 a22 X) {F : Nat → Nat} (hF : ra_1 a7 12 F) (hc : ∀ v, v < 12 → F v ≤ 1000000) (hst : ∀ i j, i < 12 → j < 12 → rz_sf W X a21 s t i j ≤ 1000000) (H : ∀ b7, ra_1 b7 12 (rj_rx (rz_sf W X a21 s t) F u) → wpX_nearestOpen (fun r => J r a1 a2 a3 a4 a5 a6 b7 a8 a9 a10 a11 a12 a13 a14 a15 a16 a17 a18 a19 a20 a21 a22) (fp, fh, a1, a2, a3, a4, a5, a6, b7, a8, a9, a10, a11, a12, a13, a14, a15, a16, a17, a18, a19, a20, a21, a22)) : ∃ n, wX_distanceOverCells_25 post J (nI s) (nI t) (nI u) fp fh n 0 a1 a2 a3 a4 a5 a6 a7 a8 a9 a10 a11 a12 a13 a14 a15 a16 a17 a18 a19 a20 a21 a22 := by
  refine pk_loop (fun n i s' => wX_distanceOverCells_25 post J (nI s) (nI t) (nI u) fp fh n (nI i) a1 a2 a3 a4 a5 a6 s' a8 a9 a10 a11 a12 a13 a14 a15 a16 a17 a18 a19 a20 a21 a22) (fun i s' => ra_1 s' 12 (ra_mx i (rj_rx (rz_sf W X a21 s t) F u) F)) 12 0 a7 (by omega) (ra_mx0 hF) ?_ ?_
  · intro n s' h
    exact pk_le 12 12 (fun _ => H s' (ra_mxE h)) (fun z => absurd z (by omega))
  · intro n i s' hi h hw
    have ci := hc i hi
    have cu := hc u hu
    have cw := hst u i hu hi
    have eu : ra_mx i (rj_rx (rz_sf W X a21 s t) F u) F u = F u := by
      by_cases c : u < i
      · rw [ra_mxl c]; unfold rj_rx; omega
      · rw [ra_mxg (by omega)]
    refine pk_le 12 i (fun z => absurd z (by omega)) (fun _ => ⟨pk_in u 12 hu, ?_⟩)
    refine wk_stepOver hs ht hu hi h4 h22 ?_
    refine nm_r (e' := nI (F u + rz_sf W X a21 s t u i)) (by rw [ra_at h u hu, eu, nI_add]) ⟨pk_in i 12 hi, ?_⟩
    refine pk_le (F i) (F u + rz_sf W X a21 s t u i) (fun z => ⟨pk_in i 12 hi, pk_in i 12 hi, nm_e (nm_r (nI_1 i) (hw _ (ra_mxS h (nI_clamp (by omega)) ?_)))⟩) (fun z => ⟨pk_in i 12 hi, nm_e (nm_r (nI_1 i) (hw _ (ra_mxS h (nI_clamp (by omega)) ?_)))⟩) (by rw [ra_at h i hi, ra_mxg (Nat.le_refl i)])
    · rw [ra_at h i hi, ra_mxg (Nat.le_refl i)]
      unfold rj_rx
      rw [Nat.min_eq_left z]
    · unfold rj_rx
      rw [Nat.min_eq_right (by omega)]
def rz_ok (W : Nat → Nat → Nat) (a21 a22 : Nat → Int32) : Prop := ra_2 a22 (rz_X W) ∧ (∀ u v, u < 12 → v < 12 → W u v < 1000000 → u / 4 ≠ v / 4 → ¬ a21 u = 0 ∧ ¬ a21 v = 0)
theorem wk_distanceOverCells {post : Int32 → St1 → Prop} {fp fh : Int32} {a1 a2 a3 a4 a5 a6 a7 a8 a9 a10 a11 a12 a13 a14 a15 a16 a17 a18 a19 a20 a21 a22 : Nat → Int32} {W : Nat → Nat → Nat} (hW : rd_ok W) {s t : Nat} (hs : s < 12) (ht : t < 12) (h4 : ra_2 a4 W) (hz : rz_ok W a21 a22) (H : ∀ b7 b8 b9 b10, post (nI (rd_D W s t)) (fp, fh, a1, a2, a3, a4, a5, a6, b7, b8, b9, b10, a11, a12, a13, a14, a15, a16, a17, a18, a19, a20, a21, a22)) : wpX_distanceOverCells post (fp, fh, a1, a2, a3, a4, a5, a6, a7, a8, a9, a10, a11, a12, a13, a14, a15, a16, a17, a18, a19, a20, a21, a22) (nI s) (nI t) := by
  obtain ⟨h22, hb⟩ := hz
  have Xle : ∀ i j, i < 12 → j < 12 → rz_X W i j ≤ 1000000 := fun i j hi hj => Nat.le_trans (rd_it_le (rz_0 W) 12 i j) (rz_0_le hW hi hj)
  have stc : ∀ i j, i < 12 → j < 12 → rz_sf W (rz_X W) a21 s t i j ≤ 1000000 := by
    intro i j hi hj
    have e1 := (hW i j hi hj).2.1
    have e2 := Xle i j hi hj
    unfold rz_sf
    split
    · exact e1
    · split
      · exact e2
      · omega
  have stg : ∀ i j, i < 12 → j < 12 → rd_D W i j ≤ rz_sf W (rz_X W) a21 s t i j := by
    intro i j hi hj
    have e1 := rd_leW W i j
    have e2 : rd_D W i j ≤ rz_X W i j := rz_ge hW 12 (Nat.le_refl _) i j hi hj
    have e3 := rd_cap hW hi hj
    unfold rz_sf
    split
    · exact e1
    · split
      · exact e2
      · exact e3
  refine wk_startBoth hs ht (fun b7 b8 b9 b10 h7 h8 h9 h10 => ?_)
  refine wk_open h7 (fun v _ => rj_0le _ v) (fun x hx => ?_)
  refine lp3 (fun n x c7 c8 => wX_distanceOverCells_11 post (nI s) (nI t) fp fh n x a1 a2 a3 a4 a5 a6 c7 c8 b9 b10 a11 a12 a13 a14 a15 a16 a17 a18 a19 a20 a21 a22) (fun x c7 c8 => ∃ F, rq_s (rz_sf W (rz_X W) a21 s t) (rd_D W s) s c7 c8 F ∧ rq_x x F c8) (fun _ _ c8 => ra_c0 c8 12) ?_ x b7 b8 ⟨_, rq_s0 (rd_self W s) (fun v hv => rd_cap hW hs hv) h7 h8, hx⟩
  rintro n x c7 c8 ⟨F, hq, hx⟩ hw
  rcases hx with ⟨e, hno⟩ | ⟨u, hu, e, hu8, hl, hm⟩
  · rw [e]
    refine br_t (by decide) ⟨pk_in t 12 ht, ?_⟩
    have fin := rj_done hq.2.1 (rq_no hno)
    have ft : F t = rd_D W s t := by
      have g1 := hq.2.2.2 t ht
      have g2 := hq.2.1.1 t ht
      by_cases c : rd_D W s t < 1000000
      · have g3 := rz_main hW hs hb (fun u v hu hv => rz_sf_st W (rz_X W) a21 s t u v) hq.2.2.1 fin (rd_D W s t) t ht (Nat.le_refl _) c (Or.inr (Or.inl rfl))
        omega
      · omega
    rw [ra_at hq.1 t ht, ft]
    exact H c7 c8 b9 b10
  · rw [e]
    refine br_f (nI_pos (by omega)) ⟨pk_in u 12 hu, nm_r (by rw [nI_clamp (by omega)]) ?_⟩
    refine wk_oc25 hs ht hu h4 h22 hq.1 hq.2.1.1 stc (fun d7 hd7 => ?_)
    have hq' := rq_sS hq (fun v hv => by
      have g1 := rd_tri W hu s v
      have g2 := stg u v hu hv
      omega) hu hu8 hm hd7
    exact wk_open hd7 hq'.2.1.1 (fun y hy => hw y d7 (upd c8 u 1) ⟨_, hq', hy⟩ (rq_c hu hu8))
/-! engine 1 -/
theorem wk_distanceFromBoth {post : Int32 → St1 → Prop} {fp fh : Int32} {a1 a2 a3 a4 a5 a6 a7 a8 a9 a10 a11 a12 a13 a14 a15 a16 a17 a18 a19 a20 a21 a22 : Nat → Int32} {W : Nat → Nat → Nat} (hW : rd_ok W) {s t : Nat} (hs : s < 12) (ht : t < 12) (h4 : ra_2 a4 W) (H : ∀ b7 b8 b9 b10, post (nI (rd_D W s t)) (fp, fh, a1, a2, a3, a4, a5, a6, b7, b8, b9, b10, a11, a12, a13, a14, a15, a16, a17, a18, a19, a20, a21, a22)) : wpX_distanceFromBoth post (fp, fh, a1, a2, a3, a4, a5, a6, a7, a8, a9, a10, a11, a12, a13, a14, a15, a16, a17, a18, a19, a20, a21, a22) (nI s) (nI t) := by
  refine wk_startBoth hs ht (fun b7 b8 b9 b10 h7 h8 h9 h10 => ?_)
  refine wk_shortestMeeting h7 h9 (fun v _ => rj_0le _ v) (fun v _ => rj_0le _ v) (fun v hv => ?_)
  refine lp6 (fun n x g c7 c8 c9 c10 => wX_distanceFromBoth_14 post n x g fp fh a1 a2 a3 a4 a5 a6 c7 c8 c9 c10 a11 a12 a13 a14 a15 a16 a17 a18 a19 a20 a21 a22) (fun x g c7 c8 c9 c10 => ∃ F B v, rq_s W (rd_D W s) s c7 c8 F ∧ rq_s (fun i j => W j i) (rd_D (fun i j => W j i) t) t c9 c10 B ∧ x = nI v ∧ rl_min (fun p => F p + B p) v ∧ (g = 1 ∨ (g = 0 ∧ v = rd_D W s t))) (fun _ g _ c8 _ c10 => if g = 0 then 0 else 1 + ra_c0 c8 12 + ra_c0 c10 12) ?_ (nI v) 1 b7 b8 b9 b10 ⟨_, _, v, rq_s0 (rd_self W s) (fun v hv => rd_cap hW hs hv) h7 h8, rq_s0 (rd_self (fun i j => W j i) _) (fun v hv => rd_cap (rd_ok_tr hW) ht hv) h9 h10, rfl, hv, Or.inl rfl⟩
  rintro n x g c7 c8 c9 c10 ⟨F, B, v, hF, hB, ex, hv, hg⟩ hw
  rw [ex]
  rcases hg with hg | ⟨hg, ev⟩
  · rw [hg] at hw ⊢
    have stop : ∀ m m', (∀ v, v < 12 → c8 v = 0 → m ≤ F v) → (∀ v, v < 12 → c10 v = 0 → m' ≤ B v) → v ≤ m + m' → ∀ x5 x6, wX_distanceFromBoth_64 post (wX_distanceFromBoth_14 post n) x5 x6 fp fh a1 a2 a3 a4 a5 a6 c7 c8 c9 c10 a11 a12 a13 a14 a15 a16 a17 a18 a19 a20 a21 a22 := by
      intro m m' hm hm' hst x5 x6
      refine br_t rfl (br_t rfl ?_)
      refine wk_shortestMeeting hF.1 hB.1 hF.2.1.1 hB.2.1.1 (fun v' hv' => ?_)
      have eq : v' = rd_D W s t := by
        have q1 : v' ≤ v := by
          rcases hv.2.2 with z | ⟨p, hp, z⟩
          · have := hv'.1
            omega
          · have := hv'.2.1 p hp
            dsimp only at z this
            omega
        have q2 := rj_both hW hs ht hF.2.1 hB.2.1 hF.2.2.1 hB.2.2.1 (rq_mn hm) (rq_mn hm') (fun p hp => hv'.2.1 p hp) hv'.1 (by omega)
        have q3 := rl_meet hW hs ht hF.2.2.2 (fun p hp => by have := hB.2.2.2 p hp; rw [rd_D_tr W] at this; exact this) hv'
        omega
      exact hw (nI v') 0 c7 c8 c9 c10 ⟨F, B, v', hF, hB, rfl, hv', Or.inr ⟨rfl, eq⟩⟩ (by rw [if_pos rfl, if_neg (by decide)]; omega)
    refine br_f (by decide) ?_
    refine wk_open hF.1 hF.2.1.1 (fun x5 hx5 => ?_)
    refine wk_openB hB.1 hB.2.1.1 (fun x6 hx6 => ?_)
    rcases hx5 with ⟨e5, hno5⟩ | ⟨u, hu, e5, hu8, hul, hum⟩
    · exact br_t (by rw [e5]; decide) (stop 1000000 0 hno5 (fun _ _ _ => Nat.zero_le _) (by have := hv.1; omega) _ _)
    · rw [e5]
      refine br_f (nI_pos (by omega)) ?_
      rcases hx6 with ⟨e6, hno6⟩ | ⟨w, hw6, e6, hw8, hwl, hwm⟩
      · exact br_t (by rw [e6]; decide) (stop 0 1000000 (fun _ _ _ => Nat.zero_le _) hno6 (by have := hv.1; omega) _ _)
      · rw [e6]
        have v1 := hv.1
        have rF : c7 (nI u).toNatClampNeg = nI (F u) := ra_at hF.1 u hu
        have rB : c9 (nI w).toNatClampNeg = nI (B w) := ra_at hB.1 w hw6
        refine br_f (nI_pos (by omega)) ⟨pk_in u 12 hu, pk_in w 12 hw6, pk_le v (F u + B w) (fun z => stop (F u) (B w) hum hwm z _ _) (fun z => ?_) rfl (by rw [rF, rB, nI_add])⟩
        refine br_f (by decide) ⟨pk_in u 12 hu, pk_in w 12 hw6, pk_lt (B w) (F u) (fun z2 => ?_) (fun z2 => ?_) rB rF⟩
        · refine br_f (by decide) (wk_settleBackwards hw6 hB.1 hB.2.1.1 h4 (rq_wc hW) (fun d9 hd9 => ?_))
          have hB' := rq_sS hB (fun v hv => rd_stepF (fun i j => W j i) hw6 t v) hw6 hw8 hwm hd9
          refine wk_shortestMeeting hF.1 hd9 hF.2.1.1 hB'.2.1.1 (fun v' hv' => ?_)
          refine hw (nI v') 1 c7 c8 d9 (upd c10 w 1) ⟨F, _, v', hF, hB', rfl, hv', Or.inl rfl⟩ ?_
          have := rq_c hw6 hw8
          rw [if_neg (by decide), if_neg (by decide)]
          omega
        · refine wk_settleForwards hu hF.1 hF.2.1.1 h4 (rq_wc hW) (fun d7 hd7 => ?_)
          have hF' := rq_sS hF (fun v hv => rd_stepF W hu s v) hu hu8 hum hd7
          refine wk_shortestMeeting hd7 hB.1 hF'.2.1.1 hB.2.1.1 (fun v' hv' => ?_)
          refine hw (nI v') 1 d7 (upd c8 u 1) c9 c10 ⟨_, B, v', hF', hB, rfl, hv', Or.inl rfl⟩ ?_
          have := rq_c hu hu8
          rw [if_neg (by decide), if_neg (by decide)]
          omega
  · rw [hg, ev]
    exact br_t rfl (H c7 c8 c9 c10)
end
section
/-! engine 2: up the hierarchy -/
def ru_w (R : Nat → Nat) (E : Nat → Nat → Nat) (u v : Nat) : Nat := if R u < R v then E u v else 1000000
theorem ru_le {R : Nat → Nat} {E : Nat → Nat → Nat} (hE : ∀ i j, i < 12 → j < 12 → E i j ≤ 1000000) : ∀ i j, i < 12 → j < 12 → ru_w R E i j ≤ 1000000 := by
  intro i j hi hj
  have := hE i j hi hj
  unfold ru_w
  split <;> omega
theorem wk_du25 {post : Int32 → St1 → Prop} {J : Int32 → (Nat → Int32) → (Nat → Int32) → (Nat → Int32) → (Nat → Int32) → (Nat → Int32) → (Nat → Int32) → (Nat → Int32) → (Nat → Int32) → (Nat → Int32) → (Nat → Int32) → (Nat → Int32) → (Nat → Int32) → (Nat → Int32) → (Nat → Int32) → (Nat → Int32) → (Nat → Int32) → (Nat → Int32) → (Nat → Int32) → (Nat → Int32) → (Nat → Int32) → (Nat → Int32) → (Nat → Int32) → Prop} {fp fh : Int32} {a1 a2 a3 a4 a5 a6 a7 a8 a9 a10 a11 a12 a13 a14 a15 a16 a17 a18 a19 a20 a21 a22 : Nat → Int32} {R F : Nat → Nat} {E : Nat → Nat → Nat} {u : Nat} (hu : u < 12) (h13 : ra_2 a13 E) (hE : ∀ i j, i < 12 → j < 12 → E i j ≤ 1000000) (h14 : ra_1 a14 12 R) (hR : ∀ v, v < 12 → R v < 12) (hF : ra_1 a7 12 F) (hc : ∀ v, v < 12 → F v ≤ 1000000) (H : ∀ b7, ra_1 b7 12 (rj_rx (ru_w R E) F u) → wpX_nearestOpen (fun r => J r a1 a2 a3 a4 a5 a6 b7 a8 a9 a10 a11 a12 a13 a14 a15 a16 a17 a18 a19 a20 a21 a22) (fp, fh, a1, a2, a3, a4, a5, a6, b7, a8, a9, a10, a11, a12, a13, a14, a15, a16, a17, a18, a19, a20, a21, a22)) : ∃ n, wX_distanceUp_25 post J (nI u) fp fh n 0 a1 a2 a3 a4 a5 a6 a7 a8 a9 a10 a11 a12 a13 a14 a15 a16 a17 a18 a19 a20 a21 a22 := by
  refine pk_loop (fun n i s => wX_distanceUp_25 post J (nI u) fp fh n (nI i) a1 a2 a3 a4 a5 a6 s a8 a9 a10 a11 a12 a13 a14 a15 a16 a17 a18 a19 a20 a21 a22) (fun i s => ra_1 s 12 (ra_mx i (rj_rx (ru_w R E) F u) F)) 12 0 a7 (by omega) (ra_mx0 hF) ?_ ?_
  · intro n s h
    exact pk_le 12 12 (fun _ => H s (ra_mxE h)) (fun z => absurd z (by omega))
  · intro n i s hi h hw
    have ci := hc i hi
    have cu := hc u hu
    have cw := hE u i hu hi
    have eu : ra_mx i (rj_rx (ru_w R E) F u) F u = F u := by
      by_cases c : u < i
      · rw [ra_mxl c]; unfold rj_rx; omega
      · rw [ra_mxg (by omega)]
    have ri := hR i hi
    have ru := hR u hu
    have e72 : ∀ z, z ≤ 2000000 → min (F i) z = rj_rx (ru_w R E) F u i → wX_distanceUp_72 post J (wX_distanceUp_25 post J (nI u) fp fh n) (nI u) (nI i) (nI z) fp fh a1 a2 a3 a4 a5 a6 s a8 a9 a10 a11 a12 a13 a14 a15 a16 a17 a18 a19 a20 a21 a22 := by
      intro z hz ez
      refine ⟨pk_in i 12 hi, pk_le (F i) z (fun y => ⟨pk_in i 12 hi, pk_in i 12 hi, nm_e (nm_r (nI_1 i) (hw _ (ra_mxS h (nI_clamp (by omega)) ?_)))⟩) (fun y => ⟨pk_in i 12 hi, nm_e (nm_r (nI_1 i) (hw _ (ra_mxS h (nI_clamp (by omega)) ?_)))⟩) (by rw [ra_at h i hi, ra_mxg (Nat.le_refl i)])⟩
      · rw [ra_at h i hi, ra_mxg (Nat.le_refl i), ← ez, Nat.min_eq_left y]
      · rw [← ez, Nat.min_eq_right (by omega)]
    refine pk_le 12 i (fun z => absurd z (by omega)) (fun _ => ⟨pk_in i 12 hi, pk_in u 12 hu, ?_⟩)
    refine pk_le (R i) (R u) (fun z => e72 1000000 (by omega) ?_) (fun z => ⟨pk_in u 12 hu, pk_in (u * 12 + i) 144 (by omega) (ra_ix u i), ?_⟩) (ra_at h14 i hi) (ra_at h14 u hu)
    · unfold rj_rx ru_w
      rw [if_neg (by omega)]
      omega
    · rw [ra_at h u hu, ra_at2 h13 u i hu hi (ra_ix u i), eu, nI_add]
      refine e72 (F u + E u i) (by omega) ?_
      unfold rj_rx ru_w
      rw [if_pos z]
theorem wk_du138 {post : Int32 → St1 → Prop} {J : Int32 → (Nat → Int32) → (Nat → Int32) → (Nat → Int32) → (Nat → Int32) → (Nat → Int32) → (Nat → Int32) → (Nat → Int32) → (Nat → Int32) → (Nat → Int32) → (Nat → Int32) → (Nat → Int32) → (Nat → Int32) → (Nat → Int32) → (Nat → Int32) → (Nat → Int32) → (Nat → Int32) → (Nat → Int32) → (Nat → Int32) → (Nat → Int32) → (Nat → Int32) → (Nat → Int32) → (Nat → Int32) → Prop} {fp fh : Int32} {a1 a2 a3 a4 a5 a6 a7 a8 a9 a10 a11 a12 a13 a14 a15 a16 a17 a18 a19 a20 a21 a22 : Nat → Int32} {R F : Nat → Nat} {E : Nat → Nat → Nat} {u : Nat} (hu : u < 12) (h13 : ra_2 a13 E) (hE : ∀ i j, i < 12 → j < 12 → E i j ≤ 1000000) (h14 : ra_1 a14 12 R) (hR : ∀ v, v < 12 → R v < 12) (hF : ra_1 a9 12 F) (hc : ∀ v, v < 12 → F v ≤ 1000000) (H : ∀ b9, ra_1 b9 12 (rj_rx (ru_w R (fun a b => E b a)) F u) → wpX_nearestOpenBack (fun r => J r a1 a2 a3 a4 a5 a6 a7 a8 b9 a10 a11 a12 a13 a14 a15 a16 a17 a18 a19 a20 a21 a22) (fp, fh, a1, a2, a3, a4, a5, a6, a7, a8, b9, a10, a11, a12, a13, a14, a15, a16, a17, a18, a19, a20, a21, a22)) : ∃ n, wX_distanceUp_138 post J (nI u) fp fh n 0 a1 a2 a3 a4 a5 a6 a7 a8 a9 a10 a11 a12 a13 a14 a15 a16 a17 a18 a19 a20 a21 a22 := by
  refine pk_loop (fun n i s => wX_distanceUp_138 post J (nI u) fp fh n (nI i) a1 a2 a3 a4 a5 a6 a7 a8 s a10 a11 a12 a13 a14 a15 a16 a17 a18 a19 a20 a21 a22) (fun i s => ra_1 s 12 (ra_mx i (rj_rx (ru_w R (fun a b => E b a)) F u) F)) 12 0 a9 (by omega) (ra_mx0 hF) ?_ ?_
  · intro n s h
    exact pk_le 12 12 (fun _ => H s (ra_mxE h)) (fun z => absurd z (by omega))
  · intro n i s hi h hw
    have ci := hc i hi
    have cu := hc u hu
    have cw := hE i u hi hu
    have eu : ra_mx i (rj_rx (ru_w R (fun a b => E b a)) F u) F u = F u := by
      by_cases c : u < i
      · rw [ra_mxl c]; unfold rj_rx; omega
      · rw [ra_mxg (by omega)]
    have ri := hR i hi
    have ru := hR u hu
    have e72 : ∀ z, z ≤ 2000000 → min (F i) z = rj_rx (ru_w R (fun a b => E b a)) F u i → wX_distanceUp_185 post J (wX_distanceUp_138 post J (nI u) fp fh n) (nI u) (nI i) (nI z) fp fh a1 a2 a3 a4 a5 a6 a7 a8 s a10 a11 a12 a13 a14 a15 a16 a17 a18 a19 a20 a21 a22 := by
      intro z hz ez
      refine ⟨pk_in i 12 hi, pk_le (F i) z (fun y => ⟨pk_in i 12 hi, pk_in i 12 hi, nm_e (nm_r (nI_1 i) (hw _ (ra_mxS h (nI_clamp (by omega)) ?_)))⟩) (fun y => ⟨pk_in i 12 hi, nm_e (nm_r (nI_1 i) (hw _ (ra_mxS h (nI_clamp (by omega)) ?_)))⟩) (by rw [ra_at h i hi, ra_mxg (Nat.le_refl i)])⟩
      · rw [ra_at h i hi, ra_mxg (Nat.le_refl i), ← ez, Nat.min_eq_left y]
      · rw [← ez, Nat.min_eq_right (by omega)]
    refine pk_le 12 i (fun z => absurd z (by omega)) (fun _ => ⟨pk_in i 12 hi, pk_in u 12 hu, ?_⟩)
    refine pk_le (R i) (R u) (fun z => e72 1000000 (by omega) ?_) (fun z => ⟨pk_in u 12 hu, pk_in (i * 12 + u) 144 (by omega) (ra_ix i u), ?_⟩) (ra_at h14 i hi) (ra_at h14 u hu)
    · unfold rj_rx ru_w
      rw [if_neg (by omega)]
      omega
    · rw [ra_at h u hu, ra_at2 h13 i u hi hu (ra_ix i u), eu, nI_add]
      refine e72 (F u + E i u) (by omega) ?_
      unfold rj_rx ru_w
      rw [if_pos z]
/-- a hierarchy that was laid -/
def rh_ok (W : Nat → Nat → Nat) (a13 a14 : Nat → Int32) : Prop := ∃ E R, ra_2 a13 E ∧ ra_1 a14 12 R ∧ rh_F W R E ∧ (∀ u v, u < 12 → v < 12 → rd_D W u v ≤ E u v ∧ E u v ≤ 1000000) ∧ (∀ v, v < 12 → R v < 12) ∧ (∀ u v, u < 12 → v < 12 → R u = R v → u = v) ∧ (∀ r, r < 12 → ∃ p, p < 12 ∧ R p = r)
theorem wk_distanceUp {post : Int32 → St1 → Prop} {fp fh : Int32} {a1 a2 a3 a4 a5 a6 a7 a8 a9 a10 a11 a12 a13 a14 a15 a16 a17 a18 a19 a20 a21 a22 : Nat → Int32} {W : Nat → Nat → Nat} (hW : rd_ok W) {s t : Nat} (hs : s < 12) (ht : t < 12) (hh : rh_ok W a13 a14) (H : ∀ b7 b8 b9 b10, post (nI (rd_D W s t)) (fp, fh, a1, a2, a3, a4, a5, a6, b7, b8, b9, b10, a11, a12, a13, a14, a15, a16, a17, a18, a19, a20, a21, a22)) : wpX_distanceUp post (fp, fh, a1, a2, a3, a4, a5, a6, a7, a8, a9, a10, a11, a12, a13, a14, a15, a16, a17, a18, a19, a20, a21, a22) (nI s) (nI t) := by
  obtain ⟨E, R, h13, h14, hQ, hE, hR, hRi, _⟩ := hh
  have hEc : ∀ i j, i < 12 → j < 12 → E i j ≤ 1000000 := fun i j hi hj => (hE i j hi hj).2
  refine wk_startBoth hs ht (fun b7 b8 b9 b10 h7 h8 h9 h10 => ?_)
  refine wk_open h7 (fun v _ => rj_0le _ v) (fun x hx => ?_)
  refine lp3 (fun n x c7 c8 => wX_distanceUp_11 post fp fh n x a1 a2 a3 a4 a5 a6 c7 c8 b9 b10 a11 a12 a13 a14 a15 a16 a17 a18 a19 a20 a21 a22) (fun x c7 c8 => ∃ F, rq_s (ru_w R E) (rd_D W s) s c7 c8 F ∧ rq_x x F c8) (fun _ _ c8 => ra_c0 c8 12) ?_ x b7 b8 ⟨_, rq_s0 (rd_self W s) (fun v hv => rd_cap hW hs hv) h7 h8, hx⟩
  rintro n x c7 c8 ⟨F, hq, hx⟩ hw
  rcases hx with ⟨e, hno⟩ | ⟨u, hu, e, hu8, hl, hm⟩
  · rw [e]
    refine br_t (by decide) ?_
    have fin := rj_done hq.2.1 (rq_no hno)
    have upF : ∀ u v, u < 12 → v < 12 → R u < R v → F v ≤ F u + E u v := by
      intro u v hu hv hr
      have := fin u v hu hv
      unfold ru_w at this
      rw [if_pos hr] at this
      exact this
    refine wk_openB h9 (fun v _ => rj_0le _ v) (fun y hy => ?_)
    refine lp3 (fun n x c9 c10 => wX_distanceUp_124 post fp fh n x a1 a2 a3 a4 a5 a6 c7 c8 c9 c10 a11 a12 a13 a14 a15 a16 a17 a18 a19 a20 a21 a22) (fun x c9 c10 => ∃ B, rq_s (ru_w R (fun a b => E b a)) (rd_D (fun i j => W j i) t) t c9 c10 B ∧ rq_x x B c10) (fun _ _ c10 => ra_c0 c10 12) ?_ y b9 b10 ⟨_, rq_s0 (rd_self (fun i j => W j i) _) (fun v hv => rd_cap (rd_ok_tr hW) ht hv) h9 h10, hy⟩
    rintro n x c9 c10 ⟨B, hqB, hx⟩ hw
    rcases hx with ⟨e, hnoB⟩ | ⟨u, hu, e, hu8, hl, hm⟩
    · rw [e]
      refine br_t (by decide) ?_
      have finB := rj_done hqB.2.1 (rq_no hnoB)
      have upB : ∀ u v, u < 12 → v < 12 → R u < R v → B v ≤ B u + E v u := by
        intro u v hu hv hr
        have := finB u v hu hv
        unfold ru_w at this
        rw [if_pos hr] at this
        exact this
      refine wk_shortestMeeting hq.1 hqB.1 hq.2.1.1 hqB.2.1.1 (fun v hv => ?_)
      have g1 := rl_meet hW hs ht hq.2.2.2 (fun p hp => by have := hqB.2.2.2 p hp; rw [rd_D_tr W] at this; exact this) hv
      have g2 := rd_cap hW hs ht
      have ev : v = rd_D W s t := by
        by_cases c : rd_D W s t < 1000000
        · obtain ⟨p, hp, hm⟩ := rh_meet hW hs ht hQ hRi upF upB hq.2.2.1 hqB.2.2.1 c
          have := hv.2.1 p hp
          dsimp only at this
          omega
        · have := hv.1
          omega
      rw [ev]
      exact H c7 c8 c9 c10
    · rw [e]
      refine br_f (nI_pos (by omega)) ⟨pk_in u 12 hu, nm_r (by rw [nI_clamp (by omega)]) ?_⟩
      refine wk_du138 hu h13 hEc h14 hR hqB.1 hqB.2.1.1 (fun d9 hd9 => ?_)
      have hq' := rq_sS hqB (fun v hv => by
        have g1 := rd_tri W hu v t
        rw [rd_D_tr W, rd_D_tr W]
        unfold ru_w
        split
        · have g2 := (hE v u hv hu).1
          dsimp only
          omega
        · have := rd_cap hW hv ht
          omega) hu hu8 hm hd9
      exact wk_openB hd9 hq'.2.1.1 (fun y hy => hw y d9 (upd c10 u 1) ⟨_, hq', hy⟩ (rq_c hu hu8))
  · rw [e]
    refine br_f (nI_pos (by omega)) ⟨pk_in u 12 hu, nm_r (by rw [nI_clamp (by omega)]) ?_⟩
    refine wk_du25 hu h13 hEc h14 hR hq.1 hq.2.1.1 (fun d7 hd7 => ?_)
    have hq' := rq_sS hq (fun v hv => by
      have g1 := rd_tri W hu s v
      unfold ru_w
      split
      · have g2 := (hE u v hu hv).1
        omega
      · have := rd_cap hW hs hv
        omega) hu hu8 hm hd7
    exact wk_open hd7 hq'.2.1.1 (fun y hy => hw y d7 (upd c8 u 1) ⟨_, hq', hy⟩ (rq_c hu hu8))
/-! engine 4: towards t by landmarks -/
theorem rm_sle {a b v : Nat} (ha : a < 2 ^ 30) (hb : b < 2 ^ 30) (hv : v < 2 ^ 31) : nI b - nI a ≤ nI v ↔ b - a ≤ v := by
  rw [Int32.le_iff_toInt_le, pk_sub_toInt hb ha, nI_toInt hv]
  omega
def rm_M (W : Nat → Nat → Nat) (l p : Nat) : Nat := rd_D W (rm_k l) p
def rm_N (W : Nat → Nat → Nat) (l p : Nat) : Nat := rd_D W p (rm_k l)
theorem rm_rM {W : Nat → Nat → Nat} {a18 a19 : Nat → Int32} (h : rm_ok W a18 a19) {l p : Nat} (hl : l < 3) (hp : p < 12) : a18 (nI l * 12 + nI p).toNatClampNeg = nI (rm_M W l p) := by
  rw [ra_ix, nI_clamp (by omega), h.1 (l * 12 + p) (by omega), show (l * 12 + p) / 12 = l by omega, show (l * 12 + p) % 12 = p by omega]
  rfl
theorem rm_rN {W : Nat → Nat → Nat} {a18 a19 : Nat → Int32} (h : rm_ok W a18 a19) {l p : Nat} (hl : l < 3) (hp : p < 12) : a19 (nI l * 12 + nI p).toNatClampNeg = nI (rm_N W l p) := by
  rw [ra_ix, nI_clamp (by omega), h.2 (l * 12 + p) (by omega), show (l * 12 + p) / 12 = l by omega, show (l * 12 + p) % 12 = p by omega]
  rfl
theorem wk_atLeast {post : Int32 → Prop} {fp fh : Int32} {a1 a2 a3 a4 a5 a6 a7 a8 a9 a10 a11 a12 a13 a14 a15 a16 a17 a18 a19 a20 a21 a22 : Nat → Int32} {W : Nat → Nat → Nat} (hW : rd_ok W) (hm : rm_ok W a18 a19) {p t : Nat} (hp : p < 12) (ht : t < 12) (H : post (nI (rm_pi (rm_M W) (rm_N W) p t 3))) : wpX_atLeast post (fp, fh, a1, a2, a3, a4, a5, a6, a7, a8, a9, a10, a11, a12, a13, a14, a15, a16, a17, a18, a19, a20, a21, a22) (nI p) (nI t) := by
  refine pk_loop (fun n i b => wX_atLeast_5 post (nI p) (nI t) fp fh a1 a2 a3 a4 a5 a6 a7 a8 a9 a10 a11 a12 a13 a14 a15 a16 a17 a18 a19 a20 a21 a22 n b (nI i)) (fun i b => b = nI (rm_pi (rm_M W) (rm_N W) p t i)) 3 0 0 (by omega) rfl ?_ ?_
  · intro n b h
    rw [h]
    exact pk_le 3 3 (fun _ => H) (fun z => absurd z (by omega))
  · intro n l b hl h hw
    rw [h]
    have hk := rm_k_lt l
    have c1 : rm_M W l p ≤ 1000000 := rd_cap hW hk hp
    have c2 : rm_M W l t ≤ 1000000 := rd_cap hW hk ht
    have c3 : rm_N W l p ≤ 1000000 := rd_cap hW hp hk
    have c4 : rm_N W l t ≤ 1000000 := rd_cap hW ht hk
    have c5 := rm_pi_le (rm_M W) (rm_N W) p t l
    have e71 : ∀ z, z ≤ 1000000 → max (rm_pi (rm_M W) (rm_N W) p t l) (rm_t (rm_M W l p) (rm_M W l t)) = z → wX_atLeast_71 post (wX_atLeast_5 post (nI p) (nI t) fp fh a1 a2 a3 a4 a5 a6 a7 a8 a9 a10 a11 a12 a13 a14 a15 a16 a17 a18 a19 a20 a21 a22 n) (nI p) (nI t) (nI l) (nI z) fp fh a1 a2 a3 a4 a5 a6 a7 a8 a9 a10 a11 a12 a13 a14 a15 a16 a17 a18 a19 a20 a21 a22 := by
      intro z hz ez
      have step : ∀ y, max z (rm_t (rm_N W l t) (rm_N W l p)) = y → wX_atLeast_5 post (nI p) (nI t) fp fh a1 a2 a3 a4 a5 a6 a7 a8 a9 a10 a11 a12 a13 a14 a15 a16 a17 a18 a19 a20 a21 a22 n (nI y) (nI (l + 1)) := by
        intro y ey
        refine hw (nI y) ?_
        rw [← ey, ← ez]
        rfl
      refine ⟨pk_in (l * 12 + p) 36 (by omega) (ra_ix l p), nm_r (rm_rN hm hl hp) ⟨pk_in (l * 12 + t) 36 (by omega) (ra_ix l t), nm_r (rm_rN hm hl ht) ?_⟩⟩
      refine pk_le 1000000 (rm_N W l p) (fun y => nm_r (nI_1 l) (step z ?_)) (fun y => pk_le 1000000 (rm_N W l t) (fun y2 => nm_r (nI_1 l) (step z ?_)) (fun y2 => ek_if (rm_sle (by omega) (by omega) (by omega)) (fun y3 => nm_r (nI_1 l) (step z ?_)) (fun y3 => nm_r (pk_sub (by omega)) (nm_r (nI_1 l) (step _ ?_)))))
      · unfold rm_t
        rw [if_neg (by omega)]
        omega
      · unfold rm_t
        rw [if_neg (by omega)]
        omega
      · unfold rm_t
        rw [if_pos (by omega)]
        omega
      · unfold rm_t
        rw [if_pos (by omega)]
        omega
    refine pk_le 3 l (fun z => absurd z (by omega)) (fun _ => ⟨pk_in (l * 12 + p) 36 (by omega) (ra_ix l p), nm_r (rm_rM hm hl hp) ⟨pk_in (l * 12 + t) 36 (by omega) (ra_ix l t), nm_r (rm_rM hm hl ht) ?_⟩⟩)
    refine pk_le 1000000 (rm_M W l p) (fun y => e71 _ c5 ?_) (fun y => pk_le 1000000 (rm_M W l t) (fun y2 => e71 _ c5 ?_) (fun y2 => ek_if (rm_sle (by omega) (by omega) (by omega)) (fun y3 => e71 _ c5 ?_) (fun y3 => ?_)))
    · unfold rm_t
      rw [if_neg (by omega)]
      omega
    · unfold rm_t
      rw [if_neg (by omega)]
      omega
    · unfold rm_t
      rw [if_pos (by omega)]
      omega
    · rw [pk_sub (by omega)]
      refine e71 _ (by omega) ?_
      unfold rm_t
      rw [if_pos (by omega)]
      omega
def rq_g (x : Int32) (F π : Nat → Nat) (b : Nat → Int32) : Prop := (x = -1 ∧ ∀ v, v < 12 → b v = 0 → F v < 1000000 → 1000000 ≤ F v + π v) ∨ (∃ u, u < 12 ∧ x = nI u ∧ b u = 0 ∧ F u < 1000000 ∧ ∀ v, v < 12 → b v = 0 → F v < 1000000 → F u + π u ≤ F v + π v)
theorem wk_nearestToGoal {post : Int32 → Prop} {fp fh : Int32} {a1 a2 a3 a4 a5 a6 a7 a8 a9 a10 a11 a12 a13 a14 a15 a16 a17 a18 a19 a20 a21 a22 : Nat → Int32} {W : Nat → Nat → Nat} (hW : rd_ok W) (hm : rm_ok W a18 a19) {t : Nat} (ht : t < 12) {F : Nat → Nat} (hF : ra_1 a7 12 F) (hc : ∀ v, v < 12 → F v ≤ 1000000) (H : ∀ x, rq_g x F (fun p => rm_pi (rm_M W) (rm_N W) p t 3) a8 → post x) : wpX_nearestToGoal post (fp, fh, a1, a2, a3, a4, a5, a6, a7, a8, a9, a10, a11, a12, a13, a14, a15, a16, a17, a18, a19, a20, a21, a22) (nI t) := by
  refine pk_loop (σ := Int32 × Int32) (fun n i b => wX_nearestToGoal_8 post (nI t) fp fh a1 a2 a3 a4 a5 a6 a7 a8 a9 a10 a11 a12 a13 a14 a15 a16 a17 a18 a19 a20 a21 a22 n b.1 b.2 (nI i)) (fun i b => ∃ m, m ≤ 1000000 ∧ b.2 = nI m ∧ (∀ v, v < i → a8 v = 0 → F v < 1000000 → m ≤ F v + rm_pi (rm_M W) (rm_N W) v t 3) ∧ ((b.1 = -1 ∧ m = 1000000) ∨ (∃ u, u < i ∧ b.1 = nI u ∧ a8 u = 0 ∧ F u < 1000000 ∧ m = F u + rm_pi (rm_M W) (rm_N W) u t 3))) 12 0 (-1, 1000000) (by omega) ⟨1000000, by omega, rfl, lt_0, Or.inl ⟨rfl, rfl⟩⟩ ?_ ?_
  · rintro n ⟨b, w⟩ ⟨m, hm1, ew, hv, hb⟩
    refine pk_le 12 12 (fun _ => H b ?_) (fun z => absurd z (by omega))
    rcases hb with ⟨eb, em⟩ | ⟨u, hu, eb, hu8, hl, em⟩
    · exact Or.inl ⟨eb, fun v hv' h8 hl => by have := hv v hv' h8 hl; dsimp only; omega⟩
    · exact Or.inr ⟨u, hu, eb, hu8, hl, fun v hv' h8 hl => by have := hv v hv' h8 hl; dsimp only; omega⟩
  · rintro n i ⟨b, w⟩ hi ⟨m, hm1, ew, hv, hb⟩ hw
    dsimp only at ew hb
    have ci := hc i hi
    have cp := rm_pi_le (rm_M W) (rm_N W) i t 3
    have e57 : ∀ y, y ≤ 2000000 → (y < 1000000 → a8 i = 0 ∧ F i < 1000000 ∧ y = F i + rm_pi (rm_M W) (rm_N W) i t 3) → (a8 i = 0 → F i < 1000000 → y = F i + rm_pi (rm_M W) (rm_N W) i t 3) → wX_nearestToGoal_57 post (wX_nearestToGoal_8 post (nI t) fp fh a1 a2 a3 a4 a5 a6 a7 a8 a9 a10 a11 a12 a13 a14 a15 a16 a17 a18 a19 a20 a21 a22 n) (nI t) b w (nI i) (nI y) fp fh a1 a2 a3 a4 a5 a6 a7 a8 a9 a10 a11 a12 a13 a14 a15 a16 a17 a18 a19 a20 a21 a22 := by
      intro y hy hy1 hy2
      rw [ew]
      refine pk_le m y (fun z => pk_le m y (fun _ => nm_r (nI_1 i) (hw (b, nI m) ⟨m, hm1, rfl, lt_s hv (fun h8 hl => ?_), ?_⟩)) (fun z2 => absurd z2 (by omega))) (fun z => pk_le m y (fun z2 => absurd z2 (by omega)) (fun _ => nm_r (nI_1 i) (hw (nI i, nI y) ⟨y, by omega, rfl, lt_s (fun v hv' h8 hl => ?_) (fun h8 hl => ?_), Or.inr ⟨i, by omega, rfl, (hy1 (by omega)).1, (hy1 (by omega)).2⟩⟩)))
      · have := hy2 h8 hl
        omega
      · rcases hb with z | ⟨u, hu, z⟩
        · exact Or.inl z
        · exact Or.inr ⟨u, by omega, z⟩
      · have := hv v hv' h8 hl
        omega
      · have := hy2 h8 hl
        omega
    refine pk_le 12 i (fun z => absurd z (by omega)) (fun _ => ⟨pk_in i 12 hi, ?_⟩)
    refine br_c (fun z => ⟨pk_in i 12 hi, ?_⟩) (fun z => ?_)
    · rw [nI_clamp (by omega)] at z
      refine pk_lt (F i) 1000000 (fun y => ⟨pk_in i 12 hi, wk_atLeast hW hm hi ht ?_⟩) (fun y => ?_) (ra_at hF i hi)
      · rw [ra_at hF i hi, nI_add]
        exact e57 _ (by omega) (fun _ => ⟨z, y, rfl⟩) (fun _ _ => rfl)
      · exact e57 1000000 (by omega) (fun y2 => absurd y2 (by omega)) (fun _ y2 => absurd y2 (by omega))
    · rw [nI_clamp (by omega)] at z
      exact e57 1000000 (by omega) (fun y2 => absurd y2 (by omega)) (fun y2 => absurd y2 z)
theorem wk_distanceWithLandmarks {post : Int32 → St1 → Prop} {fp fh : Int32} {a1 a2 a3 a4 a5 a6 a7 a8 a9 a10 a11 a12 a13 a14 a15 a16 a17 a18 a19 a20 a21 a22 : Nat → Int32} {W : Nat → Nat → Nat} (hW : rd_ok W) {s t : Nat} (hs : s < 12) (ht : t < 12) (h4 : ra_2 a4 W) (hm : rm_ok W a18 a19) (H : ∀ b7 b8 b9 b10, post (nI (rd_D W s t)) (fp, fh, a1, a2, a3, a4, a5, a6, b7, b8, b9, b10, a11, a12, a13, a14, a15, a16, a17, a18, a19, a20, a21, a22)) : wpX_distanceWithLandmarks post (fp, fh, a1, a2, a3, a4, a5, a6, a7, a8, a9, a10, a11, a12, a13, a14, a15, a16, a17, a18, a19, a20, a21, a22) (nI s) (nI t) := by
  have cons : ∀ u, u < 12 → rd_D W u t < 1000000 → ∀ y, y < 12 → rd_D W y u < 1000000 → rm_pi (rm_M W) (rm_N W) y t 3 ≤ rd_D W y u + rm_pi (rm_M W) (rm_N W) u t 3 := fun u hu hl y hy hl2 => rm_cons hW (fun l p _ _ => rfl) (fun l p _ _ => rfl) hy hu ht hl2 hl 3 (Nat.le_refl _)
  refine wk_startBoth hs ht (fun b7 b8 b9 b10 h7 h8 h9 h10 => ?_)
  refine wk_nearestToGoal hW hm ht h7 (fun v _ => rj_0le _ v) (fun x hx => ?_)
  refine lp3 (fun n x c7 c8 => wX_distanceWithLandmarks_12 post (nI t) n x fp fh a1 a2 a3 a4 a5 a6 c7 c8 b9 b10 a11 a12 a13 a14 a15 a16 a17 a18 a19 a20 a21 a22) (fun x c7 c8 => ∃ F, ra_1 c7 12 F ∧ rm_ai W s t F (fun v => ¬ c8 v = 0) ∧ c8 t = 0 ∧ rq_g x F (fun p => rm_pi (rm_M W) (rm_N W) p t 3) c8) (fun _ _ c8 => ra_c0 c8 12) ?_ x b7 b8 ⟨_, h7, rm_ai0 hW hs (fun v hv z => z (h8 v hv)), h8 t ht, hx⟩
  rintro n x c7 c8 ⟨F, hF, hai, ht8, hx⟩ hw
  have capt := rd_cap hW hs ht
  rcases hx with ⟨e, hno⟩ | ⟨u, hu, e, hu8, hl, hmn⟩
  · rw [e]
    have ed : rd_D W s t = 1000000 := by
      refine Classical.byContradiction (fun c => ?_)
      obtain ⟨y, hy, gy, sy, fy, py⟩ := rm_open hW hs ht hai ht (by rw [rd_self]; omega) (by omega) (fun z => z ht8)
      have g1 := hno y hy (Decidable.not_not.mp sy) (by omega)
      have g2 := cons t ht (by rw [rd_self]; omega) y hy gy
      have g3 := rd_bd hW hs ht (by omega)
      dsimp only at g1
      rw [rm_pi_self] at g2
      omega
    refine br_t (by decide) (br_f ?_ ?_)
    · intro z
      have := nI_pos (n := t) (by omega)
      rw [← z] at this
      exact absurd this (by decide)
    · rw [show (1000000 : Int32) = nI (rd_D W s t) by rw [ed]; rfl]
      exact H c7 c8 b9 b10
  · rw [e]
    have sel : rd_D W u t < 1000000 → F u ≤ rd_D W s u := fun g => rm_sel hW hs ht (π := fun p => rm_pi (rm_M W) (rm_N W) p t 3) hai hu g (fun z => z hu8) (fun v hv z hl => hmn v hv (Decidable.not_not.mp z) hl) (cons u hu g)
    refine br_f (nI_pos (by omega)) (pk_eq u t (fun eu => ?_) (fun eu => ?_))
    · refine pk_eq u t (fun _ => ⟨pk_in t 12 ht, ?_⟩) (fun z => absurd eu z)
      have g1 := sel (by rw [eu, rd_self]; omega)
      rw [eu] at g1
      have g2 := (hai.2.1 t ht).1
      rw [ra_at hF t ht, show F t = rd_D W s t by omega]
      exact H c7 c8 b9 b10
    · refine wk_settleForwards hu hF (fun v hv => (hai.2.1 v hv).2) h4 (rq_wc hW) (fun d7 hd7 => ?_)
      have hai' := rm_step hs hai hu sel (S' := fun v => ¬ upd c8 u 1 v = 0) ra_s0
      refine wk_nearestToGoal hW hm ht hd7 (fun v hv => (hai'.2.1 v hv).2) (fun y hy => hw y d7 (upd c8 u 1) ⟨_, hd7, hai', ?_, hy⟩ (rq_c hu hu8))
      rw [pk_un (fun z => eu z.symm)]
      exact ht8
end
section
theorem ra_uu (f : Nat → Int32) (k : Nat) (x y : Int32) : upd (upd f k x) k y = upd f k y := by
  funext j
  by_cases e : j = k
  · rw [e, pk_us, pk_us]
  · rw [pk_un e, pk_un e, pk_un e]
theorem rl_Tc {W : Nat → Nat → Nat} (hW : rd_ok W) {H : Nat → Prop} {T X : Nat → Nat → Nat} (h : rl_inv W H T X) : ∀ i j, i < 12 → j < 12 → T i j ≤ 1000000 := by
  intro i j hi hj
  have c := rd_cap hW hi hj
  rcases h.1 i j hi hj with z | z <;> omega
theorem rl_Xc {W : Nat → Nat → Nat} (hW : rd_ok W) {H : Nat → Prop} {T X : Nat → Nat → Nat} (h : rl_inv W H T X) : ∀ i j, i < 12 → j < 12 → X i j ≤ 1000000 := by
  intro i j hi hj
  have c := rd_cap hW hj hi
  rcases h.2.1 i j hi hj with z | z <;> omega
theorem rl_Nc {W : Nat → Nat → Nat} (hW : rd_ok W) {C : Nat → Prop} {s : Nat} (hs : s < 12) {F : Nat → Nat} {S : Nat → Prop} {N : Nat → Nat} (h : rl_pi W C s F S N) {x : Nat} (hx : x < 12) : N x ≤ 1000000 := by
  have c := rd_cap hW hs hx
  rcases h.2.2.2 x hx with z | z
  · have := z.2.2
    omega
  · have := z.2
    omega
theorem wk_labelFrom {post : St1 → Prop} {fp fh : Int32} {a1 a2 a3 a4 a5 a6 a7 a8 a9 a10 a11 a12 a13 a14 a15 a16 a17 a18 a19 a20 a21 a22 : Nat → Int32} {W : Nat → Nat → Nat} (hW : rd_ok W) (h4 : ra_2 a4 W) {Hb : Nat → Prop} {T X : Nat → Nat → Nat} (h15 : ra_2 a15 T) (h16 : ra_2 a16 X) (hinv : rl_inv W Hb T X) {k : Nat} (hk : k < 12) (hHk : ¬ Hb k)
    (H : ∀ b7 b8 b9 b10 b16 X', ra_2 b16 X' → (∀ a j, a < 12 → j < 12 → j ≠ k → X' a j = X a j) → (∀ x, x < 12 → (X' x k = 1000000 ∨ X' x k = rd_D W k x) ∧ (rd_D W k x < 1000000 → ¬ rl_cov W Hb k x → X' x k = rd_D W k x)) → post (fp, fh, a1, a2, a3, a4, a5, a6, b7, b8, b9, b10, a11, a12, a13, a14, a15, b16, a17, a18, a19, a20, a21, a22)) : wpX_labelFrom post (fp, fh, a1, a2, a3, a4, a5, a6, a7, a8, a9, a10, a11, a12, a13, a14, a15, a16, a17, a18, a19, a20, a21, a22) (nI k) := by
  refine wk_startBoth hk hk (fun b7 b8 b9 b10 h7 h8 h9 h10 => ?_)
  refine wk_open h7 (fun v _ => rj_0le _ v) (fun x hx => ?_)
  refine lp4 (fun n x c7 c8 c16 => wX_labelFrom_11 post (nI k) n x fp fh a1 a2 a3 a4 a5 a6 c7 c8 b9 b10 a11 a12 a13 a14 a15 c16 a17 a18 a19 a20 a21 a22) (fun x c7 c8 c16 => ∃ F X', ra_1 c7 12 F ∧ ra_2 c16 X' ∧ (∀ a j, a < 12 → j < 12 → j ≠ k → X' a j = X a j) ∧ rl_pi W (rl_cov W Hb k) k F (fun v => ¬ c8 v = 0) (fun v => X' v k) ∧ rq_x x F c8) (fun _ _ c8 _ => ra_c0 c8 12) ?_ x b7 b8 a16 ⟨_, X, h7, h16, fun _ _ _ _ _ => rfl, rl_pi0 hW hk (fun v hv z => z (h8 v hv)) (fun v hv => (hinv.2.2.1 v k hv hk hHk).2), hx⟩
  rintro n x c7 c8 c16 ⟨F, X', hF, hX, hXn, hpi, hx⟩ hw
  rcases hx with ⟨e, hno⟩ | ⟨u, hu, e, hu8, hl, hm⟩
  · rw [e]
    exact br_t (by decide) (H c7 c8 b9 b10 c16 X' hX hXn (rl_piE hW hk hpi (rq_no hno)))
  · rw [e]
    have Tk : T k k = 1000000 := (hinv.2.2.1 k k hk hk hHk).1
    have fc : ∀ v, v < 12 → F v ≤ 1000000 := fun v hv => (hpi.2.1 v hv).2
    have fu := fc u hu
    have X'c : ∀ i j, i < 12 → j < 12 → X' i j ≤ 1000000 := by
      intro i j hi hj
      by_cases ej : j = k
      · rw [ej]; exact rl_Nc hW hk hpi hi
      · rw [hXn i j hi hj ej]; exact rl_Xc hW hinv i j hi hj
    refine br_f (nI_pos (by omega)) (wk_distanceByLabels hk hu h15 hX (rl_Tc hW hinv) X'c (fun v hv => ⟨pk_in u 12 hu, ?_⟩))
    have hv' : rl_min (fun j => T k j + X u j) v := rl_minC (k := k) (fun j hj ne => by rw [hXn u j hu hj ne]) (by omega) (by omega) hv
    have q := rl_q hW hinv hk hu hv'
    have du := (hpi.2.1 u hu).1
    have v1 := hv.1
    by_cases c : rl_cov W Hb k u
    · have ev := q.2.1 (by omega) c
      refine pk_le v (F u) (fun _ => ⟨pk_in u 12 hu, nm_r (by rw [nI_clamp (by omega)]) ?_⟩) (fun z => absurd z (by omega)) rfl (ra_at hF u hu)
      exact wk_open hF fc (fun y hy => hw y c7 (upd c8 u 1) c16 ⟨F, X', hF, hX, hXn, rl_piA hpi c ra_s0, hy⟩ (rq_c hu hu8))
    · have ef := rl_ex hW hk hpi hu (fun z => z hu8) c (by omega) (rq_mn hm)
      have lv := q.2.2 (by omega) c
      have ix : (nI u * 12 + nI k).toNatClampNeg = u * 12 + k := by rw [ra_ix]; exact nI_clamp (by omega)
      refine pk_le v (F u) (fun z => absurd z (by omega)) (fun _ => ⟨pk_in u 12 hu, pk_in (u * 12 + k) 144 (by omega) (ra_ix u k), nm_r (by rw [ix, ra_at hF u hu]) ?_⟩) rfl (ra_at hF u hu)
      refine wk_settleForwards hu hF fc h4 (rq_wc hW) (fun d7 hd7 => ⟨pk_in u 12 hu, nm_r (by rw [nI_clamp (show u < 2 ^ 31 by omega), ra_uu]) ?_⟩)
      have hpi' := rl_piB hk (S' := fun v => ¬ upd c8 u 1 v = 0) (N' := fun v => if v = u ∧ k = k then F u else X' v k) hpi hu c ef ra_s0 (if_pos ⟨rfl, rfl⟩) (fun v hv ne => if_neg (fun z => ne z.1))
      refine wk_open hd7 (fun v hv => (hpi'.2.1 v hv).2) (fun y hy => hw y d7 (upd c8 u 1) _ ⟨_, fun a j => if a = u ∧ j = k then F u else X' a j, hd7, ra_up2 hX hu hk rfl (by rw [if_pos ⟨rfl, rfl⟩]) (fun i j hi hj ne => if_neg ne), fun a j ha hj ne => (if_neg (fun z => ne z.2)).trans (hXn a j ha hj ne), hpi', hy⟩ (rq_c hu hu8))
theorem wk_labelTo {post : St1 → Prop} {fp fh : Int32} {a1 a2 a3 a4 a5 a6 a7 a8 a9 a10 a11 a12 a13 a14 a15 a16 a17 a18 a19 a20 a21 a22 : Nat → Int32} {W : Nat → Nat → Nat} (hW : rd_ok W) (h4 : ra_2 a4 W) {Hb : Nat → Prop} {T X X1 : Nat → Nat → Nat} (h15 : ra_2 a15 T) (h16 : ra_2 a16 X1) (hinv : rl_inv W Hb T X) {k : Nat} (hk : k < 12) (hHk : ¬ Hb k) (hX1 : ∀ a j, a < 12 → j < 12 → j ≠ k → X1 a j = X a j) (hX1c : ∀ a, a < 12 → X1 a k ≤ 1000000)
    (H : ∀ b7 b8 b9 b10 b15 T', ra_2 b15 T' → (∀ a j, a < 12 → j < 12 → j ≠ k → T' a j = T a j) → (∀ x, x < 12 → (T' x k = 1000000 ∨ T' x k = rd_D W x k) ∧ (rd_D W x k < 1000000 → ¬ rl_cov W Hb x k → T' x k = rd_D W x k)) → post (fp, fh, a1, a2, a3, a4, a5, a6, b7, b8, b9, b10, a11, a12, a13, a14, b15, a16, a17, a18, a19, a20, a21, a22)) : wpX_labelTo post (fp, fh, a1, a2, a3, a4, a5, a6, a7, a8, a9, a10, a11, a12, a13, a14, a15, a16, a17, a18, a19, a20, a21, a22) (nI k) := by
  have hWt := rd_ok_tr hW
  refine wk_startBoth hk hk (fun b7 b8 b9 b10 h7 h8 h9 h10 => ?_)
  refine wk_openB h9 (fun v _ => rj_0le _ v) (fun x hx => ?_)
  refine lp4 (fun n x c9 c10 c15 => wX_labelTo_11 post (nI k) n x fp fh a1 a2 a3 a4 a5 a6 b7 b8 c9 c10 a11 a12 a13 a14 c15 a16 a17 a18 a19 a20 a21 a22) (fun x c9 c10 c15 => ∃ F T', ra_1 c9 12 F ∧ ra_2 c15 T' ∧ (∀ a j, a < 12 → j < 12 → j ≠ k → T' a j = T a j) ∧ rl_pi (fun i j => W j i) (rl_cov (fun i j => W j i) Hb k) k F (fun v => ¬ c10 v = 0) (fun v => T' v k) ∧ rq_x x F c10) (fun _ _ c10 _ => ra_c0 c10 12) ?_ x b9 b10 a15 ⟨_, T, h9, h15, fun _ _ _ _ _ => rfl, rl_pi0 hWt hk (fun v hv z => z (h10 v hv)) (fun v hv => (hinv.2.2.1 v k hv hk hHk).1), hx⟩
  rintro n x c9 c10 c15 ⟨F, T', hF, hT, hTn, hpi, hx⟩ hw
  rcases hx with ⟨e, hno⟩ | ⟨u, hu, e, hu8, hl, hm⟩
  · rw [e]
    refine br_t (by decide) (H b7 b8 c9 c10 c15 T' hT hTn (fun x hx => ?_))
    have fin := rl_piE hWt hk hpi (rq_no hno) x hx
    rw [rd_D_tr W, rl_covT] at fin
    exact fin
  · rw [e]
    have fc : ∀ v, v < 12 → F v ≤ 1000000 := fun v hv => (hpi.2.1 v hv).2
    have fu := fc u hu
    have T'c : ∀ i j, i < 12 → j < 12 → T' i j ≤ 1000000 := by
      intro i j hi hj
      by_cases ej : j = k
      · rw [ej]; exact rl_Nc hWt hk hpi hi
      · rw [hTn i j hi hj ej]; exact rl_Tc hW hinv i j hi hj
    have X1c : ∀ i j, i < 12 → j < 12 → X1 i j ≤ 1000000 := by
      intro i j hi hj
      by_cases ej : j = k
      · rw [ej]; exact hX1c i hi
      · rw [hX1 i j hi hj ej]; exact rl_Xc hW hinv i j hi hj
    have Tu : T u k = 1000000 := (hinv.2.2.1 u k hu hk hHk).1
    have T'u : T' u k = 1000000 := by
      rcases hpi.2.2.2 u hu with z | z
      · exact absurd hu8 z.1
      · exact z.2
    refine br_f (nI_pos (by omega)) (wk_distanceByLabels hu hk hT h16 T'c X1c (fun v hv => ⟨pk_in u 12 hu, ?_⟩))
    have hv' : rl_min (fun j => T u j + X k j) v := rl_minC (k := k) (fun j hj ne => by rw [hX1 k j hk hj ne, hTn u j hu hj ne]) (by omega) (by omega) hv
    have q := rl_q hW hinv hu hk hv'
    have du := (hpi.2.1 u hu).1
    rw [rd_D_tr W] at du
    have v1 := hv.1
    by_cases c : rl_cov (fun i j => W j i) Hb k u
    · have ev := q.2.1 (by omega) (rl_covT.mp c)
      refine pk_le v (F u) (fun _ => ⟨pk_in u 12 hu, nm_r (by rw [nI_clamp (by omega)]) ?_⟩) (fun z => absurd z (by omega)) rfl (ra_at hF u hu)
      exact wk_openB hF fc (fun y hy => hw y c9 (upd c10 u 1) c15 ⟨F, T', hF, hT, hTn, rl_piA hpi c ra_s0, hy⟩ (rq_c hu hu8))
    · have ef := rl_ex hWt hk hpi hu (fun z => z hu8) c (by rw [rd_D_tr W]; omega) (rq_mn hm)
      have ef' := ef
      rw [rd_D_tr W] at ef'
      have lv := q.2.2 (by omega) (fun z => c (rl_covT.mpr z))
      have ix : (nI u * 12 + nI k).toNatClampNeg = u * 12 + k := by rw [ra_ix]; exact nI_clamp (by omega)
      refine pk_le v (F u) (fun z => absurd z (by omega)) (fun _ => ⟨pk_in u 12 hu, pk_in (u * 12 + k) 144 (by omega) (ra_ix u k), nm_r (by rw [ix, ra_at hF u hu]) ?_⟩) rfl (ra_at hF u hu)
      refine wk_settleBackwards hu hF fc h4 (rq_wc hW) (fun d9 hd9 => ⟨pk_in u 12 hu, nm_r (by rw [nI_clamp (show u < 2 ^ 31 by omega), ra_uu]) ?_⟩)
      have hpi' := rl_piB hk (S' := fun v => ¬ upd c10 u 1 v = 0) (N' := fun v => if v = u ∧ k = k then F u else T' v k) hpi hu c ef ra_s0 (if_pos ⟨rfl, rfl⟩) (fun v hv ne => if_neg (fun z => ne z.1))
      refine wk_openB hd9 (fun v hv => (hpi'.2.1 v hv).2) (fun y hy => hw y d9 (upd c10 u 1) _ ⟨_, fun a j => if a = u ∧ j = k then F u else T' a j, hd9, ra_up2 hT hu hk rfl (by rw [if_pos ⟨rfl, rfl⟩]) (fun i j hi hj ne => if_neg ne), fun a j ha hj ne => (if_neg (fun z => ne z.2)).trans (hTn a j ha hj ne), hpi', hy⟩ (rq_c hu hu8))
/-- labels that were laid -/
def rl_ok (W : Nat → Nat → Nat) (a15 a16 : Nat → Int32) : Prop := ∃ T X H, ra_2 a15 T ∧ ra_2 a16 X ∧ rl_inv W H T X ∧ ∀ v, v < 12 → H v
def rl_H (i h : Nat) : Prop := ∃ j, j < i ∧ h = (j * 5 + 6) % 12
theorem wk_layLabels {post : St1 → Prop} {fp fh : Int32} {a1 a2 a3 a4 a5 a6 a7 a8 a9 a10 a11 a12 a13 a14 a15 a16 a17 a18 a19 a20 a21 a22 : Nat → Int32} {W : Nat → Nat → Nat} (hW : rd_ok W) (h4 : ra_2 a4 W) (H : ∀ b7 b8 b9 b10 b15 b16, rl_ok W b15 b16 → post (fp, fh, a1, a2, a3, a4, a5, a6, b7, b8, b9, b10, a11, a12, a13, a14, b15, b16, a17, a18, a19, a20, a21, a22)) : wpX_layLabels post (fp, fh, a1, a2, a3, a4, a5, a6, a7, a8, a9, a10, a11, a12, a13, a14, a15, a16, a17, a18, a19, a20, a21, a22) := by
  refine pk_loop (σ := (Nat → Int32) × (Nat → Int32)) (fun n i q => wX_layLabels_2 post fp fh n (nI i) a1 a2 a3 a4 a5 a6 a7 a8 a9 a10 a11 a12 a13 a14 q.1 q.2 a17 a18 a19 a20 a21 a22) (fun i q => (∀ j, j < i → q.1 j = nI 1000000) ∧ (∀ j, j < i → q.2 j = nI 1000000)) 144 0 (a15, a16) (by omega) ⟨lt_0, lt_0⟩ ?_ ?_
  · rintro n ⟨s15, s16⟩ ⟨h1, h2⟩
    refine pk_le 144 144 (fun _ => ?_) (fun z => absurd z (by omega))
    refine pk_loop (σ := (Nat → Int32) × (Nat → Int32) × (Nat → Int32) × (Nat → Int32) × (Nat → Int32) × (Nat → Int32)) (fun n i q => wX_layLabels_33 post n (nI i) fp fh a1 a2 a3 a4 a5 a6 q.1 q.2.1 q.2.2.1 q.2.2.2.1 a11 a12 a13 a14 q.2.2.2.2.1 q.2.2.2.2.2 a17 a18 a19 a20 a21 a22) (fun i q => ∃ T X, ra_2 q.2.2.2.2.1 T ∧ ra_2 q.2.2.2.2.2 X ∧ rl_inv W (rl_H i) T X) 12 0 (a7, a8, a9, a10, s15, s16) (by omega) ?_ ?_ ?_
    · exact ⟨fun _ _ => 1000000, fun _ _ => 1000000, fun i j hi hj => h1 (i * 12 + j) (by omega), fun i j hi hj => h2 (i * 12 + j) (by omega), rl_inv0 (fun v _ z => by obtain ⟨j, hj, _⟩ := z; omega) (fun _ _ _ _ => rfl) (fun _ _ _ _ => rfl)⟩
    · rintro n q ⟨T, X, g1, g2, g3⟩
      exact pk_le 12 12 (fun _ => H _ _ _ _ _ _ ⟨T, X, rl_H 12, g1, g2, g3, fun v hv => ⟨(v + 6) * 5 % 12, by omega, by omega⟩⟩) (fun z => absurd z (by omega))
    · rintro n i q hi ⟨T, X, g1, g2, g3⟩ hw
      have ek : nI i * 5 + 6 - (nI i * 5 + 6) / 12 * 12 = nI ((i * 5 + 6) % 12) := by
        rw [show nI i * 5 + 6 = nI (i * 5 + 6) by rw [show (5 : Int32) = nI 5 from rfl, show (6 : Int32) = nI 6 from rfl, pk_mul, nI_add]]
        exact pk_rem (d := 12) (by omega) (by omega) (by omega)
      have hk : (i * 5 + 6) % 12 < 12 := by omega
      have hHk : ¬ rl_H i ((i * 5 + 6) % 12) := by
        rintro ⟨j, hj, e⟩
        omega
      have hH' : ∀ v, v < 12 → (rl_H (i + 1) v ↔ rl_H i v ∨ v = (i * 5 + 6) % 12) := by
        intro v _
        constructor
        · rintro ⟨j, hj, e⟩
          by_cases c : j = i
          · right
            rw [e, c]
          · exact Or.inl ⟨j, by omega, e⟩
        · rintro (⟨j, hj, e⟩ | e)
          · exact ⟨j, by omega, e⟩
          · exact ⟨i, by omega, e⟩
      generalize (i * 5 + 6) % 12 = k at ek hk hHk hH'
      have ncov : ¬ rl_cov W (rl_H i) k k := by
        rintro ⟨j, hj, jH, e⟩
        rw [rd_self] at e
        have ne : k ≠ j := fun z => hHk (by rw [z]; exact jH)
        have := rd_pos hW hk hj ne
        omega
      refine pk_le 12 i (fun z => absurd z (by omega)) (fun _ => ⟨by decide, nm_r ek ?_⟩)
      refine wk_labelFrom hW h4 g1 g2 g3 hk hHk (fun b7 b8 b9 b10 b16 X' hX hXn hXk => ?_)
      refine wk_labelTo hW h4 g1 hX g3 hk hHk hXn (fun a ha => ?_) (fun c7 c8 c9 c10 b15 T' hT hTn hTk => ?_)
      · have := rd_cap hW hk ha
        rcases (hXk a ha).1 with z | z <;> omega
      · have ix : (nI k * 12 + nI k).toNatClampNeg = k * 12 + k := by rw [ra_ix]; exact nI_clamp (by omega)
        have e1 : T' k k = 0 := by
          have := (hTk k hk).2 (by rw [rd_self]; omega) ncov
          rw [rd_self] at this
          exact this
        have e2 : X' k k = 0 := by
          have := (hXk k hk).2 (by rw [rd_self]; omega) ncov
          rw [rd_self] at this
          exact this
        refine ⟨pk_in (k * 12 + k) 144 (by omega) (ra_ix k k), nm_e ⟨pk_in (k * 12 + k) 144 (by omega) (ra_ix k k), nm_e (nm_r (nI_1 i) (hw (_, _, _, _, _, _) ⟨T', X', ?_, ?_, ?_⟩))⟩⟩
        · exact ra_up2 hT hk hk ix (by rw [e1]; rfl) (fun _ _ _ _ _ => rfl)
        · exact ra_up2 hX hk hk ix (by rw [e2]; rfl) (fun _ _ _ _ _ => rfl)
        · exact rl_hub g3 hk hHk hH' hTn hXn hXk hTk
  · rintro n i ⟨s15, s16⟩ hi ⟨h1, h2⟩ hw
    exact pk_le 144 i (fun z => absurd z (by omega)) (fun _ => ⟨pk_in i 144 hi, nm_e ⟨pk_in i 144 hi, nm_e (nm_r (nI_1 i) (hw (_, _) ⟨ra_fl (f := fun _ => nI 1000000) h1 (nI_clamp (by omega)) rfl, ra_fl (f := fun _ => nI 1000000) h2 (nI_clamp (by omega)) rfl⟩))⟩⟩)
end
section
/-! ===== Int32 by its bits: bt x i ===== -/
def bt (x : Int32) (i : Nat) : Bool := x.toBitVec.getLsbD i
theorem b_ext {x y : Int32} (h : ∀ i, i < 32 → bt x i = bt y i) : x = y := Int32.toBitVec_inj.mp (BitVec.eq_of_getLsbD_eq (fun i hi => h i hi))
theorem b_or (x y : Int32) (i : Nat) : bt (x ||| y) i = (bt x i || bt y i) := by unfold bt; rw [Int32.toBitVec_or, BitVec.getLsbD_or]
theorem b_and (x y : Int32) (i : Nat) : bt (x &&& y) i = (bt x i && bt y i) := by unfold bt; rw [Int32.toBitVec_and, BitVec.getLsbD_and]
theorem b_xor (x y : Int32) (i : Nat) : bt (x ^^^ y) i = (bt x i ^^ bt y i) := by unfold bt; rw [Int32.toBitVec_xor, BitVec.getLsbD_xor]
theorem b_big {x : Int32} {i : Nat} (h : 32 ≤ i) : bt x i = false := BitVec.getLsbD_of_ge _ _ h
theorem b_m1 : ∀ i, i < 32 → bt (-1) i = true := by decide +kernel
theorem b_0 (i : Nat) : bt 0 i = false := BitVec.getLsbD_zero
theorem s_l : ∀ n, n < 32 → ((nI n &&& 31).toBitVec.smod 32).toNat = n := by decide +kernel
theorem b_shl (n : Nat) (hn : n < 32) (x : Int32) {i : Nat} (hi : i < 32) : bt (x <<< (nI n &&& 31)) i = (decide (n ≤ i) && bt x (i - n)) := by
  unfold bt
  rw [Int32.toBitVec_shiftLeft]
  show (x.toBitVec <<< ((nI n &&& 31).toBitVec.smod 32).toNat).getLsbD i = _
  rw [s_l n hn, BitVec.getLsbD_shiftLeft]
  rcases Nat.lt_or_ge i n with h | h
  · simp [h, Nat.not_le.mpr h]
  · simp [hi, h, Nat.not_lt.mpr h]
theorem b_sshr (n : Nat) (hn : n < 32) (x : Int32) {i : Nat} (hi : i < 32) : bt (x >>> (nI n &&& 31)) i = if n + i < 32 then bt x (n + i) else bt x 31 := by
  unfold bt
  rw [Int32.toBitVec_shiftRight]
  show (x.toBitVec.sshiftRight ((nI n &&& 31).toBitVec.smod 32).toNat).getLsbD i = _
  rw [s_l n hn, BitVec.getLsbD_sshiftRight, BitVec.msb_eq_getLsbD_last]
  simp [hi]
/-! one bit -/
theorem bq_b1 : ∀ i, i < 32 → bt 1 i = decide (i = 0) := by decide +kernel
theorem bq_sh : ∀ b, b < 32 → ∀ i, i < 32 → bt ((1 : Int32) <<< (nI b &&& 31)) i = decide (i = b) := by decide +kernel
theorem bq_1 (x : Int32) {k : Nat} (hk : k < 32) : (x >>> (nI k &&& 31)) &&& 1 = if bt x k = true then 1 else 0 := by
  refine b_ext (fun i hi => ?_)
  rw [b_and, b_sshr k hk x hi, bq_b1 i hi]
  by_cases e : i = 0
  · rw [e]
    cases h : bt x k
    · simp [hk, h, b_0]
    · simp [hk, h, bq_b1]
  · cases h : bt x k
    · simp [e, b_0]
    · simp [e, bq_b1 i hi]
theorem bq_h {x : Int32} {k : Nat} (hk : k < 32) : rn_h x k = bt x k := by
  unfold rn_h
  rw [bq_1 x hk]
  cases bt x k <;> decide
theorem bq_0 {x : Int32} {k : Nat} (hk : k < 32) : (x >>> (nI k &&& 31)) &&& 1 = 0 ↔ bt x k = false := by
  rw [bq_1 x hk]
  cases bt x k <;> decide
theorem bq_is1 {x : Int32} {k : Nat} (hk : k < 32) : (x >>> (nI k &&& 31)) &&& 1 = 1 ↔ bt x k = true := by
  rw [bq_1 x hk]
  cases bt x k <;> decide
theorem bq_set (x : Int32) {b i : Nat} (hb : b < 32) (hi : i < 32) : bt (x ||| ((1 : Int32) <<< (nI b &&& 31))) i = (bt x i || decide (i = b)) := by
  rw [b_or, bq_sh b hb i hi]
theorem bq_clr (x : Int32) {b i : Nat} (hb : b < 32) (hi : i < 32) : bt (x &&& (((1 : Int32) <<< (nI b &&& 31)) ^^^ (-1))) i = (bt x i && !decide (i = b)) := by
  rw [b_and, b_xor, bq_sh b hb i hi, b_m1 i hi]
  cases bt x i <;> cases decide (i = b) <;> rfl
theorem bq_or0 (x : Int32) : x ||| 0 = x := by
  refine b_ext (fun i hi => ?_)
  rw [b_or, b_0, Bool.or_false]
end
section
/-! the hierarchy is laid: dn the bits of the points that are taken out -/
def rh_L (dn : Int32) (p : Nat) : Prop := (dn >>> (nI p &&& 31)) &&& 1 = 0
theorem wk_isLeft {post : Int32 → Prop} {fp fh : Int32} {a1 a2 a3 a4 a5 a6 a7 a8 a9 a10 a11 a12 a13 a14 a15 a16 a17 a18 a19 a20 a21 a22 : Nat → Int32} {dn : Int32} {p : Nat} (H1 : rh_L dn p → post 1) (H0 : ¬ rh_L dn p → post 0) : wpX_isLeft post (fp, fh, a1, a2, a3, a4, a5, a6, a7, a8, a9, a10, a11, a12, a13, a14, a15, a16, a17, a18, a19, a20, a21, a22) (nI p) dn := br_c H1 H0
def rh_wit (W E : Nat → Nat → Nat) (dn : Int32) (x u q f : Nat) : Prop := E u q ≤ f ∨ ∃ w, w < 12 ∧ rh_L dn w ∧ w ≠ x ∧ w ≠ u ∧ w ≠ q ∧ rd_D W u w + rd_D W w q ≤ f
/-- a state of the search for another way -/
def rh_ho (W E : Nat → Nat → Nat) (dn : Int32) (x u v : Nat) (F : Nat → Nat) (b8 : Nat → Int32) : Prop :=
  (∀ q, q < 12 → F q ≤ 1000000 ∧ rd_D W u q ≤ F q) ∧ (∀ q, q < 12 → b8 q = 0 → rh_L dn q ∧ q ≠ x) ∧ (∀ q, q < 12 → q ≠ u → F q < 1000000 → rh_wit W E dn x u q (F q)) ∧ b8 v = 0 ∧ (b8 u = 0 → F u = 0) ∧ (¬ b8 u = 0 → F v ≤ E u v)
/-- its step -/
def rh_hx (E : Nat → Nat → Nat) (F : Nat → Nat) (b8 : Nat → Int32) (p q : Nat) : Nat := if b8 q = 0 then min (F q) (F p + E p q) else F q
theorem rh_hoS {W E : Nat → Nat → Nat} {dn : Int32} {x u v p : Nat} {F : Nat → Nat} {b8 : Nat → Int32} (hE : ∀ i j, i < 12 → j < 12 → rd_D W i j ≤ E i j) (hv : v < 12) (hp : p < 12) (h : rh_ho W E dn x u v F b8) (hp8 : b8 p = 0) (pv : p ≠ v) : rh_ho W E dn x u v (rh_hx E F (upd b8 p 1) p) (upd b8 p 1) := by
  obtain ⟨h1, h2, h3, h4, h5, h6⟩ := h
  have un : ∀ q, upd b8 p 1 q = 0 → q ≠ p ∧ b8 q = 0 := by
    intro q hq
    have ne : q ≠ p := fun e => by
      rw [e, pk_us] at hq
      exact absurd hq (by decide)
    rw [pk_un ne] at hq
    exact ⟨ne, hq⟩
  have v8 : upd b8 p 1 v = 0 := by rw [pk_un (fun e => pv e.symm)]; exact h4
  refine ⟨fun q hq => ?_, fun q hq z => h2 q hq (un q z).2, fun q hq qu hl => ?_, v8, fun z => ?_, fun z => ?_⟩
  · have a1 := h1 q hq
    have a2 := h1 p hp
    have a3 := rd_tri W hp u q
    have a4 := hE p q hp hq
    unfold rh_hx
    split <;> omega
  · unfold rh_hx at hl ⊢
    by_cases c : upd b8 p 1 q = 0
    · rw [if_pos c] at hl ⊢
      by_cases d : F q ≤ F p + E p q
      · rw [Nat.min_eq_left d] at hl ⊢
        exact h3 q hq qu hl
      · rw [Nat.min_eq_right (by omega)]
        by_cases e : p = u
        · left
          rw [e]
          omega
        · right
          obtain ⟨l1, l2⟩ := h2 p hp hp8
          refine ⟨p, hp, l1, l2, e, fun z => (un q c).1 z.symm, ?_⟩
          have a1 := (h1 p hp).2
          have a2 := hE p q hp hq
          omega
    · rw [if_neg c] at hl ⊢
      exact h3 q hq qu hl
  · have g := h5 (un u z).2
    unfold rh_hx
    rw [if_pos z, g]
    omega
  · unfold rh_hx
    rw [if_pos v8]
    by_cases e : p = u
    · have g := h5 (by rw [← e]; exact hp8)
      rw [e, g]
      omega
    · rw [pk_un (fun z => e z.symm)] at z
      have := h6 z
      omega
theorem wk_ho104 {post : Int32 → St1 → Prop} {J : Int32 → (Nat → Int32) → (Nat → Int32) → (Nat → Int32) → (Nat → Int32) → (Nat → Int32) → (Nat → Int32) → (Nat → Int32) → (Nat → Int32) → (Nat → Int32) → (Nat → Int32) → (Nat → Int32) → (Nat → Int32) → (Nat → Int32) → (Nat → Int32) → (Nat → Int32) → (Nat → Int32) → (Nat → Int32) → (Nat → Int32) → (Nat → Int32) → (Nat → Int32) → (Nat → Int32) → (Nat → Int32) → Prop} {fp fh : Int32} {a1 a2 a3 a4 a5 a6 a7 a8 a9 a10 a11 a12 a13 a14 a15 a16 a17 a18 a19 a20 a21 a22 : Nat → Int32} {E : Nat → Nat → Nat} {F : Nat → Nat} {p : Nat} {x2 x5 : Int32} (hp : p < 12) (h13 : ra_2 a13 E) (hE : ∀ i j, i < 12 → j < 12 → E i j ≤ 1000000) (hF : ra_1 a7 12 F) (hc : ∀ v, v < 12 → F v ≤ 1000000) (hp8 : ¬ a8 p = 0) (H : ∀ b7, ra_1 b7 12 (rh_hx E F a8 p) → wpX_nearestOpen (fun r => J r a1 a2 a3 a4 a5 a6 b7 a8 a9 a10 a11 a12 a13 a14 a15 a16 a17 a18 a19 a20 a21 a22) (fp, fh, a1, a2, a3, a4, a5, a6, b7, a8, a9, a10, a11, a12, a13, a14, a15, a16, a17, a18, a19, a20, a21, a22)) : ∃ n, wX_hasOther_104 post J x2 x5 (nI p) fp fh n 0 a1 a2 a3 a4 a5 a6 a7 a8 a9 a10 a11 a12 a13 a14 a15 a16 a17 a18 a19 a20 a21 a22 := by
  refine pk_loop (fun n i s => wX_hasOther_104 post J x2 x5 (nI p) fp fh n (nI i) a1 a2 a3 a4 a5 a6 s a8 a9 a10 a11 a12 a13 a14 a15 a16 a17 a18 a19 a20 a21 a22) (fun i s => ra_1 s 12 (ra_mx i (rh_hx E F a8 p) F)) 12 0 a7 (by omega) (ra_mx0 hF) ?_ ?_
  · intro n s h
    exact pk_le 12 12 (fun _ => H s (ra_mxE h)) (fun z => absurd z (by omega))
  · intro n i s hi h hw
    have ci := hc i hi
    have cp := hc p hp
    have cw := hE p i hp hi
    have eu : ra_mx i (rh_hx E F a8 p) F p = F p := by
      by_cases c : p < i
      · rw [ra_mxl c]; unfold rh_hx; rw [if_neg hp8]
      · rw [ra_mxg (by omega)]
    have ri : s (nI i).toNatClampNeg = nI (F i) := by rw [ra_at h i hi, ra_mxg (Nat.le_refl i)]
    refine pk_le 12 i (fun z => absurd z (by omega)) (fun _ => ⟨pk_in p 12 hp, pk_in (p * 12 + i) 144 (by omega) (ra_ix p i), nm_r (e' := nI (F p + E p i)) (by rw [ra_at h p hp, ra_at2 h13 p i hp hi (ra_ix p i), eu, nI_add]) ⟨pk_in i 12 hi, ?_⟩⟩)
    refine br_c (fun z => ⟨pk_in i 12 hi, ?_⟩) (fun z => ⟨pk_in i 12 hi, pk_in i 12 hi, nm_e (nm_r (nI_1 i) (hw _ (ra_mxS h (nI_clamp (by omega)) ?_)))⟩)
    · rw [nI_clamp (by omega)] at z
      refine pk_le (F i) (F p + E p i) (fun y => ⟨pk_in i 12 hi, pk_in i 12 hi, nm_e (nm_r (nI_1 i) (hw _ (ra_mxS h (nI_clamp (by omega)) ?_)))⟩) (fun y => ⟨pk_in i 12 hi, nm_e (nm_r (nI_1 i) (hw _ (ra_mxS h (nI_clamp (by omega)) ?_)))⟩) ri
      · rw [ri]
        unfold rh_hx
        rw [if_pos z, Nat.min_eq_left y]
      · unfold rh_hx
        rw [if_pos z, Nat.min_eq_right (by omega)]
    · rw [nI_clamp (by omega)] at z
      rw [ri]
      unfold rh_hx
      rw [if_neg z]
theorem wk_hasOther {post : Int32 → St1 → Prop} {fp fh : Int32} {a1 a2 a3 a4 a5 a6 a7 a8 a9 a10 a11 a12 a13 a14 a15 a16 a17 a18 a19 a20 a21 a22 : Nat → Int32} {W E : Nat → Nat → Nat} (hW : rd_ok W) (h13 : ra_2 a13 E) (hE : ∀ i j, i < 12 → j < 12 → rd_D W i j ≤ E i j ∧ E i j ≤ 1000000) {u v x len : Nat} {dn : Int32} (hu : u < 12) (hv : v < 12) (hx : x < 12) (uv : u ≠ v) (lv : rh_L dn v) (vx : v ≠ x) (lu : rh_L dn u) (ux : u ≠ x) (hlen : len < 1000000)
    (H1 : ∀ b7 b8, rh_wit W E dn x u v len → post 1 (fp, fh, a1, a2, a3, a4, a5, a6, b7, b8, a9, a10, a11, a12, a13, a14, a15, a16, a17, a18, a19, a20, a21, a22)) (H0 : ∀ b7 b8, len < E u v → post 0 (fp, fh, a1, a2, a3, a4, a5, a6, b7, b8, a9, a10, a11, a12, a13, a14, a15, a16, a17, a18, a19, a20, a21, a22)) : wpX_hasOther post (fp, fh, a1, a2, a3, a4, a5, a6, a7, a8, a9, a10, a11, a12, a13, a14, a15, a16, a17, a18, a19, a20, a21, a22) (nI u) (nI v) (nI x) dn (nI len) := by
  refine pk_loop (σ := (Nat → Int32) × (Nat → Int32)) (fun n i q => wX_hasOther_3 post (nI u) (nI v) (nI x) dn (nI len) fp fh n (nI i) a1 a2 a3 a4 a5 a6 q.1 q.2 a9 a10 a11 a12 a13 a14 a15 a16 a17 a18 a19 a20 a21 a22) (fun i q => (∀ j, j < i → q.1 j = nI (rj_0 u j)) ∧ (∀ j, j < i → (q.2 j = 0 ↔ rh_L dn j ∧ j ≠ x))) 12 0 (a7, a8) (by omega) ⟨lt_0, lt_0⟩ ?_ ?_
  · rintro n ⟨s7, s8⟩ ⟨g7, g8⟩
    refine pk_le 12 12 (fun _ => ?_) (fun z => absurd z (by omega))
    refine wk_open (F := rj_0 u) g7 (fun v _ => rj_0le _ v) (fun y hy => ?_)
    have start : rh_ho W E dn x u v (rj_0 u) s8 := by
      have sn := rj_snd0 (rd_self W u) (fun v hv => rd_cap hW hu hv)
      refine ⟨fun q hq => ⟨rj_0le u q, sn.2 q hq⟩, fun q hq z => (g8 q hq).mp z, fun q hq ne hl => ?_, (g8 v hv).mpr ⟨lv, vx⟩, fun _ => rj_0s u, fun z => absurd ((g8 u hu).mpr ⟨lu, ux⟩) z⟩
      rw [rj_0n ne] at hl
      omega
    refine lp3 (fun n y c7 c8 => wX_hasOther_70 post (nI v) (nI len) fp fh n y a1 a2 a3 a4 a5 a6 c7 c8 a9 a10 a11 a12 a13 a14 a15 a16 a17 a18 a19 a20 a21 a22) (fun y c7 c8 => ∃ F, ra_1 c7 12 F ∧ rh_ho W E dn x u v F c8 ∧ rq_x y F c8) (fun _ _ c8 => ra_c0 c8 12) ?_ y s7 s8 ⟨_, g7, start, hy⟩
    rintro n y c7 c8 ⟨F, hF, ho, hy⟩ hw
    have fc : ∀ v, v < 12 → F v ≤ 1000000 := fun v hv => (ho.1 v hv).1
    have fv := fc v hv
    have e190 : (c8 u = 0 → len < F v → False) → wX_hasOther_190 post (nI v) (nI len) fp fh a1 a2 a3 a4 a5 a6 c7 c8 a9 a10 a11 a12 a13 a14 a15 a16 a17 a18 a19 a20 a21 a22 := by
      intro hno
      refine ⟨pk_in v 12 hv, pk_lt len (F v) (fun z => H0 c7 c8 ?_) (fun z => H1 c7 c8 ?_) rfl (ra_at hF v hv)⟩
      · have nu : ¬ c8 u = 0 := fun y => hno y z
        have := ho.2.2.2.2.2 nu
        omega
      · rcases ho.2.2.1 v hv (fun e => uv e.symm) (by omega) with y | ⟨w, hw', y1, y2, y3, y4, y5⟩
        · exact Or.inl (by omega)
        · exact Or.inr ⟨w, hw', y1, y2, y3, y4, by omega⟩
    rcases hy with ⟨e, hno⟩ | ⟨p, hp, e, hp8, hl, hm⟩
    · rw [e]
      refine br_t (by decide) (e190 (fun z _ => ?_))
      have g1 := hno u hu z
      have g2 := ho.2.2.2.2.1 z
      omega
    · rw [e]
      have fp' := fc p hp
      refine br_f (nI_pos (by omega)) ⟨pk_in p 12 hp, pk_lt len (F p) (fun z => e190 (fun y _ => ?_)) (fun z => pk_eq p v (fun ev => e190 (fun y y2 => ?_)) (fun ne => ⟨pk_in p 12 hp, nm_r (by rw [nI_clamp (by omega)]) ?_⟩)) rfl (ra_at hF p hp)⟩
      · have g1 := hm u hu y
        have g2 := ho.2.2.2.2.1 y
        omega
      · have g1 := hm u hu y
        have g2 := ho.2.2.2.2.1 y
        rw [ev] at g1
        omega
      · refine wk_ho104 hp h13 (fun i j hi hj => (hE i j hi hj).2) hF fc (by rw [pk_us]; decide) (fun d7 hd7 => ?_)
        have ho' := rh_hoS (fun i j hi hj => (hE i j hi hj).1) hv hp ho hp8 ne
        exact wk_open hd7 (fun v hv => (ho'.1 v hv).1) (fun y hy => hw y d7 (upd c8 p 1) ⟨_, hd7, ho', hy⟩ (rq_c hp hp8))
  · rintro n i ⟨s7, s8⟩ hi ⟨g7, g8⟩ hw
    have e28 : ∀ z, z = nI (rj_0 u i) → wX_hasOther_28 post (wX_hasOther_3 post (nI u) (nI v) (nI x) dn (nI len) fp fh n) (nI u) (nI v) (nI x) dn (nI len) (nI i) z (nI i) fp fh a1 a2 a3 a4 a5 a6 s7 s8 a9 a10 a11 a12 a13 a14 a15 a16 a17 a18 a19 a20 a21 a22 := by
      intro z hz
      have fin : ∀ y, (y = (0 : Int32) ↔ rh_L dn i ∧ i ≠ x) → ∀ j, j < i + 1 → (upd s8 (nI i).toNatClampNeg y j = 0 ↔ rh_L dn j ∧ j ≠ x) := by
        intro y hy j hj
        rw [nI_clamp (by omega)]
        by_cases e : j = i
        · rw [e, pk_us]; exact hy
        · rw [pk_un e]; exact g8 j (by omega)
      have f7 := ra_fl (f := fun j => nI (rj_0 u j)) g7 (nI_clamp (show i < 2 ^ 31 by omega)) hz
      refine ⟨pk_in i 12 hi, nm_e (wk_isLeft (fun hL => br_f (by decide) (pk_eq i x (fun e => ⟨pk_in i 12 hi, nm_e (nm_r (nI_1 i) (hw (_, _) ⟨f7, fin 1 ⟨fun z => absurd z (by decide), fun z => absurd e z.2⟩⟩))⟩) (fun e => ⟨pk_in i 12 hi, nm_e (nm_r (nI_1 i) (hw (_, _) ⟨f7, fin 0 ⟨fun _ => ⟨hL, e⟩, fun _ => rfl⟩⟩))⟩))) (fun hL => br_t rfl ⟨pk_in i 12 hi, nm_e (nm_r (nI_1 i) (hw (_, _) ⟨f7, fin 1 ⟨fun z => absurd z (by decide), fun z => absurd z.1 hL⟩⟩))⟩))⟩
    exact pk_le 12 i (fun z => absurd z (by omega)) (fun _ => pk_eq i u (fun e => e28 0 (by rw [e, rj_0s]; rfl)) (fun e => e28 1000000 (by rw [rj_0n e]; rfl)))
/-- what the shortcuts for x do to the edges: pairs below c are done -/
def rh_sc (W E : Nat → Nat → Nat) (dn lays : Int32) (x c : Nat) (E' : Nat → Nat → Nat) : Prop :=
  (∀ i j, i < 12 → j < 12 → rd_D W i j ≤ E' i j ∧ E' i j ≤ E i j) ∧ (∀ i j, i < 12 → j < 12 → (¬ (rh_L dn i ∧ i ≠ x) ∨ ¬ (rh_L dn j ∧ j ≠ x)) → E' i j = E i j) ∧ (lays = 0 → ∀ i j, i < 12 → j < 12 → E' i j = E i j) ∧
  (¬ lays = 0 → ∀ u v, u < 12 → v < 12 → u * 12 + v < c → rh_L dn u → u ≠ x → rh_L dn v → v ≠ x → u ≠ v → rd_D W u v < 1000000 → E u x + E x v = rd_D W u v → E' u v = rd_D W u v ∨ ∃ w, w < 12 ∧ rh_L dn w ∧ w ≠ x ∧ w ≠ u ∧ w ≠ v ∧ rd_D W u w + rd_D W w v = rd_D W u v)
/-- nothing is to be done -/
theorem rh_scN {W E E' : Nat → Nat → Nat} {dn lays : Int32} {x u v c : Nat} (hc : c = u * 12 + v) (hv : v < 12) (h : rh_sc W E dn lays x c E') (hno : rh_L dn u → u ≠ x → rh_L dn v → v ≠ x → u ≠ v → rd_D W u v < 1000000 → E u x + E x v = rd_D W u v → E' u v = rd_D W u v ∨ ∃ w, w < 12 ∧ rh_L dn w ∧ w ≠ x ∧ w ≠ u ∧ w ≠ v ∧ rd_D W u w + rd_D W w v = rd_D W u v) : rh_sc W E dn lays x (c + 1) E' := by
  refine ⟨h.1, h.2.1, h.2.2.1, fun hl i j hi hj hij => ?_⟩
  by_cases e : i * 12 + j = c
  · have e1 : i = u := by omega
    have e2 : j = v := by omega
    rw [e1, e2]
    exact hno
  · exact h.2.2.2 hl i j hi hj (by omega)
theorem wk_scf16 {post : Int32 → St1 → Prop} {J : Int32 → Int32 → Int32 → Int32 → (Nat → Int32) → (Nat → Int32) → (Nat → Int32) → (Nat → Int32) → (Nat → Int32) → (Nat → Int32) → (Nat → Int32) → (Nat → Int32) → (Nat → Int32) → (Nat → Int32) → (Nat → Int32) → (Nat → Int32) → (Nat → Int32) → (Nat → Int32) → (Nat → Int32) → (Nat → Int32) → (Nat → Int32) → (Nat → Int32) → (Nat → Int32) → (Nat → Int32) → (Nat → Int32) → (Nat → Int32) → Prop} {fp fh : Int32} {a1 a2 a3 a4 a5 a6 a7 a8 a9 a10 a11 a12 a13 a14 a15 a16 a17 a18 a19 a20 a21 a22 : Nat → Int32} {W E E0 : Nat → Nat → Nat} (hW : rd_ok W) (hE : ∀ i j, i < 12 → j < 12 → rd_D W i j ≤ E i j ∧ E i j ≤ 1000000) {x u : Nat} {dn lays cnt : Int32} (hx : x < 12) (hu : u < 12) (h13 : ra_2 a13 E0) (hs : rh_sc W E dn lays x (u * 12) E0) (H : ∀ r b7 b8 b13 E', ra_2 b13 E' → rh_sc W E dn lays x ((u + 1) * 12) E' → J r (nI (u + 1)) fp fh a1 a2 a3 a4 a5 a6 b7 b8 a9 a10 a11 a12 b13 a14 a15 a16 a17 a18 a19 a20 a21 a22) : ∃ n, wX_shortcutsFor_16 post J (nI x) dn lays (nI u) n cnt 0 fp fh a1 a2 a3 a4 a5 a6 a7 a8 a9 a10 a11 a12 a13 a14 a15 a16 a17 a18 a19 a20 a21 a22 := by
  refine pk_loop (σ := Int32 × (Nat → Int32) × (Nat → Int32) × (Nat → Int32)) (fun n i q => wX_shortcutsFor_16 post J (nI x) dn lays (nI u) n q.1 (nI i) fp fh a1 a2 a3 a4 a5 a6 q.2.1 q.2.2.1 a9 a10 a11 a12 q.2.2.2 a14 a15 a16 a17 a18 a19 a20 a21 a22) (fun i q => ∃ E', ra_2 q.2.2.2 E' ∧ rh_sc W E dn lays x (u * 12 + i) E') 12 0 (cnt, a7, a8, a13) (by omega) ⟨E0, h13, hs⟩ ?_ ?_
  · rintro n ⟨r, s7, s8, s13⟩ ⟨E', g1, g2⟩
    exact pk_le 12 12 (fun _ => nm_r (nI_1 u) (H r s7 s8 s13 E' g1 (by rw [show (u + 1) * 12 = u * 12 + 12 by omega]; exact g2))) (fun z => absurd z (by omega))
  · rintro n v ⟨r, s7, s8, s13⟩ hv ⟨E', g1, g2⟩ hw
    have g1 : ra_2 s13 E' := g1
    have c1 := hE u x hu hx
    have c2 := hE x v hx hv
    have eux : E' u x = E u x := g2.2.1 u x hu hx (Or.inr (fun z => z.2 rfl))
    have exv : E' x v = E x v := g2.2.1 x v hx hv (Or.inl (fun z => z.2 rfl))
    have E'c : ∀ i j, i < 12 → j < 12 → rd_D W i j ≤ E' i j ∧ E' i j ≤ 1000000 := fun i j hi hj => ⟨(g2.1 i j hi hj).1, Nat.le_trans (g2.1 i j hi hj).2 (hE i j hi hj).2⟩
    have rlen : s13 (nI u * 12 + nI x).toNatClampNeg + s13 (nI x * 12 + nI v).toNatClampNeg = nI (E u x + E x v) := by
      rw [ra_at2 g1 u x hu hx (ra_ix u x), ra_at2 g1 x v hx hv (ra_ix x v), eux, exv, nI_add]
    have e66 : ¬ (rh_L dn u ∧ u ≠ x ∧ rh_L dn v ∧ v ≠ x ∧ u ≠ v) → wX_shortcutsFor_66 post J (wX_shortcutsFor_16 post J (nI x) dn lays (nI u) n) (nI x) dn lays r (nI u) (nI v) fp fh a1 a2 a3 a4 a5 a6 s7 s8 a9 a10 a11 a12 s13 a14 a15 a16 a17 a18 a19 a20 a21 a22 := by
      intro no
      refine ⟨pk_in (u * 12 + x) 144 (by omega) (ra_ix u x), pk_in (x * 12 + v) 144 (by omega) (ra_ix x v), nm_r rlen (br_t rfl (nm_r (nI_1 v) (hw (r, s7, s8, s13) ⟨E', g1, ?_⟩)))⟩
      exact rh_scN rfl hv g2 (fun y1 y2 y3 y4 y5 _ _ => absurd ⟨y1, y2, y3, y4, y5⟩ no)
    refine pk_le 12 v (fun z => absurd z (by omega)) (fun _ => ?_)
    refine pk_eq u v (fun e => e66 (fun z => z.2.2.2.2 e)) (fun uv => pk_eq u x (fun e => e66 (fun z => z.2.1 e)) (fun ux => pk_eq v x (fun e => e66 (fun z => z.2.2.2.1 e)) (fun vx => ?_)))
    refine wk_isLeft (fun lu => br_f (by decide) (wk_isLeft (fun lv => br_f (by decide) ?_) (fun lv => br_t rfl (e66 (fun z => lv z.2.2.1))))) (fun lu => br_t rfl (e66 (fun z => lu z.1)))
    refine ⟨pk_in (u * 12 + x) 144 (by omega) (ra_ix u x), pk_in (x * 12 + v) 144 (by omega) (ra_ix x v), nm_r rlen (br_f (by decide) ?_)⟩
    refine pk_le 1000000 (E u x + E x v) (fun z => nm_r (nI_1 v) (hw (r, s7, s8, s13) ⟨E', g1, rh_scN rfl hv g2 (fun _ _ _ _ _ y1 y2 => absurd y2 (by omega))⟩)) (fun z => ?_)
    have dle : rd_D W u v ≤ E u x + E x v := by
      have := rd_tri W hx u v
      omega
    refine wk_hasOther hW g1 E'c hu hv hx uv lv vx lu ux z (fun b7 b8 hwit => ?_) (fun b7 b8 hlt => ?_)
    · refine br_f (by decide) (nm_r (nI_1 v) (hw (r, b7, b8, s13) ⟨E', g1, rh_scN rfl hv g2 (fun _ _ _ _ _ y1 y2 => ?_)⟩))
      rcases hwit with y | ⟨w, hw', y3, y4, y5, y6, y7⟩
      · left
        have := (g2.1 u v hu hv).1
        omega
      · right
        refine ⟨w, hw', y3, y4, y5, y6, ?_⟩
        have := rd_tri W hw' u v
        omega
    · have ix : (nI u * 12 + nI v).toNatClampNeg = u * 12 + v := by rw [ra_ix]; exact nI_clamp (by omega)
      refine br_t rfl (nm_e (br_c (fun l0 => ⟨pk_in (u * 12 + v) 144 (by omega) (ra_ix u v), pk_in (u * 12 + v) 144 (by omega) (ra_ix u v), nm_e (nm_r (nI_1 v) (hw (_, _, _, _) ⟨E', ?_, ?_⟩))⟩) (fun l0 => ⟨pk_in (u * 12 + v) 144 (by omega) (ra_ix u v), nm_e (nm_r (nI_1 v) (hw (_, _, _, _) ⟨fun i j => if i = u ∧ j = v then E u x + E x v else E' i j, ?_, ?_⟩))⟩)))
      · exact ra_up2 g1 hu hv ix (ra_at2 g1 u v hu hv (ra_ix u v)) (fun _ _ _ _ _ => rfl)
      · exact ⟨g2.1, g2.2.1, g2.2.2.1, fun y => absurd l0 y⟩
      · exact ra_up2 g1 hu hv ix (by rw [if_pos ⟨rfl, rfl⟩]) (fun i j hi hj ne => if_neg ne)
      · refine ⟨fun i j hi hj => ?_, fun i j hi hj hno => ?_, fun y => absurd y l0, fun _ i j hi hj hij li ix' lj jx ij hl heq => ?_⟩
        · by_cases e : i = u ∧ j = v
          · dsimp only
            rw [if_pos e, e.1, e.2]
            have := (g2.1 u v hu hv).2
            omega
          · dsimp only
            rw [if_neg e]
            exact g2.1 i j hi hj
        · by_cases e : i = u ∧ j = v
          · rw [e.1, e.2] at hno
            rcases hno with y | y
            · exact absurd ⟨lu, ux⟩ y
            · exact absurd ⟨lv, vx⟩ y
          · dsimp only
            rw [if_neg e]
            exact g2.2.1 i j hi hj hno
        · by_cases e : i = u ∧ j = v
          · left
            dsimp only
            rw [if_pos e]
            rw [e.1, e.2] at heq ⊢
            exact heq
          · dsimp only
            rw [if_neg e]
            refine g2.2.2.2 l0 i j hi hj ?_ li ix' lj jx ij hl heq
            rcases Nat.lt_or_ge (i * 12 + j) (u * 12 + v) with y | y
            · exact y
            · exact absurd ⟨by omega, by omega⟩ e
theorem wk_shortcutsFor {post : Int32 → St1 → Prop} {fp fh : Int32} {a1 a2 a3 a4 a5 a6 a7 a8 a9 a10 a11 a12 a13 a14 a15 a16 a17 a18 a19 a20 a21 a22 : Nat → Int32} {W E : Nat → Nat → Nat} (hW : rd_ok W) (hE : ∀ i j, i < 12 → j < 12 → rd_D W i j ≤ E i j ∧ E i j ≤ 1000000) {x : Nat} {dn lays : Int32} (hx : x < 12) (h13 : ra_2 a13 E) (H : ∀ r b7 b8 b13 E', ra_2 b13 E' → rh_sc W E dn lays x 144 E' → post r (fp, fh, a1, a2, a3, a4, a5, a6, b7, b8, a9, a10, a11, a12, b13, a14, a15, a16, a17, a18, a19, a20, a21, a22)) : wpX_shortcutsFor post (fp, fh, a1, a2, a3, a4, a5, a6, a7, a8, a9, a10, a11, a12, a13, a14, a15, a16, a17, a18, a19, a20, a21, a22) (nI x) dn lays := by
  refine pk_loop (σ := Int32 × (Nat → Int32) × (Nat → Int32) × (Nat → Int32)) (fun n i q => wX_shortcutsFor_6 post (nI x) dn lays n q.1 (nI i) fp fh a1 a2 a3 a4 a5 a6 q.2.1 q.2.2.1 a9 a10 a11 a12 q.2.2.2 a14 a15 a16 a17 a18 a19 a20 a21 a22) (fun i q => ∃ E', ra_2 q.2.2.2 E' ∧ rh_sc W E dn lays x (i * 12) E') 12 0 (0, a7, a8, a13) (by omega) ⟨E, h13, fun i j hi hj => ⟨(hE i j hi hj).1, Nat.le_refl _⟩, fun _ _ _ _ _ => rfl, fun _ _ _ _ _ => rfl, fun _ i j _ _ hij => absurd hij (by omega)⟩ ?_ ?_
  · rintro n ⟨r, s7, s8, s13⟩ ⟨E', g1, g2⟩
    exact pk_le 12 12 (fun _ => H r s7 s8 s13 E' g1 g2) (fun z => absurd z (by omega))
  · rintro n u ⟨r, s7, s8, s13⟩ hu ⟨E', g1, g2⟩ hw
    exact pk_le 12 u (fun z => absurd z (by omega)) (fun _ => wk_scf16 hW hE hx hu g1 g2 (fun r b7 b8 b13 E'' k1 k2 => hw (r, b7, b8, b13) ⟨E'', k1, k2⟩))
theorem wk_edgesAt {post : Int32 → Prop} {fp fh : Int32} {a1 a2 a3 a4 a5 a6 a7 a8 a9 a10 a11 a12 a13 a14 a15 a16 a17 a18 a19 a20 a21 a22 : Nat → Int32} {x : Nat} {dn : Int32} (hx : x < 12) (H : ∀ r, post r) : wpX_edgesAt post (fp, fh, a1, a2, a3, a4, a5, a6, a7, a8, a9, a10, a11, a12, a13, a14, a15, a16, a17, a18, a19, a20, a21, a22) (nI x) dn := by
  refine pk_loop (fun n i b => wX_edgesAt_5 post (nI x) dn fp fh a1 a2 a3 a4 a5 a6 a7 a8 a9 a10 a11 a12 a13 a14 a15 a16 a17 a18 a19 a20 a21 a22 n b (nI i)) (fun _ _ => True) 12 0 0 (by omega) trivial ?_ ?_
  · intro n b _
    exact pk_le 12 12 (fun _ => H b) (fun z => absurd z (by omega))
  · intro n i b hi _ hw
    have e45 : ∀ z y, wX_edgesAt_45 post (wX_edgesAt_5 post (nI x) dn fp fh a1 a2 a3 a4 a5 a6 a7 a8 a9 a10 a11 a12 a13 a14 a15 a16 a17 a18 a19 a20 a21 a22 n) (nI x) dn (nI i) z y fp fh a1 a2 a3 a4 a5 a6 a7 a8 a9 a10 a11 a12 a13 a14 a15 a16 a17 a18 a19 a20 a21 a22 := by
      intro z y
      exact nm_e (wk_isLeft (fun _ => br_f (by decide) ⟨pk_in (x * 12 + i) 144 (by omega) (ra_ix x i), br_c (fun _ => nm_e (nm_r (nI_1 i) (hw _ trivial))) (fun _ => nm_e (nm_r (nI_1 i) (hw _ trivial)))⟩) (fun _ => br_t rfl (nm_e (nm_r (nI_1 i) (hw _ trivial)))))
    exact pk_le 12 i (fun z => absurd z (by omega)) (fun _ => wk_isLeft (fun _ => br_f (by decide) ⟨pk_in (i * 12 + x) 144 (by omega) (ra_ix i x), br_c (fun _ => e45 0 b) (fun _ => e45 1 b)⟩) (fun _ => br_t rfl (e45 0 b)))
end
section
theorem ra_c0_congr {a b : Nat → Int32} : ∀ n, (∀ j, j < n → a j = b j) → ra_c0 a n = ra_c0 b n := by
  intro n
  induction n with
  | zero => intro _; rfl
  | succ n ih =>
    intro h
    show ra_c0 a n + (if a n = 0 then 1 else 0) = ra_c0 b n + (if b n = 0 then 1 else 0)
    rw [ih (fun j hj => h j (by omega)), h n (by omega)]
theorem ra_c0_pos {a : Nat → Int32} : ∀ n, 0 < ra_c0 a n → ∃ p, p < n ∧ a p = 0 := by
  intro n
  induction n with
  | zero => intro h; exact absurd h (Nat.lt_irrefl 0)
  | succ n ih =>
    intro h
    by_cases e : a n = 0
    · exact ⟨n, by omega, e⟩
    · have h' : 0 < ra_c0 a n + (if a n = 0 then 1 else 0) := h
      rw [if_neg e] at h'
      obtain ⟨p, hp, z⟩ := ih (by omega)
      exact ⟨p, by omega, z⟩
theorem ra_c0_none {a : Nat → Int32} : ∀ n, ra_c0 a n = 0 → ∀ p, p < n → ¬ a p = 0 := by
  intro n
  induction n with
  | zero => intro _ p hp; omega
  | succ n ih =>
    intro h p hp
    have h' : ra_c0 a n + (if a n = 0 then 1 else 0) = 0 := h
    by_cases e : p = n
    · rw [e]
      intro z
      rw [if_pos z] at h'
      omega
    · exact ih (by omega) p (by omega)
def rh_bits (dn : Int32) (p : Nat) : Int32 := (dn >>> (nI p &&& 31)) &&& 1
def rh_stg (W : Nat → Nat → Nat) (r : Nat) (dn : Int32) (E : Nat → Nat → Nat) (R : Nat → Nat) (b14 : Nat → Int32) : Prop :=
  (∀ i j, i < 12 → j < 12 → rd_D W i j ≤ E i j ∧ E i j ≤ 1000000) ∧ rh_P W (rh_L dn) E ∧ rh_Q W (rh_L dn) R E ∧ (∀ p, p < 12 → ¬ rh_L dn p → b14 p = nI (R p) ∧ R p < r) ∧ (∀ p q, p < 12 → q < 12 → ¬ rh_L dn p → ¬ rh_L dn q → R p = R q → p = q) ∧ (∀ k, k < r → ∃ p, p < 12 ∧ ¬ rh_L dn p ∧ R p = k) ∧ ra_c0 (rh_bits dn) 12 + r = 12
theorem rh_Lset (dn : Int32) {b : Nat} (hb : b < 12) : ∀ v, v < 12 → (rh_L (dn ||| ((1 : Int32) <<< (nI b &&& 31))) v ↔ rh_L dn v ∧ v ≠ b) := by
  intro v hv
  unfold rh_L
  rw [bq_0 (show v < 32 by omega), bq_0 (show v < 32 by omega), bq_set dn (show b < 32 by omega) (show v < 32 by omega)]
  cases h : bt dn v <;> simp
theorem rh_bset (dn : Int32) {b : Nat} (hb : b < 12) : ∀ v, v < 12 → rh_bits (dn ||| ((1 : Int32) <<< (nI b &&& 31))) v = upd (rh_bits dn) b 1 v := by
  intro v hv
  unfold rh_bits
  rw [bq_1 _ (show v < 32 by omega), bq_set dn (show b < 32 by omega) (show v < 32 by omega)]
  by_cases e : v = b
  · rw [e, pk_us]
    simp
  · rw [pk_un e, bq_1 _ (show v < 32 by omega)]
    simp [e]
theorem rh_stgS {W : Nat → Nat → Nat} (hW : rd_ok W) {r b : Nat} {dn : Int32} {E E' : Nat → Nat → Nat} {R : Nat → Nat} {b14 : Nat → Int32} (hb : b < 12) (hLb : rh_L dn b) (h : rh_stg W r dn E R b14) {lays : Int32} (hl : ¬ lays = 0) (hs : rh_sc W E dn lays b 144 E') : rh_stg W (r + 1) (dn ||| ((1 : Int32) <<< (nI b &&& 31))) E' (fun p => if p = b then r else R p) (upd b14 b (nI r)) := by
  obtain ⟨h1, h2, h3, h4, h5, h6, h7⟩ := h
  have hL' := rh_Lset dn hb
  have nL : ∀ p, p < 12 → ¬ rh_L (dn ||| ((1 : Int32) <<< (nI b &&& 31))) p → p ≠ b → ¬ rh_L dn p := fun p hp z ne y => z ((hL' p hp).mpr ⟨y, ne⟩)
  have bL : ¬ rh_L (dn ||| ((1 : Int32) <<< (nI b &&& 31))) b := fun z => ((hL' b hb).mp z).2 rfl
  refine ⟨fun i j hi hj => ⟨(hs.1 i j hi hj).1, Nat.le_trans (hs.1 i j hi hj).2 (h1 i j hi hj).2⟩, ?_, ?_, fun p hp z => ?_, fun p q hp hq zp zq e => ?_, fun k hk => ?_, ?_⟩
  · refine rh_step hW hb h2 hLb hL' (fun i j hi hj => (hs.1 i j hi hj).1) (fun i j hi hj => (hs.1 i j hi hj).2) (fun u v hu hv lu lv ne hl' heq => ?_)
    obtain ⟨lu1, lu2⟩ := (hL' u hu).mp lu
    obtain ⟨lv1, lv2⟩ := (hL' v hv).mp lv
    rcases hs.2.2.2 hl u v hu hv (by omega) lu1 lu2 lv1 lv2 ne hl' heq with z | ⟨w, hw, y1, y2, y3, y4, y5⟩
    · exact Or.inl z
    · exact Or.inr ⟨w, hw, (hL' w hw).mpr ⟨y1, y2⟩, y3, y4, y5⟩
  · refine rh_Qs hb hLb hL' h2 h3 (fun v hv z => (h4 v hv z).2) (if_pos rfl) (fun v hv ne => if_neg ne) (fun u v hu hv z => hs.2.1 u v hu hv ?_)
    rcases z with z | z
    · exact Or.inl (fun y => z ((hL' u hu).mpr y))
    · exact Or.inr (fun y => z ((hL' v hv).mpr y))
  · by_cases e : p = b
    · rw [e, pk_us]
      dsimp only
      rw [if_pos rfl]
      exact ⟨rfl, by omega⟩
    · rw [pk_un e]
      dsimp only
      rw [if_neg e]
      have := h4 p hp (nL p hp z e)
      exact ⟨this.1, by omega⟩
  · dsimp only at e
    by_cases ep : p = b
    · by_cases eq : q = b
      · rw [ep, eq]
      · rw [if_pos ep, if_neg eq] at e
        have := (h4 q hq (nL q hq zq eq)).2
        omega
    · by_cases eq : q = b
      · rw [if_neg ep, if_pos eq] at e
        have := (h4 p hp (nL p hp zp ep)).2
        omega
      · rw [if_neg ep, if_neg eq] at e
        exact h5 p q hp hq (nL p hp zp ep) (nL q hq zq eq) e
  · by_cases e : k = r
    · exact ⟨b, hb, bL, by dsimp only; rw [if_pos rfl, e]⟩
    · obtain ⟨p, hp, z, y⟩ := h6 k (by omega)
      have ne : p ≠ b := fun e => z (by rw [e]; exact hLb)
      exact ⟨p, hp, fun x => z ((hL' p hp).mp x).1, by dsimp only; rw [if_neg ne]; exact y⟩
  · rw [ra_c0_congr 12 (rh_bset dn hb)]
    have := ra_c0_up (a := rh_bits dn) hb hLb (x := 1) (by decide)
    omega
theorem wk_lh45 {post : St1 → Prop} {J : Int32 → Int32 → Int32 → Int32 → (Nat → Int32) → (Nat → Int32) → (Nat → Int32) → (Nat → Int32) → (Nat → Int32) → (Nat → Int32) → (Nat → Int32) → (Nat → Int32) → (Nat → Int32) → (Nat → Int32) → (Nat → Int32) → (Nat → Int32) → (Nat → Int32) → (Nat → Int32) → (Nat → Int32) → (Nat → Int32) → (Nat → Int32) → (Nat → Int32) → (Nat → Int32) → (Nat → Int32) → (Nat → Int32) → (Nat → Int32) → Prop} {fp fh : Int32} {a1 a2 a3 a4 a5 a6 a7 a8 a9 a10 a11 a12 a13 a14 a15 a16 a17 a18 a19 a20 a21 a22 : Nat → Int32} {W E : Nat → Nat → Nat} (hW : rd_ok W) (hE : ∀ i j, i < 12 → j < 12 → rd_D W i j ≤ E i j ∧ E i j ≤ 1000000) {dn : Int32} {r : Nat} (hr : r < 12) (hex : ∃ p, p < 12 ∧ rh_L dn p) (h13 : ra_2 a13 E) (H : ∀ b b7 b8 b13 E', b < 12 → rh_L dn b → ra_2 b13 E' → rh_sc W E dn 1 b 144 E' → J (dn ||| ((1 : Int32) <<< (nI b &&& 31))) (nI (r + 1)) fp fh a1 a2 a3 a4 a5 a6 b7 b8 a9 a10 a11 a12 b13 (upd a14 b (nI r)) a15 a16 a17 a18 a19 a20 a21 a22) : ∃ n, wX_layHierarchy_45 post J dn (nI r) n (-1) 0 0 fp fh a1 a2 a3 a4 a5 a6 a7 a8 a9 a10 a11 a12 a13 a14 a15 a16 a17 a18 a19 a20 a21 a22 := by
  refine pk_loop (σ := Int32 × Int32 × (Nat → Int32) × (Nat → Int32) × (Nat → Int32)) (fun n i q => wX_layHierarchy_45 post J dn (nI r) n q.1 q.2.1 (nI i) fp fh a1 a2 a3 a4 a5 a6 q.2.2.1 q.2.2.2.1 a9 a10 a11 a12 q.2.2.2.2 a14 a15 a16 a17 a18 a19 a20 a21 a22) (fun i q => ra_2 q.2.2.2.2 E ∧ ((q.1 = -1 ∧ ∀ p, p < i → ¬ rh_L dn p) ∨ (∃ b, b < 12 ∧ q.1 = nI b ∧ rh_L dn b))) 12 0 (-1, 0, a7, a8, a13) (by omega) ⟨h13, Or.inl ⟨rfl, lt_0⟩⟩ ?_ ?_
  · rintro n ⟨x3, x4, s7, s8, s13⟩ ⟨g1, g2⟩
    refine pk_le 12 12 (fun _ => ?_) (fun z => absurd z (by omega))
    rcases g2 with ⟨_, no⟩ | ⟨b, hb, e, hL⟩
    · obtain ⟨p, hp, z⟩ := hex
      exact absurd z (no p hp)
    · dsimp only at e
      rw [e]
      refine wk_shortcutsFor hW hE hb g1 (fun _ b7 b8 b13 E' k1 k2 => ⟨pk_in b 12 hb, nm_r (by rw [nI_clamp (by omega), rs_b8 r (by omega)]) (nm_e (nm_r (nI_1 r) (H b b7 b8 b13 E' hb hL k1 k2)))⟩)
  · rintro n i ⟨x3, x4, s7, s8, s13⟩ hi ⟨g1, g2⟩ hw
    dsimp only at g2
    refine pk_le 12 i (fun z => absurd z (by omega)) (fun _ => wk_isLeft (fun hL => br_f (by decide) ?_) (fun hL => br_t rfl (nm_r (nI_1 i) (hw (x3, x4, s7, s8, s13) ⟨g1, ?_⟩))))
    · refine wk_shortcutsFor hW hE hi g1 (fun r1 b7 b8 b13 E' k1 k2 => wk_edgesAt hi (fun r2 => nm_e ?_))
      have k3 : ra_2 b13 E := fun a c ha hc => by rw [k1 a c ha hc, k2.2.2.1 rfl a c ha hc]
      have e91 : ∀ x6, wX_layHierarchy_91 post J (wX_layHierarchy_45 post J dn (nI r) n) dn (nI r) x3 x4 (nI i) x6 fp fh a1 a2 a3 a4 a5 a6 b7 b8 a9 a10 a11 a12 b13 a14 a15 a16 a17 a18 a19 a20 a21 a22 := fun x6 => br_f (by decide) (br_f (by decide) (nm_r (nI_1 i) (hw (nI i, x6, b7, b8, b13) ⟨k3, Or.inr ⟨i, hi, rfl, hL⟩⟩)))
      rcases g2 with ⟨e, _⟩ | ⟨b, hb, e, hLb⟩
      · exact br_t (show x3 < 0 by rw [e]; decide) (e91 _)
      · refine br_f (show ¬ x3 < 0 by rw [e]; exact nI_pos (by omega)) (br_c (fun _ => ?_) (fun _ => e91 _))
        exact br_t rfl (br_t rfl (nm_r (nI_1 i) (hw (x3, x4, b7, b8, b13) ⟨k3, Or.inr ⟨b, hb, e, hLb⟩⟩)))
    · rcases g2 with ⟨e, no⟩ | g2
      · exact Or.inl ⟨e, lt_s no hL⟩
      · exact Or.inr g2
theorem wk_layHierarchy {post : St1 → Prop} {fp fh : Int32} {a1 a2 a3 a4 a5 a6 a7 a8 a9 a10 a11 a12 a13 a14 a15 a16 a17 a18 a19 a20 a21 a22 : Nat → Int32} {W : Nat → Nat → Nat} (hW : rd_ok W) (h4 : ra_2 a4 W) (H : ∀ b7 b8 b13 b14, rh_ok W b13 b14 → post (fp, fh, a1, a2, a3, a4, a5, a6, b7, b8, a9, a10, a11, a12, b13, b14, a15, a16, a17, a18, a19, a20, a21, a22)) : wpX_layHierarchy post (fp, fh, a1, a2, a3, a4, a5, a6, a7, a8, a9, a10, a11, a12, a13, a14, a15, a16, a17, a18, a19, a20, a21, a22) := by
  refine pk_loop (fun n i s => wX_layHierarchy_2 post fp fh n (nI i) a1 a2 a3 a4 a5 a6 a7 a8 a9 a10 a11 a12 s a14 a15 a16 a17 a18 a19 a20 a21 a22) (fun i s => ∀ j, j < i → s j = nI (W (j / 12) (j % 12))) 144 0 a13 (by omega) lt_0 ?_ ?_
  · intro n s h
    refine pk_le 144 144 (fun _ => ?_) (fun z => absurd z (by omega))
    have L0 : ∀ v, v < 12 → rh_L 0 v := fun v hv => (bq_0 (show v < 32 by omega)).mpr (b_0 v)
    refine pk_loop (σ := Int32 × (Nat → Int32) × (Nat → Int32) × (Nat → Int32) × (Nat → Int32)) (fun n i q => wX_layHierarchy_31 post n q.1 (nI i) fp fh a1 a2 a3 a4 a5 a6 q.2.1 q.2.2.1 a9 a10 a11 a12 q.2.2.2.1 q.2.2.2.2 a15 a16 a17 a18 a19 a20 a21 a22) (fun i q => ∃ E R, ra_2 q.2.2.2.1 E ∧ rh_stg W i q.1 E R q.2.2.2.2) 12 0 (0, a7, a8, s, a14) (by omega) ?_ ?_ ?_
    · refine ⟨W, fun _ => 0, fun i j hi hj => ?_, fun i j hi hj => ⟨rd_leW W i j, (hW i j hi hj).2.1⟩, rh_P0 W L0 (fun _ _ _ _ => rfl), fun u v hu hv _ z => ?_, fun p hp z => absurd (L0 p hp) z, fun p q hp hq z => absurd (L0 p hp) z, fun k hk => absurd hk (by omega), ?_⟩
      · show s (i * 12 + j) = nI (W i j)
        rw [h (i * 12 + j) (by omega), show (i * 12 + j) / 12 = i by omega, show (i * 12 + j) % 12 = j by omega]
      · rcases z with z | z
        · exact absurd (L0 u hu) z
        · exact absurd (L0 v hv) z
      · show ra_c0 (rh_bits 0) 12 + 0 = 12
        rw [ra_c0_congr (a := rh_bits 0) (b := fun _ => 0) 12 (fun j hj => L0 j hj)]
        decide
    · rintro n ⟨dn, s7, s8, s13, s14⟩ ⟨E, R, g1, g2⟩
      refine pk_le 12 12 (fun _ => H s7 s8 s13 s14 ?_) (fun z => absurd z (by omega))
      obtain ⟨k1, k2, k3, k4, k5, k6, k7⟩ := g2
      have nL : ∀ p, p < 12 → ¬ rh_L dn p := ra_c0_none (a := rh_bits dn) 12 (by dsimp only at k7; omega)
      refine ⟨E, R, g1, fun p hp => (k4 p hp (nL p hp)).1, rh_QF k3 nL, k1, fun p hp => (k4 p hp (nL p hp)).2, fun p q hp hq => k5 p q hp hq (nL p hp) (nL q hq), fun k hk => ?_⟩
      obtain ⟨p, hp, _, z⟩ := k6 k hk
      exact ⟨p, hp, z⟩
    · rintro n r ⟨dn, s7, s8, s13, s14⟩ hr ⟨E, R, g1, g2⟩ hw
      have hex : ∃ p, p < 12 ∧ rh_L dn p := ra_c0_pos (a := rh_bits dn) 12 (by have := g2.2.2.2.2.2.2; dsimp only at this; omega)
      exact pk_le 12 r (fun z => absurd z (by omega)) (fun _ => wk_lh45 hW g2.1 hr hex g1 (fun b b7 b8 b13 E' hb hLb k1 k2 => hw (_, b7, b8, b13, _) ⟨E', _, k1, rh_stgS hW hb hLb g2 (by decide) k2⟩))
  · intro n i s hi h hw
    exact pk_le 144 i (fun z => absurd z (by omega)) (fun _ => ⟨pk_in i 144 hi, pk_in i 144 hi, nm_e (nm_r (nI_1 i) (hw _ (ra_fl (f := fun j => nI (W (j / 12) (j % 12))) h (nI_clamp (by omega)) (ra_at (ra_12 h4) i hi))))⟩)
end
section
/-! the heap, as a set of points: how it is ordered isn't needed -/
theorem hp_pig : ∀ n m (f : Nat → Nat), (∀ j, j < m → f j < n) → (∀ i j, i < m → j < m → f i = f j → i = j) → m ≤ n := by
  intro n
  induction n with
  | zero =>
    intro m f h _
    rcases Nat.eq_zero_or_pos m with z | z
    · omega
    · have := h 0 z
      omega
  | succ n ih =>
    intro m f h hi
    by_cases c : ∃ j, j < m ∧ f j = n
    · obtain ⟨j, hj, e⟩ := c
      have := ih (m - 1) (fun i => if i = j then f (m - 1) else f i) (fun i hi' => ?_) (fun a b ha hb hab => ?_)
      · omega
      · by_cases ei : i = j
        · rw [if_pos ei]
          have a1 := h (m - 1) (by omega)
          have a2 : f (m - 1) ≠ n := fun z => by
            have := hi (m - 1) j (by omega) hj (by rw [z, e])
            omega
          omega
        · rw [if_neg ei]
          have a1 := h i (by omega)
          have a2 : f i ≠ n := fun z => ei (hi i j (by omega) hj (by rw [z, e]))
          omega
      · by_cases ea : a = j
        · by_cases eb : b = j
          · rw [ea, eb]
          · rw [if_pos ea, if_neg eb] at hab
            have := hi (m - 1) b (by omega) (by omega) hab
            omega
        · by_cases eb : b = j
          · rw [if_neg ea, if_pos eb] at hab
            have := hi a (m - 1) (by omega) (by omega) hab
            omega
          · rw [if_neg ea, if_neg eb] at hab
            exact hi a b (by omega) (by omega) hab
    · have := ih m f (fun j hj => ?_) hi
      · omega
      · have a1 := h j hj
        have a2 : f j ≠ n := fun z => c ⟨j, hj, z⟩
        omega
def hp_ok (m : Nat) (b11 b12 : Nat → Int32) : Prop := m ≤ 12 ∧ (∀ j, j < m → ∃ x, x < 12 ∧ b11 j = nI x ∧ b12 x = nI j) ∧ (∀ q, q < 12 → b12 q = -1 ∨ ∃ j, j < m ∧ b12 q = nI j ∧ b11 j = nI q)
/-- the heap with a hole at i, into which p will go; b is on its way out -/
def hp_h (m i p b : Nat) (b11 b12 : Nat → Int32) : Prop := m ≤ 12 ∧ (∀ j, j < m → j ≠ i → ∃ x, x < 12 ∧ b11 j = nI x ∧ x ≠ p ∧ x ≠ b ∧ b12 x = nI j) ∧ (∀ q, q < 12 → q ≠ p → q ≠ b → b12 q = -1 ∨ ∃ j, j < m ∧ j ≠ i ∧ b12 q = nI j ∧ b11 j = nI q)
theorem hp_neg {j : Nat} (h : j < 2 ^ 31) : ¬ nI j = -1 := fun z => by
  have := nI_pos h
  rw [z] at this
  exact this (by decide)
theorem hp_room {m p : Nat} {b11 b12 : Nat → Int32} (h : hp_ok m b11 b12) (hp : p < 12) (hn : b12 p = -1) : m + 1 ≤ 12 := by
  obtain ⟨h1, h2, h3⟩ := h
  refine hp_pig 12 (m + 1) (fun j => if j < m then (b11 j).toNatClampNeg else p) (fun j hj => ?_) (fun i j hi hj e => ?_)
  · by_cases c : j < m
    · obtain ⟨x, hx, e, _⟩ := h2 j c
      rw [if_pos c, e, nI_clamp (by omega)]
      exact hx
    · rw [if_neg c]
      exact hp
  · by_cases ci : i < m
    · obtain ⟨x, hx, ex, ex2⟩ := h2 i ci
      rw [if_pos ci, ex, nI_clamp (by omega)] at e
      by_cases cj : j < m
      · obtain ⟨y, hy, ey, ey2⟩ := h2 j cj
        rw [if_pos cj, ey, nI_clamp (by omega)] at e
        rw [e, ey2] at ex2
        exact ((nI_eq (by omega) (by omega)).mp ex2).symm
      · rw [if_neg cj] at e
        rw [e, hn] at ex2
        exact absurd ex2.symm (hp_neg (by omega))
    · by_cases cj : j < m
      · obtain ⟨y, hy, ey, ey2⟩ := h2 j cj
        rw [if_neg ci, if_pos cj, ey, nI_clamp (by omega)] at e
        rw [← e, hn] at ey2
        exact absurd ey2.symm (hp_neg (by omega))
      · omega
theorem hp_open {m i p : Nat} {b11 b12 : Nat → Int32} (h : hp_ok m b11 b12) (hi : i < m) (hp : p < 12) (hb : b11 i = nI p) : hp_h m i p 99 b11 b12 := by
  obtain ⟨h1, h2, h3⟩ := h
  have pi : b12 p = nI i := by
    obtain ⟨x, hx, ex, ex2⟩ := h2 i hi
    rw [hb] at ex
    rw [(nI_eq (by omega) (by omega)).mp ex]
    exact ex2
  refine ⟨h1, fun j hj ne => ?_, fun q hq qp _ => ?_⟩
  · obtain ⟨x, hx, ex, ex2⟩ := h2 j hj
    refine ⟨x, hx, ex, fun e => ne ?_, by omega, ex2⟩
    rw [e, pi] at ex2
    exact ((nI_eq (by omega) (by omega)).mp ex2).symm
  · rcases h3 q hq with z | ⟨j, hj, z, y⟩
    · exact Or.inl z
    · refine Or.inr ⟨j, hj, fun e => qp ?_, z, y⟩
      rw [e, hb] at y
      exact ((nI_eq (by omega) (by omega)).mp y).symm
/-- a point goes from c into the hole i -/
theorem hp_move {m i c p b y : Nat} {b11 b12 : Nat → Int32} (h : hp_h m i p b b11 b12) (hi : i < m) (hc : c < m) (ci : c ≠ i) (hy : y < 12) (e : b11 c = nI y) : hp_h m c p b (upd b11 i (nI y)) (upd b12 y (nI i)) := by
  obtain ⟨h1, h2, h3⟩ := h
  have yc : y ≠ p ∧ y ≠ b ∧ b12 y = nI c := by
    obtain ⟨x, hx, ex, xp, xb, ex2⟩ := h2 c hc ci
    rw [e] at ex
    rw [(nI_eq (by omega) (by omega)).mp ex]
    exact ⟨xp, xb, ex2⟩
  refine ⟨h1, fun j hj ne => ?_, fun q hq qp qb => ?_⟩
  · by_cases ji : j = i
    · rw [ji]
      exact ⟨y, hy, pk_us, yc.1, yc.2.1, pk_us⟩
    · obtain ⟨x, hx, ex, xp, xb, ex2⟩ := h2 j hj ji
      refine ⟨x, hx, by rw [pk_un ji]; exact ex, xp, xb, ?_⟩
      rw [pk_un]
      · exact ex2
      · intro z
        rw [z, yc.2.2] at ex2
        exact ne ((nI_eq (by omega) (by omega)).mp ex2).symm
  · by_cases qy : q = y
    · right
      rw [qy]
      exact ⟨i, hi, fun z => ci z.symm, pk_us, pk_us⟩
    · rw [pk_un qy]
      rcases h3 q hq qp qb with z | ⟨j, hj, ji, z, w⟩
      · exact Or.inl z
      · refine Or.inr ⟨j, hj, fun jc => qy ?_, z, by rw [pk_un ji]; exact w⟩
        rw [jc, e] at w
        exact ((nI_eq (by omega) (by omega)).mp w).symm
/-- p goes into the hole -/
theorem hp_fill {m i p : Nat} {b11 b12 : Nat → Int32} (h : hp_h m i p 99 b11 b12) (hi : i < m) (hp : p < 12) : hp_ok m (upd b11 i (nI p)) (upd b12 p (nI i)) := by
  obtain ⟨h1, h2, h3⟩ := h
  refine ⟨h1, fun j hj => ?_, fun q hq => ?_⟩
  · by_cases ji : j = i
    · rw [ji]
      exact ⟨p, hp, pk_us, pk_us⟩
    · obtain ⟨x, hx, ex, xp, xb, ex2⟩ := h2 j hj ji
      exact ⟨x, hx, by rw [pk_un ji]; exact ex, by rw [pk_un xp]; exact ex2⟩
  · by_cases qp : q = p
    · right
      rw [qp]
      exact ⟨i, hi, pk_us, pk_us⟩
    · rw [pk_un qp]
      rcases h3 q hq qp (by omega) with z | ⟨j, hj, ji, z, w⟩
      · exact Or.inl z
      · exact Or.inr ⟨j, hj, z, by rw [pk_un ji]; exact w⟩
theorem hp_fillB {m i p b : Nat} {b11 b12 : Nat → Int32} (h : hp_h m i p b b11 b12) (hi : i < m) (hp : p < 12) (pb : p ≠ b) (hb : b < 12) : hp_ok m (upd b11 i (nI p)) (upd (upd b12 p (nI i)) b (-1)) := by
  obtain ⟨h1, h2, h3⟩ := h
  refine ⟨h1, fun j hj => ?_, fun q hq => ?_⟩
  · by_cases ji : j = i
    · rw [ji]
      exact ⟨p, hp, pk_us, by rw [pk_un pb, pk_us]⟩
    · obtain ⟨x, hx, ex, xp, xb, ex2⟩ := h2 j hj ji
      exact ⟨x, hx, by rw [pk_un ji]; exact ex, by rw [pk_un xb, pk_un xp]; exact ex2⟩
  · by_cases qb : q = b
    · left
      rw [qb, pk_us]
    · rw [pk_un qb]
      by_cases qp : q = p
      · right
        rw [qp]
        exact ⟨i, hi, pk_us, pk_us⟩
      · rw [pk_un qp]
        rcases h3 q hq qp qb with z | ⟨j, hj, ji, z, w⟩
        · exact Or.inl z
        · exact Or.inr ⟨j, hj, z, by rw [pk_un ji]; exact w⟩
theorem wk_setPlace {post : St1 → Prop} {fp fh : Int32} {a1 a2 a3 a4 a5 a6 a7 a8 a9 a10 a11 a12 a13 a14 a15 a16 a17 a18 a19 a20 a21 a22 : Nat → Int32} {i y : Nat} (hi : i < 16) (hy : y < 12) (H : post (fp, fh, a1, a2, a3, a4, a5, a6, a7, a8, a9, a10, upd a11 i (nI y), upd a12 y (nI i), a13, a14, a15, a16, a17, a18, a19, a20, a21, a22)) : wpX_setPlace post (fp, fh, a1, a2, a3, a4, a5, a6, a7, a8, a9, a10, a11, a12, a13, a14, a15, a16, a17, a18, a19, a20, a21, a22) (nI i) (nI y) :=
  ⟨pk_in i 16 hi, nm_r (by rw [nI_clamp (by omega), rs_b8 y (by omega)]) ⟨pk_in y 12 hy, nm_r (by rw [nI_clamp (by omega), rs_b8 i (by omega)]) H⟩⟩
theorem wk_rise {post : St1 → Prop} {fp fh : Int32} {a1 a2 a3 a4 a5 a6 a7 a8 a9 a10 a11 a12 a13 a14 a15 a16 a17 a18 a19 a20 a21 a22 : Nat → Int32} {m i p : Nat} (hh : hp_ok m a11 a12) (hi : i < m) (hp : p < 12) (hb : a11 i = nI p) (H : ∀ b11 b12, hp_ok m b11 b12 → (∀ q, q < 12 → (b12 q = -1 ↔ a12 q = -1 ∧ q ≠ p)) → post (fp, fh, a1, a2, a3, a4, a5, a6, a7, a8, a9, a10, b11, b12, a13, a14, a15, a16, a17, a18, a19, a20, a21, a22)) : wpX_rise post (fp, fh, a1, a2, a3, a4, a5, a6, a7, a8, a9, a10, a11, a12, a13, a14, a15, a16, a17, a18, a19, a20, a21, a22) (nI i) := by
  have m12 := hh.1
  refine ⟨pk_in i 16 (by omega), nm_r (by rw [nI_clamp (by omega), hb]) ?_⟩
  refine lp3 (fun n x c11 c12 => wX_rise_9 post (nI p) n x fp fh a1 a2 a3 a4 a5 a6 a7 a8 a9 a10 c11 c12 a13 a14 a15 a16 a17 a18 a19 a20 a21 a22) (fun x c11 c12 => ∃ j, j < m ∧ x = nI j ∧ hp_h m j p 99 c11 c12 ∧ ∀ q, q < 12 → q ≠ p → (c12 q = -1 ↔ a12 q = -1)) (fun x _ _ => x.toNatClampNeg) ?_ (nI i) a11 a12 ⟨i, hi, rfl, hp_open hh hi hp hb, fun _ _ _ => Iff.rfl⟩
  rintro n x c11 c12 ⟨j, hj, ex, hq, hiff⟩ hw
  rw [ex]
  have e61 : wX_rise_61 post (nI j) (nI p) fp fh a1 a2 a3 a4 a5 a6 a7 a8 a9 a10 c11 c12 a13 a14 a15 a16 a17 a18 a19 a20 a21 a22 := by
    refine wk_setPlace (by omega) hp (H _ _ (hp_fill hq hj hp) (fun q hq' => ?_))
    by_cases e : q = p
    · rw [e, pk_us]
      exact ⟨fun z => absurd z (hp_neg (by omega)), fun z => absurd rfl z.2⟩
    · rw [pk_un e, hiff q hq' e]
      exact ⟨fun z => ⟨z, e⟩, fun z => z.1⟩
  refine pk_le j 0 (fun _ => e61) (fun z => ⟨by decide, ?_⟩)
  have ep : (nI j - 1) / 2 = nI ((j - 1) / 2) := by
    rw [show j = (j - 1) + 1 by omega, nI_pred]
    exact pk_div (d := 2) (by omega) (by omega) (by omega)
  obtain ⟨y, hy, ey, yp, _, ey2⟩ := hq.2.1 ((j - 1) / 2) (by omega) (by omega)
  rw [ep, nI_clamp (show (j - 1) / 2 < 2 ^ 31 by omega), ey]
  refine ⟨pk_in ((j - 1) / 2) 16 (by omega), pk_in y 12 hy, pk_in p 12 hp, br_c (fun _ => e61) (fun _ => ⟨by decide, pk_in ((j - 1) / 2) 16 (by omega), wk_setPlace (by omega) hy ⟨by decide, nm_e (hw _ _ _ ⟨(j - 1) / 2, by omega, rfl, hp_move hq hj (by omega) (by omega) hy ey, fun q hq' e => ?_⟩ ?_)⟩⟩)⟩
  · by_cases e2 : q = y
    · rw [e2, pk_us, ← hiff y hy yp, ey2]
      exact ⟨fun z => absurd z (hp_neg (by omega)), fun z => absurd z (hp_neg (by omega))⟩
    · rw [pk_un e2]
      exact hiff q hq' e
  · rw [nI_clamp (show (j - 1) / 2 < 2 ^ 31 by omega), ex, nI_clamp (show j < 2 ^ 31 by omega)]
    omega
theorem wk_reach {post : St1 → Prop} {fp : Int32} {a1 a2 a3 a4 a5 a6 a7 a8 a9 a10 a11 a12 a13 a14 a15 a16 a17 a18 a19 a20 a21 a22 : Nat → Int32} {m p way : Nat} {F : Nat → Nat} (hh : hp_ok m a11 a12) (hp : p < 12) (hF : ra_1 a7 12 F) (hc : F p ≤ 1000000) (hway : way < 2 ^ 31) (H0 : F p ≤ way → post (fp, nI m, a1, a2, a3, a4, a5, a6, a7, a8, a9, a10, a11, a12, a13, a14, a15, a16, a17, a18, a19, a20, a21, a22)) (H1 : way < F p → ∀ m' b11 b12, m' ≤ m + 1 → hp_ok m' b11 b12 → (∀ q, q < 12 → (b12 q = -1 ↔ a12 q = -1 ∧ q ≠ p)) → post (fp, nI m', a1, a2, a3, a4, a5, a6, upd a7 p (nI way), a8, a9, a10, b11, b12, a13, a14, a15, a16, a17, a18, a19, a20, a21, a22)) : wpX_reach post (fp, nI m, a1, a2, a3, a4, a5, a6, a7, a8, a9, a10, a11, a12, a13, a14, a15, a16, a17, a18, a19, a20, a21, a22) (nI p) (nI way) := by
  have m12 := hh.1
  refine ⟨pk_in p 12 hp, pk_le (F p) way H0 (fun z => ⟨pk_in p 12 hp, nm_r (by rw [nI_clamp (by omega)]) ⟨pk_in p 12 hp, ?_⟩⟩) (ra_at hF p hp)⟩
  rw [nI_clamp (show p < 2 ^ 31 by omega)]
  rcases hh.2.2 p hp with e | ⟨j, hj, e, ej⟩
  · have rm := hp_room hh hp e
    rw [e]
    refine br_f (by decide) (wk_setPlace (by omega) hp (nm_r (nI_1 m) ⟨pk_in p 12 hp, ?_⟩))
    rw [nI_clamp (show p < 2 ^ 31 by omega), pk_us]
    have hh' : hp_ok (m + 1) (upd a11 m (nI p)) (upd a12 p (nI m)) := by
      refine ⟨rm, fun j hj => ?_, fun q hq => ?_⟩
      · by_cases ej : j = m
        · rw [ej]
          exact ⟨p, hp, pk_us, pk_us⟩
        · obtain ⟨x, hx, ex, ex2⟩ := hh.2.1 j (by omega)
          refine ⟨x, hx, by rw [pk_un ej]; exact ex, ?_⟩
          rw [pk_un]
          · exact ex2
          · intro z
            rw [z, e] at ex2
            exact hp_neg (by omega) ex2.symm
      · by_cases qp : q = p
        · right
          rw [qp]
          exact ⟨m, by omega, pk_us, pk_us⟩
        · rw [pk_un qp]
          rcases hh.2.2 q hq with y | ⟨j, hj, y, w⟩
          · exact Or.inl y
          · exact Or.inr ⟨j, by omega, y, by rw [pk_un (show j ≠ m by omega)]; exact w⟩
    refine wk_rise hh' (by omega) hp pk_us (fun b11 b12 k1 k2 => H1 z (m + 1) b11 b12 (by omega) k1 (fun q hq => ?_))
    rw [k2 q hq]
    by_cases qp : q = p
    · exact ⟨fun y => absurd qp y.2, fun y => absurd qp y.2⟩
    · rw [pk_un qp]
  · rw [e]
    refine br_t (nI_pos' (by omega)) ⟨pk_in p 12 hp, ?_⟩
    rw [nI_clamp (show p < 2 ^ 31 by omega), e]
    exact wk_rise hh hj hp ej (fun b11 b12 k1 k2 => H1 z m b11 b12 (by omega) k1 k2)
end
section
theorem hp_take {m b p : Nat} {b11 b12 : Nat → Int32} (h : hp_ok (m + 1) b11 b12) (hb : b < 12) (hp : p < 12) (e0 : b11 0 = nI b) (em : b11 m = nI p) : hp_h m 0 p b b11 b12 ∧ b12 b = nI 0 ∧ b12 p = nI m := by
  obtain ⟨h1, h2, h3⟩ := h
  have at_ : ∀ j y, j < m + 1 → y < 12 → b11 j = nI y → b12 y = nI j := by
    intro j y hj hy e
    obtain ⟨x, hx, ex, ex2⟩ := h2 j hj
    rw [e] at ex
    rw [(nI_eq (by omega) (by omega)).mp ex]
    exact ex2
  have eb := at_ 0 b (by omega) hb e0
  have ep := at_ m p (by omega) hp em
  refine ⟨⟨by omega, fun j hj ne => ?_, fun q hq qp qb => ?_⟩, eb, ep⟩
  · obtain ⟨x, hx, ex, ex2⟩ := h2 j (by omega)
    refine ⟨x, hx, ex, fun z => ?_, fun z => ?_, ex2⟩
    · rw [z, ep] at ex2
      have := (nI_eq (by omega) (by omega)).mp ex2
      omega
    · rw [z, eb] at ex2
      have := (nI_eq (by omega) (by omega)).mp ex2
      omega
  · rcases h3 q hq with z | ⟨j, hj, z, w⟩
    · exact Or.inl z
    · refine Or.inr ⟨j, ?_, fun j0 => qb ?_, z, w⟩
      · rcases Nat.lt_or_ge j m with y | y
        · exact y
        · have : j = m := by omega
          rw [this, em] at w
          exact absurd ((nI_eq (by omega) (by omega)).mp w).symm qp
      · rw [j0, e0] at w
        exact ((nI_eq (by omega) (by omega)).mp w).symm
theorem wk_takeNearest {post : Int32 → St1 → Prop} {fp : Int32} {a1 a2 a3 a4 a5 a6 a7 a8 a9 a10 a11 a12 a13 a14 a15 a16 a17 a18 a19 a20 a21 a22 : Nat → Int32} {m : Nat} (hh : hp_ok (m + 1) a11 a12) (H : ∀ b b11 b12, b < 12 → ¬ a12 b = -1 → hp_ok m b11 b12 → (∀ q, q < 12 → (b12 q = -1 ↔ a12 q = -1 ∨ q = b)) → post (nI b) (fp, nI m, a1, a2, a3, a4, a5, a6, a7, a8, a9, a10, b11, b12, a13, a14, a15, a16, a17, a18, a19, a20, a21, a22)) : wpX_takeNearest post (fp, nI (m + 1), a1, a2, a3, a4, a5, a6, a7, a8, a9, a10, a11, a12, a13, a14, a15, a16, a17, a18, a19, a20, a21, a22) := by
  have m12 := hh.1
  obtain ⟨b, hb, e0, eb⟩ := hh.2.1 0 (by omega)
  obtain ⟨p, hp, em, ep⟩ := hh.2.1 m (by omega)
  obtain ⟨hq0, _, _⟩ := hp_take hh hb hp e0 em
  have nb : ¬ a12 b = -1 := by rw [eb]; exact hp_neg (by omega)
  refine nm_r e0 (nm_r (nI_pred m) ⟨pk_in m 16 (by omega), nm_r (by rw [nI_clamp (by omega), em]) ?_⟩)
  refine pk_le m 0 (fun z => ?_) (fun z => ?_)
  · have z0 : m = 0 := by omega
    subst z0
    refine ⟨1, br_t rfl (pk_le 0 0 (fun _ => ⟨pk_in b 12 hb, nm_r (by rw [nI_clamp (by omega)]) (H b _ _ hb nb ⟨by omega, fun j hj => absurd hj (by omega), fun q hq => ?_⟩ (fun q hq => ?_))⟩) (fun y => absurd y (by omega)))⟩
    · left
      by_cases qb : q = b
      · rw [qb, pk_us]
      · rw [pk_un qb]
        rcases hh.2.2 q hq with y | ⟨j, hj, y, w⟩
        · exact y
        · have : j = 0 := by omega
          rw [this, e0] at w
          exact absurd ((nI_eq (by omega) (by omega)).mp w).symm qb
    · by_cases qb : q = b
      · rw [qb, pk_us]
        exact ⟨fun _ => Or.inr rfl, fun _ => rfl⟩
      · rw [pk_un qb]
        exact ⟨Or.inl, fun y => y.elim id (fun w => absurd w qb)⟩
  · have pb : p ≠ b := by
      intro y
      rw [y, eb] at ep
      have := (nI_eq (by omega) (by omega)).mp ep
      omega
    refine lp4 (fun n x g c11 c12 => wX_takeNearest_43 post (nI b) (nI p) n x g fp (nI m) a1 a2 a3 a4 a5 a6 a7 a8 a9 a10 c11 c12 a13 a14 a15 a16 a17 a18 a19 a20 a21 a22) (fun x g c11 c12 => ∃ i, i < m ∧ x = nI i ∧ (g = 0 ∨ g = 1) ∧ hp_h m i p b c11 c12 ∧ ∀ q, q < 12 → q ≠ p → q ≠ b → (c12 q = -1 ↔ a12 q = -1)) (fun x g _ _ => if g = 0 then 0 else 20 - x.toNatClampNeg) ?_ 0 1 a11 a12 ⟨0, by omega, rfl, Or.inr rfl, hq0, fun _ _ _ _ => Iff.rfl⟩
    rintro n x g c11 c12 ⟨i, hi, ex, hg, hq, hiff⟩ hw
    rw [ex] at hw ⊢
    have e168 : wX_takeNearest_168 post (nI b) (nI p) (nI i) fp (nI m) a1 a2 a3 a4 a5 a6 a7 a8 a9 a10 c11 c12 a13 a14 a15 a16 a17 a18 a19 a20 a21 a22 := by
      refine pk_le m 0 (fun y => absurd y (by omega)) (fun _ => wk_setPlace (by omega) hp ⟨pk_in b 12 hb, nm_r (by rw [nI_clamp (by omega)]) (H b _ _ hb nb (hp_fillB hq hi hp pb hb) (fun q hq' => ?_))⟩)
      by_cases qb : q = b
      · rw [qb, pk_us]
        exact ⟨fun _ => Or.inr rfl, fun _ => rfl⟩
      · rw [pk_un qb]
        by_cases qp : q = p
        · rw [qp, pk_us, ep]
          exact ⟨fun w => absurd w (hp_neg (by omega)), fun w => w.elim (fun w => absurd w (hp_neg (by omega))) (fun w => absurd w pb)⟩
        · rw [pk_un qp, hiff q hq' qp qb]
          exact ⟨Or.inl, fun y => y.elim id (fun w => absurd w qb)⟩
    rcases hg with hg | hg
    · rw [hg]
      exact br_t rfl e168
    · rw [hg] at hw ⊢
      rw [nI_clamp (show i < 2 ^ 31 by omega)] at hw
      have e2 : 2 * nI i + 1 = nI (2 * i + 1) := by rw [show (2 : Int32) = nI 2 from rfl, pk_mul, nI_1]
      have e114 : ∀ c z0 z1, c < m → i < c → z1 + z0 = nI c → wX_takeNearest_114 post (wX_takeNearest_43 post (nI b) (nI p) n) (nI b) (nI p) (nI i) z0 z1 fp (nI m) a1 a2 a3 a4 a5 a6 a7 a8 a9 a10 c11 c12 a13 a14 a15 a16 a17 a18 a19 a20 a21 a22 := by
        intro c z0 z1 hcm hic hz
        obtain ⟨y, hy, ey, yp, yb, ey2⟩ := hq.2.1 c hcm (by omega)
        have ry : c11 (nI c).toNatClampNeg = nI y := by rw [nI_clamp (by omega)]; exact ey
        refine nm_r hz ⟨pk_in c 16 (by omega), pk_in y 12 hy ry, pk_in p 12 hp, br_c (fun _ => ?_) (fun _ => ?_)⟩
        · refine br_t rfl (hw (nI i) 0 c11 c12 ⟨i, hi, rfl, Or.inl rfl, hq, hiff⟩ ?_)
          rw [if_pos rfl, if_neg (by decide)]
          omega
        · refine br_f (by decide) ⟨pk_in c 16 (by omega), ?_⟩
          rw [ry]
          refine wk_setPlace (by omega) hy (hw (nI c) 1 _ _ ⟨c, hcm, rfl, Or.inr rfl, hp_move hq hi hcm (by omega) hy ey, fun q hq' qp qb => ?_⟩ ?_)
          · by_cases qy : q = y
            · rw [qy, pk_us, ← hiff y hy yp yb, ey2]
              exact ⟨fun w => absurd w (hp_neg (by omega)), fun w => absurd w (hp_neg (by omega))⟩
            · rw [pk_un qy]
              exact hiff q hq' qp qb
          · rw [if_neg (by decide), if_neg (by decide), nI_clamp (by omega)]
            omega
      refine br_f (by decide) ?_
      refine pk_le m (2 * i + 1) (fun _ => e168) (fun z2 => nm_r e2 ?_) rfl e2
      refine pk_le m (2 * i + 1 + 1) (fun _ => e114 (2 * i + 1) 0 _ z2 (by omega) (by rw [← nI_0, nI_add])) (fun z3 => ?_) rfl (nI_1 _)
      obtain ⟨y1, hy1, ey1, _⟩ := hq.2.1 (2 * i + 1) z2 (by omega)
      obtain ⟨y2, hy2, ey2, _⟩ := hq.2.1 (2 * i + 1 + 1) z3 (by omega)
      have r1 : c11 (nI (2 * i + 1)).toNatClampNeg = nI y1 := by rw [nI_clamp (by omega)]; exact ey1
      have r2 : c11 (nI (2 * i + 1) + 1).toNatClampNeg = nI y2 := by rw [nI_1, nI_clamp (by omega)]; exact ey2
      exact ⟨pk_in (2 * i + 1 + 1) 16 (by omega) (nI_1 _), pk_in y2 12 hy2 r2, pk_in (2 * i + 1) 16 (by omega), pk_in y1 12 hy1 r1, br_c (fun _ => e114 (2 * i + 1) 0 _ z2 (by omega) (by rw [← nI_0, nI_add])) (fun _ => e114 (2 * i + 1 + 1) 1 _ z3 (by omega) (nI_1 _))⟩
theorem wk_startSearch {post : St1 → Prop} {fp fh : Int32} {a1 a2 a3 a4 a5 a6 a7 a8 a9 a10 a11 a12 a13 a14 a15 a16 a17 a18 a19 a20 a21 a22 : Nat → Int32} {s : Nat} (hs : s < 12) (H : ∀ b7 b8 b11 b12, ra_1 b7 12 (rj_0 s) → hp_ok 1 b11 b12 → ¬ b12 s = -1 → post (fp, nI 1, a1, a2, a3, a4, a5, a6, b7, b8, a9, a10, b11, b12, a13, a14, a15, a16, a17, a18, a19, a20, a21, a22)) : wpX_startSearch post (fp, fh, a1, a2, a3, a4, a5, a6, a7, a8, a9, a10, a11, a12, a13, a14, a15, a16, a17, a18, a19, a20, a21, a22) (nI s) := by
  refine pk_loop (σ := (Nat → Int32) × (Nat → Int32) × (Nat → Int32)) (fun n i q => wX_startSearch_2 post (nI s) fp fh n (nI i) a1 a2 a3 a4 a5 a6 q.1 q.2.1 a9 a10 a11 q.2.2 a13 a14 a15 a16 a17 a18 a19 a20 a21 a22) (fun i q => (∀ j, j < i → q.1 j = nI 1000000) ∧ (∀ j, j < i → q.2.2 j = -1)) 12 0 (a7, a8, a12) (by omega) ⟨lt_0, lt_0⟩ ?_ ?_
  · rintro n ⟨s7, s8, s12⟩ ⟨g1, g2⟩
    refine pk_le 12 12 (fun _ => ⟨pk_in s 12 hs, nm_r (by rw [nI_clamp (by omega)]) (wk_setPlace (i := 0) (by omega) hs (H _ s8 _ _ (fun j hj => ?_) ⟨by omega, fun j hj => ?_, fun q hq => ?_⟩ ?_))⟩) (fun z => absurd z (by omega))
    · by_cases e : j = s
      · rw [e, pk_us, rj_0s]
        rfl
      · rw [pk_un e, rj_0n e]
        exact g1 j hj
    · have : j = 0 := by omega
      rw [this]
      exact ⟨s, hs, pk_us, pk_us⟩
    · by_cases e : q = s
      · right
        rw [e]
        exact ⟨0, by omega, pk_us, pk_us⟩
      · left
        rw [pk_un e]
        exact g2 q hq
    · rw [pk_us]
      exact hp_neg (by omega)
  · rintro n i ⟨s7, s8, s12⟩ hi ⟨g1, g2⟩ hw
    exact pk_le 12 i (fun z => absurd z (by omega)) (fun _ => ⟨pk_in i 12 hi, nm_e ⟨pk_in i 12 hi, nm_e ⟨pk_in i 12 hi, nm_e (nm_r (nI_1 i) (hw (_, _, _) ⟨ra_fl (f := fun _ => nI 1000000) g1 (nI_clamp (by omega)) rfl, ra_fl (f := fun _ => -1) g2 (nI_clamp (by omega)) rfl⟩))⟩⟩⟩)
/-! searches over roads, one by one: A which roads may be taken -/
def hp_sa (a : Nat → Int32) : Nat → Nat
  | 0 => 0
  | n + 1 => hp_sa a n + (a n).toNatClampNeg
theorem hp_sa_ge {a : Nat → Int32} {k n : Nat} (h : n ≤ k) (x : Int32) : hp_sa (upd a k x) n = hp_sa a n := by
  induction n with
  | zero => rfl
  | succ n ih =>
    show hp_sa (upd a k x) n + (upd a k x n).toNatClampNeg = hp_sa a n + (a n).toNatClampNeg
    rw [ih (by omega), pk_un (show n ≠ k by omega)]
theorem hp_sa_up {a : Nat → Int32} {k n : Nat} (h : k < n) (x : Int32) : hp_sa (upd a k x) n + (a k).toNatClampNeg = hp_sa a n + x.toNatClampNeg := by
  induction n with
  | zero => omega
  | succ n ih =>
    show hp_sa (upd a k x) n + (upd a k x n).toNatClampNeg + (a k).toNatClampNeg = hp_sa a n + (a n).toNatClampNeg + x.toNatClampNeg
    by_cases e : k = n
    · rw [e, hp_sa_ge (Nat.le_refl n), pk_us]
      omega
    · have := ih (by omega)
      rw [pk_un (show n ≠ k by omega)]
      omega
/-- roads out of points that aren't in the heap are done; of those out of u the ones below c -/
def hp_rl (A : Nat → Prop) (f t l : Nat → Nat) (F : Nat → Nat) (b12 : Nat → Int32) (u c : Nat) : Prop := ∀ k, k < 28 → A k → (f k ≠ u ∨ k < c) → ¬ b12 (f k) = -1 ∨ F (t k) ≤ F (f k) + l k
/-- a state of such a search -/
def hp_st (W : Nat → Nat → Nat) (s m : Nat) (b7 b11 b12 : Nat → Int32) (F : Nat → Nat) : Prop := ra_1 b7 12 F ∧ hp_ok m b11 b12 ∧ (∀ v, v < 12 → F v ≤ 1000000 ∧ rd_D W s v ≤ F v) ∧ F s = 0
theorem hp_stS {W : Nat → Nat → Nat} {s m m' p way : Nat} {b7 b11 b12 c11 c12 : Nat → Int32} {F : Nat → Nat} (h : hp_st W s m b7 b11 b12 F) (hp : p < 12) (hk : hp_ok m' c11 c12) (hway : way < F p) (hd : rd_D W s p ≤ way) (hs : s < 12) : hp_st W s m' (upd b7 p (nI way)) c11 c12 (fun v => if v = p then way else F v) := by
  obtain ⟨h1, h2, h3, h4⟩ := h
  refine ⟨ra_up h1 (by rw [if_pos rfl]) (fun j hj ne => if_neg ne), hk, fun v hv => ?_, ?_⟩
  · by_cases e : v = p
    · have := h3 p hp
      dsimp only
      rw [if_pos e, e]
      omega
    · dsimp only
      rw [if_neg e]
      exact h3 v hv
  · by_cases e : s = p
    · rw [e] at h4
      omega
    · dsimp only
      rw [if_neg e]
      exact h4
theorem hp_rlS {A : Nat → Prop} {f t l : Nat → Nat} {F : Nat → Nat} {b12 c12 : Nat → Int32} {u c : Nat} (hA : ∀ k, k < 28 → A k → f k < 12 ∧ t k < 12) (h : hp_rl A f t l F b12 u c) (hc : c < 28) (hAc : A c) (fc : f c = u) (ne : t c ≠ u) (hlt : F u + l c < F (t c)) (hq : ∀ q, q < 12 → (c12 q = -1 ↔ b12 q = -1 ∧ q ≠ t c)) : hp_rl A f t l (fun v => if v = t c then F u + l c else F v) c12 u (c + 1) := by
  intro k hk hAk hcond
  have kk := hA k hk hAk
  by_cases e : f k = t c
  · left
    intro z
    exact ((hq (f k) kk.1).mp z).2 e
  · have step : F (t k) ≤ F (f k) + l k → (if t k = t c then F u + l c else F (t k)) ≤ (if f k = t c then F u + l c else F (f k)) + l k := by
      intro z
      rw [if_neg e]
      by_cases e2 : t k = t c
      · rw [if_pos e2]
        rw [e2] at z
        omega
      · rw [if_neg e2]
        exact z
    by_cases ek : k = c
    · right
      show (if t k = t c then F u + l c else F (t k)) ≤ (if f k = t c then F u + l c else F (f k)) + l k
      rw [ek, if_pos rfl, if_neg (by rw [fc]; exact fun z => ne z.symm), fc]
      omega
    · rcases h k hk hAk (by omega) with z | z
      · left
        intro y
        exact z ((hq (f k) kk.1).mp y).1
      · right
        exact step z
theorem hp_rlN {A : Nat → Prop} {f t l : Nat → Nat} {F : Nat → Nat} {b12 : Nat → Int32} {u c : Nat} (h : hp_rl A f t l F b12 u c) (hno : A c → f c = u → F (t c) ≤ F (f c) + l c) : hp_rl A f t l F b12 u (c + 1) := by
  intro k hk hAk hcond
  by_cases ek : k = c
  · rw [ek] at hAk hcond ⊢
    by_cases e : f c = u
    · exact Or.inr (hno hAk e)
    · exact h c (by omega) hAk (Or.inl e)
  · exact h k hk hAk (by omega)
theorem wk_sf19 {post : St1 → Prop} {J : Int32 → Int32 → (Nat → Int32) → (Nat → Int32) → (Nat → Int32) → (Nat → Int32) → (Nat → Int32) → (Nat → Int32) → (Nat → Int32) → (Nat → Int32) → (Nat → Int32) → (Nat → Int32) → (Nat → Int32) → (Nat → Int32) → (Nat → Int32) → (Nat → Int32) → (Nat → Int32) → (Nat → Int32) → (Nat → Int32) → (Nat → Int32) → (Nat → Int32) → (Nat → Int32) → (Nat → Int32) → (Nat → Int32) → Prop} {fp : Int32} {a1 a2 a3 a4 a5 a6 a7 a8 a9 a10 a11 a12 a13 a14 a15 a16 a17 a18 a19 a20 a21 a22 : Nat → Int32} {f t l : Nat → Nat} (hN : rn_ok fp a1 a2 a3 f t l) {s m u M : Nat} (hs : s < 12) (hu : u < 12) {F : Nat → Nat} (hst : hp_st (rn_W fp f t l 28) s m a7 a11 a12 F) (hrl : hp_rl (fun k => rn_h fp k = true) f t l F a12 u 0) (hM : 2 * hp_sa a7 12 + m ≤ M) (H : ∀ m' b7 b11 b12 F', hp_st (rn_W fp f t l 28) s m' b7 b11 b12 F' → hp_rl (fun k => rn_h fp k = true) f t l F' b12 u 28 → 2 * hp_sa b7 12 + m' ≤ M → J fp (nI m') a1 a2 a3 a4 a5 a6 b7 a8 a9 a10 b11 b12 a13 a14 a15 a16 a17 a18 a19 a20 a21 a22) : ∃ n, wX_searchFrom_19 post J (nI u) n 0 fp (nI m) a1 a2 a3 a4 a5 a6 a7 a8 a9 a10 a11 a12 a13 a14 a15 a16 a17 a18 a19 a20 a21 a22 := by
  refine pk_loop (σ := Int32 × (Nat → Int32) × (Nat → Int32) × (Nat → Int32)) (fun n i q => wX_searchFrom_19 post J (nI u) n (nI i) fp q.1 a1 a2 a3 a4 a5 a6 q.2.1 a8 a9 a10 q.2.2.1 q.2.2.2 a13 a14 a15 a16 a17 a18 a19 a20 a21 a22) (fun i q => ∃ m' F', q.1 = nI m' ∧ hp_st (rn_W fp f t l 28) s m' q.2.1 q.2.2.1 q.2.2.2 F' ∧ hp_rl (fun k => rn_h fp k = true) f t l F' q.2.2.2 u i ∧ 2 * hp_sa q.2.1 12 + m' ≤ M) 28 0 (nI m, a7, a11, a12) (by omega) ⟨m, F, rfl, hst, hrl, hM⟩ ?_ ?_
  · rintro n ⟨c, s7, s11, s12⟩ ⟨m', F', ec, k1, k2, k3⟩
    dsimp only at ec
    rw [ec]
    exact pk_le 28 28 (fun _ => H m' s7 s11 s12 F' k1 k2 k3) (fun z => absurd z (by omega))
  · rintro n k ⟨c, s7, s11, s12⟩ hk ⟨m', F', ec, k1, k2, k3⟩ hw
    dsimp only at ec k1 k2 k3
    rw [ec]
    refine pk_le 28 k (fun z => absurd z (by omega)) (fun _ => wk_has hk (fun hh => ?_) (fun hh => ?_))
    · have g := hN.2.1 k hk hh
      have c1 : a1 (nI k).toNatClampNeg = nI (f k) := by rw [nI_clamp (by omega)]; exact g.1
      have c2 : a2 (nI k).toNatClampNeg = nI (t k) := by rw [nI_clamp (by omega)]; exact g.2.1
      have c3 : a3 (nI k).toNatClampNeg = nI (l k) := by rw [nI_clamp (by omega)]; exact g.2.2.1
      refine br_f (by decide) ⟨pk_in k 28 hk, ?_⟩
      refine pk_eq (f k) u (fun e => ⟨pk_in k 28 hk, pk_in u 12 hu, pk_in k 28 hk, ?_⟩) (fun e => nm_r (nI_1 k) (hw (nI m', s7, s11, s12) ⟨m', F', rfl, k1, hp_rlN k2 (fun _ y => absurd y e), k3⟩)) c1
      have fu := k1.2.2.1 u hu
      have ft := k1.2.2.1 (t k) g.2.2.2.2.1
      rw [c2, c3, show (nI m', s7, s11, s12).snd.fst (nI u).toNatClampNeg = nI (F' u) from ra_at k1.1 u hu, nI_add]
      refine wk_reach k1.2.1 g.2.2.2.2.1 k1.1 ft.1 (by omega) (fun z => nm_r (nI_1 k) (hw (nI m', s7, s11, s12) ⟨m', F', rfl, k1, hp_rlN k2 (fun _ _ => by rw [e]; exact z), k3⟩)) (fun z m2 b11 b12 hm2 q1 q2 => nm_r (nI_1 k) (hw (nI m2, upd s7 (t k) (nI (F' u + l k)), b11, b12) ⟨m2, fun v => if v = t k then F' u + l k else F' v, rfl, ?_, ?_, ?_⟩))
      · refine hp_stS k1 g.2.2.2.2.1 q1 z ?_ hs
        have w1 := rn_W1 (f := f) (t := t) (l := l) hh 28 hk
        have w2 := rd_stepF (rn_W fp f t l 28) hu s (t k)
        rw [e] at w1
        omega
      · exact hp_rlS (A := fun k => rn_h fp k = true) (fun j hj hjA => ⟨(hN.2.1 j hj hjA).2.2.2.1, (hN.2.1 j hj hjA).2.2.2.2.1⟩) k2 hk hh e (by rw [← e]; exact fun y => g.2.2.2.2.2.1 y.symm) z q2
      · have su := hp_sa_up (a := s7) (n := 12) g.2.2.2.2.1 (nI (F' u + l k))
        rw [k1.1 (t k) g.2.2.2.2.1, nI_clamp (by omega), nI_clamp (by omega)] at su
        dsimp only
        omega
    · refine br_t rfl (nm_r (nI_1 k) (hw (nI m', s7, s11, s12) ⟨m', F', rfl, k1, hp_rlN k2 (fun y => ?_), k3⟩))
      rw [hh] at y
      exact absurd y (by decide)
theorem hp_next {A : Nat → Prop} {f t l : Nat → Nat} {F : Nat → Nat} {b12 c12 : Nat → Int32} {u : Nat} (hA : ∀ k, k < 28 → A k → f k < 12) (h : ∀ k, k < 28 → A k → ¬ b12 (f k) = -1 ∨ F (t k) ≤ F (f k) + l k) (hq : ∀ q, q < 12 → (c12 q = -1 ↔ b12 q = -1 ∨ q = u)) : hp_rl A f t l F c12 u 0 := by
  intro k hk hAk hc
  rcases h k hk hAk with z | z
  · left
    intro y
    rcases (hq (f k) (hA k hk hAk)).mp y with w | w
    · exact z w
    · rcases hc with v | v
      · exact v w
      · omega
  · exact Or.inr z
theorem hp_0 {A : Nat → Prop} {f t l : Nat → Nat} {s : Nat} {b12 : Nat → Int32} (hs : ¬ b12 s = -1) : ∀ k, k < 28 → A k → ¬ b12 (f k) = -1 ∨ rj_0 s (t k) ≤ rj_0 s (f k) + l k := by
  intro k _ _
  by_cases e : f k = s
  · left
    rw [e]
    exact hs
  · right
    rw [rj_0n e]
    have := rj_0le s (t k)
    omega
theorem hp_empty {b11 b12 : Nat → Int32} (h : hp_ok 0 b11 b12) {q : Nat} (hq : q < 12) : b12 q = -1 := by
  rcases h.2.2 q hq with z | ⟨j, hj, _⟩
  · exact z
  · omega
theorem wk_searchFrom {post : St1 → Prop} {fp fh : Int32} {a1 a2 a3 a4 a5 a6 a7 a8 a9 a10 a11 a12 a13 a14 a15 a16 a17 a18 a19 a20 a21 a22 : Nat → Int32} {f t l : Nat → Nat} (hN : rn_ok fp a1 a2 a3 f t l) {s : Nat} (hs : s < 12) (H : ∀ h b7 b8 b11 b12, ra_1 b7 12 (rd_D (rn_W fp f t l 28) s) → post (fp, h, a1, a2, a3, a4, a5, a6, b7, b8, a9, a10, b11, b12, a13, a14, a15, a16, a17, a18, a19, a20, a21, a22)) : wpX_searchFrom post (fp, fh, a1, a2, a3, a4, a5, a6, a7, a8, a9, a10, a11, a12, a13, a14, a15, a16, a17, a18, a19, a20, a21, a22) (nI s) := by
  have hW := rn_wok hN 28 (by omega)
  refine wk_startSearch hs (fun b7 b8 b11 b12 h7 hh hq => ?_)
  have sn := rj_snd0 (rd_self (rn_W fp f t l 28) s) (fun v hv => rd_cap hW hs hv)
  refine lp4 (fun n c c7 c11 c12 => wX_searchFrom_5 post n fp c a1 a2 a3 a4 a5 a6 c7 b8 a9 a10 c11 c12 a13 a14 a15 a16 a17 a18 a19 a20 a21 a22) (fun c c7 c11 c12 => ∃ m F, c = nI m ∧ hp_st (rn_W fp f t l 28) s m c7 c11 c12 F ∧ ∀ k, k < 28 → rn_h fp k = true → ¬ c12 (f k) = -1 ∨ F (t k) ≤ F (f k) + l k) (fun c c7 _ _ => 2 * hp_sa c7 12 + c.toNatClampNeg) ?_ (nI 1) b7 b11 b12 ⟨1, rj_0 s, rfl, ⟨h7, hh, fun v hv => ⟨rj_0le s v, sn.2 v hv⟩, sn.1⟩, hp_0 (A := fun k => rn_h fp k = true) hq⟩
  rintro n c c7 c11 c12 ⟨m, F, ec, hst, hr⟩ hw
  rw [ec] at hw ⊢
  have m12 := hst.2.1.1
  refine pk_le m 0 (fun z => H _ c7 b8 c11 c12 ?_) (fun z => ?_)
  · have m0 : m = 0 := by omega
    rw [m0] at hst
    refine ra_ext hst.1 (rj_all hW hs ⟨hst.2.2.2, fun v hv => (hst.2.2.1 v hv).2⟩ (fun v hv => (hst.2.2.1 v hv).1) (fun u v hu hv => ?_))
    rcases rn_W2 fp f t l u v 28 with y | ⟨k, hk, hhk, e1, e2, y⟩
    · have := (hst.2.2.1 v hv).1
      omega
    · rcases hr k hk hhk with w | w
      · exact absurd (hp_empty hst.2.1 (by rw [e1]; exact hu)) w
      · rw [e1, e2] at w
        omega
  · obtain ⟨m', em⟩ : ∃ m', m = m' + 1 := ⟨m - 1, by omega⟩
    subst em
    refine wk_takeNearest hst.2.1 (fun b d11 d12 hb nb q1 q2 => ?_)
    refine wk_sf19 hN hs hb (M := 2 * hp_sa c7 12 + m') ⟨hst.1, q1, hst.2.2⟩ (hp_next (A := fun k => rn_h fp k = true) (fun k hk hA => (hN.2.1 k hk hA).2.2.2.1) hr q2) (Nat.le_refl _) (fun m2 d7 e11 e12 F' r1 r2 r3 => hw (nI m2) d7 e11 e12 ⟨m2, F', rfl, r1, fun k hk hA => r2 k hk hA (Or.inr hk)⟩ ?_)
    have := r1.2.1.1
    rw [nI_clamp (by omega), nI_clamp (by omega)]
    omega
end
section
/-! engine 5 -/
def hp_A (P : Int32) (b20 : Nat → Int32) (d k : Nat) : Prop := rn_h P k = true ∧ ¬ (b20 k >>> (nI (d / 3) &&& 31)) &&& 1 = 0
theorem wk_bf20 {post : Int32 → St1 → Prop} {J : Int32 → Int32 → (Nat → Int32) → (Nat → Int32) → (Nat → Int32) → (Nat → Int32) → (Nat → Int32) → (Nat → Int32) → (Nat → Int32) → (Nat → Int32) → (Nat → Int32) → (Nat → Int32) → (Nat → Int32) → (Nat → Int32) → (Nat → Int32) → (Nat → Int32) → (Nat → Int32) → (Nat → Int32) → (Nat → Int32) → (Nat → Int32) → (Nat → Int32) → (Nat → Int32) → (Nat → Int32) → (Nat → Int32) → Prop} {fp : Int32} {a1 a2 a3 a4 a5 a6 a7 a8 a9 a10 a11 a12 a13 a14 a15 a16 a17 a18 a19 a20 a21 a22 : Nat → Int32} {f t l : Nat → Nat} (hN : rn_ok fp a1 a2 a3 f t l) {s d m u M : Nat} (hs : s < 12) (hu : u < 12) (hd : d < 12) {F : Nat → Nat} (hst : hp_st (rn_W fp f t l 28) s m a7 a11 a12 F) (hrl : hp_rl (hp_A fp a20 d) f t l F a12 u 0) (hM : 2 * hp_sa a7 12 + m ≤ M) (H : ∀ m' b7 b11 b12 F', hp_st (rn_W fp f t l 28) s m' b7 b11 b12 F' → hp_rl (hp_A fp a20 d) f t l F' b12 u 28 → 2 * hp_sa b7 12 + m' ≤ M → J fp (nI m') a1 a2 a3 a4 a5 a6 b7 a8 a9 a10 b11 b12 a13 a14 a15 a16 a17 a18 a19 a20 a21 a22) : ∃ n, wX_distanceByFlags_20 post J (nI d) (nI u) n 0 fp (nI m) a1 a2 a3 a4 a5 a6 a7 a8 a9 a10 a11 a12 a13 a14 a15 a16 a17 a18 a19 a20 a21 a22 := by
  refine pk_loop (σ := Int32 × (Nat → Int32) × (Nat → Int32) × (Nat → Int32)) (fun n i q => wX_distanceByFlags_20 post J (nI d) (nI u) n (nI i) fp q.1 a1 a2 a3 a4 a5 a6 q.2.1 a8 a9 a10 q.2.2.1 q.2.2.2 a13 a14 a15 a16 a17 a18 a19 a20 a21 a22) (fun i q => ∃ m' F', q.1 = nI m' ∧ hp_st (rn_W fp f t l 28) s m' q.2.1 q.2.2.1 q.2.2.2 F' ∧ hp_rl (hp_A fp a20 d) f t l F' q.2.2.2 u i ∧ 2 * hp_sa q.2.1 12 + m' ≤ M) 28 0 (nI m, a7, a11, a12) (by omega) ⟨m, F, rfl, hst, hrl, hM⟩ ?_ ?_
  · rintro n ⟨c, s7, s11, s12⟩ ⟨m', F', ec, k1, k2, k3⟩
    dsimp only at ec
    rw [ec]
    exact pk_le 28 28 (fun _ => H m' s7 s11 s12 F' k1 k2 k3) (fun z => absurd z (by omega))
  · rintro n k ⟨c, s7, s11, s12⟩ hk ⟨m', F', ec, k1, k2, k3⟩ hw
    dsimp only at ec k1 k2 k3
    rw [ec]
    refine pk_le 28 k (fun z => absurd z (by omega)) (fun _ => wk_has hk (fun hh => ?_) (fun hh => ?_))
    · have g := hN.2.1 k hk hh
      have c1 : a1 (nI k).toNatClampNeg = nI (f k) := by rw [nI_clamp (by omega)]; exact g.1
      have c2 : a2 (nI k).toNatClampNeg = nI (t k) := by rw [nI_clamp (by omega)]; exact g.2.1
      have c3 : a3 (nI k).toNatClampNeg = nI (l k) := by rw [nI_clamp (by omega)]; exact g.2.2.1
      have ed : nI d / 3 = nI (d / 3) := ra_d3 (by omega)
      refine br_f (by decide) ⟨pk_in k 28 hk, ?_⟩
      refine pk_eq (f k) u (fun e => ⟨pk_in k 28 hk, by decide, br_c (fun zf => nm_r (nI_1 k) (hw (nI m', s7, s11, s12) ⟨m', F', rfl, k1, hp_rlN k2 (fun y _ => ?_), k3⟩)) (fun zf => ⟨pk_in k 28 hk, pk_in u 12 hu, pk_in k 28 hk, ?_⟩)⟩) (fun e => nm_r (nI_1 k) (hw (nI m', s7, s11, s12) ⟨m', F', rfl, k1, hp_rlN k2 (fun _ y => absurd y e), k3⟩)) c1
      · rw [ed, nI_clamp (by omega)] at zf
        exact absurd zf y.2
      · rw [ed, nI_clamp (by omega)] at zf
        have fu := k1.2.2.1 u hu
        have ft := k1.2.2.1 (t k) g.2.2.2.2.1
        rw [c2, c3, show (nI m', s7, s11, s12).snd.fst (nI u).toNatClampNeg = nI (F' u) from ra_at k1.1 u hu, nI_add]
        refine wk_reach k1.2.1 g.2.2.2.2.1 k1.1 ft.1 (by omega) (fun z => nm_r (nI_1 k) (hw (nI m', s7, s11, s12) ⟨m', F', rfl, k1, hp_rlN k2 (fun _ _ => by rw [e]; exact z), k3⟩)) (fun z m2 b11 b12 hm2 q1 q2 => nm_r (nI_1 k) (hw (nI m2, upd s7 (t k) (nI (F' u + l k)), b11, b12) ⟨m2, fun v => if v = t k then F' u + l k else F' v, rfl, ?_, ?_, ?_⟩))
        · refine hp_stS k1 g.2.2.2.2.1 q1 z ?_ hs
          have w1 := rn_W1 (f := f) (t := t) (l := l) hh 28 hk
          have w2 := rd_stepF (rn_W fp f t l 28) hu s (t k)
          rw [e] at w1
          omega
        · exact hp_rlS (A := hp_A fp a20 d) (fun j hj hjA => ⟨(hN.2.1 j hj hjA.1).2.2.2.1, (hN.2.1 j hj hjA.1).2.2.2.2.1⟩) k2 hk ⟨hh, zf⟩ e (by rw [← e]; exact fun y => g.2.2.2.2.2.1 y.symm) z q2
        · have su := hp_sa_up (a := s7) (n := 12) g.2.2.2.2.1 (nI (F' u + l k))
          rw [k1.1 (t k) g.2.2.2.2.1, nI_clamp (by omega), nI_clamp (by omega)] at su
          dsimp only
          omega
    · refine br_t rfl (nm_r (nI_1 k) (hw (nI m', s7, s11, s12) ⟨m', F', rfl, k1, hp_rlN k2 (fun y => ?_), k3⟩))
      have y1 := y.1
      rw [hh] at y1
      exact absurd y1 (by decide)
theorem rf_path {P : Int32} {a1 a2 a3 : Nat → Int32} {f t l : Nat → Nat} (hN : rn_ok P a1 a2 a3 f t l) {s d : Nat} (hs : s < 12) (hd : d < 12) {F : Nat → Nat} (h0 : F s = 0) {b20 : Nat → Int32} (hfl : rf_ok P (rn_W P f t l 28) f t l 12 b20) (hr : ∀ k, k < 28 → hp_A P b20 d k → F (t k) ≤ F (f k) + l k) (hl : rd_D (rn_W P f t l 28) s d < 1000000) : ∀ n v, v < 12 → rd_D (rn_W P f t l 28) s v ≤ n → rd_D (rn_W P f t l 28) s v + rd_D (rn_W P f t l 28) v d = rd_D (rn_W P f t l 28) s d → F v ≤ rd_D (rn_W P f t l 28) s v := by
  have hW := rn_wok hN 28 (by omega)
  intro n
  induction n with
  | zero =>
    intro v hv hn _
    by_cases e : s = v
    · rw [← e, h0]; omega
    · have := rd_pos hW hs hv e
      omega
  | succ n ih =>
    intro v hv hn hpath
    by_cases e : s = v
    · rw [← e, h0]; omega
    · obtain ⟨q, hq, hqv, g⟩ := rd_last (W := rn_W P f t l 28) hs hv e (by omega)
      have p1 := (hW q v hq hv).1
      have t1 := rd_stepB (rn_W P f t l 28) hv q d
      have t2 := rd_tri (rn_W P f t l 28) hq s d
      have i1 := ih q hq (by omega) (by omega)
      rcases rn_W2 P f t l q v 28 with z | ⟨k, hk, hh, e1, e2, z⟩
      · omega
      · obtain ⟨w, hw, ew, hb⟩ := hfl k hk
        have on : rf_on P (rn_W P f t l 28) f t l k d := ⟨hh, by rw [e2]; omega, by rw [e1, e2]; omega⟩
        have bit := hb d hd on
        have := hr k hk ⟨hh, by rw [ew]; exact (rf_tb w hw (d / 3) (by omega)).mpr bit⟩
        rw [e1, e2] at this
        omega
theorem wk_distanceByFlags {post : Int32 → St1 → Prop} {fp fh : Int32} {a1 a2 a3 a4 a5 a6 a7 a8 a9 a10 a11 a12 a13 a14 a15 a16 a17 a18 a19 a20 a21 a22 : Nat → Int32} {f t l : Nat → Nat} (hN : rn_ok fp a1 a2 a3 f t l) {s d : Nat} (hs : s < 12) (hd : d < 12) (hfl : rf_ok fp (rn_W fp f t l 28) f t l 12 a20) (H : ∀ h b7 b8 b11 b12, post (nI (rd_D (rn_W fp f t l 28) s d)) (fp, h, a1, a2, a3, a4, a5, a6, b7, b8, a9, a10, b11, b12, a13, a14, a15, a16, a17, a18, a19, a20, a21, a22)) : wpX_distanceByFlags post (fp, fh, a1, a2, a3, a4, a5, a6, a7, a8, a9, a10, a11, a12, a13, a14, a15, a16, a17, a18, a19, a20, a21, a22) (nI s) (nI d) := by
  have hW := rn_wok hN 28 (by omega)
  refine wk_startSearch hs (fun b7 b8 b11 b12 h7 hh hq => ?_)
  have sn := rj_snd0 (rd_self (rn_W fp f t l 28) s) (fun v hv => rd_cap hW hs hv)
  refine lp4 (fun n c c7 c11 c12 => wX_distanceByFlags_5 post (nI d) n fp c a1 a2 a3 a4 a5 a6 c7 b8 a9 a10 c11 c12 a13 a14 a15 a16 a17 a18 a19 a20 a21 a22) (fun c c7 c11 c12 => ∃ m F, c = nI m ∧ hp_st (rn_W fp f t l 28) s m c7 c11 c12 F ∧ ∀ k, k < 28 → hp_A fp a20 d k → ¬ c12 (f k) = -1 ∨ F (t k) ≤ F (f k) + l k) (fun c c7 _ _ => 2 * hp_sa c7 12 + c.toNatClampNeg) ?_ (nI 1) b7 b11 b12 ⟨1, rj_0 s, rfl, ⟨h7, hh, fun v hv => ⟨rj_0le s v, sn.2 v hv⟩, sn.1⟩, hp_0 (A := hp_A fp a20 d) hq⟩
  rintro n c c7 c11 c12 ⟨m, F, ec, hst, hr⟩ hw
  rw [ec] at hw ⊢
  have m12 := hst.2.1.1
  refine pk_le m 0 (fun z => ⟨pk_in d 12 hd, ?_⟩) (fun z => ?_)
  · have m0 : m = 0 := by omega
    rw [m0] at hst
    have ft : F d = rd_D (rn_W fp f t l 28) s d := by
      have g1 := hst.2.2.1 d hd
      by_cases c : rd_D (rn_W fp f t l 28) s d < 1000000
      · have g2 := rf_path hN hs hd hst.2.2.2 hfl (fun k hk hA => by
          rcases hr k hk hA with y | y
          · exact absurd (hp_empty hst.2.1 (hN.2.1 k hk hA.1).2.2.2.1) y
          · exact y) c (rd_D (rn_W fp f t l 28) s d) d hd (Nat.le_refl _) (by rw [rd_self]; omega)
        omega
      · omega
    rw [ra_at hst.1 d hd, ft]
    exact H _ c7 b8 c11 c12
  · obtain ⟨m', em⟩ : ∃ m', m = m' + 1 := ⟨m - 1, by omega⟩
    subst em
    refine wk_takeNearest hst.2.1 (fun b d11 d12 hb nb q1 q2 => ?_)
    refine wk_bf20 hN hs hb hd (M := 2 * hp_sa c7 12 + m') ⟨hst.1, q1, hst.2.2⟩ (hp_next (A := hp_A fp a20 d) (fun k hk hA => (hN.2.1 k hk hA.1).2.2.2.1) hr q2) (Nat.le_refl _) (fun m2 d7 e11 e12 F' r1 r2 r3 => hw (nI m2) d7 e11 e12 ⟨m2, F', rfl, r1, fun k hk hA => r2 k hk hA (Or.inr hk)⟩ ?_)
    have := r1.2.1.1
    rw [nI_clamp (by omega), nI_clamp (by omega)]
    omega
/-! all seven -/
def pr_ok (e : Nat) (P : Int32) (f t l : Nat → Nat) (a4 a13 a14 a15 a16 a18 a19 a20 a21 a22 : Nat → Int32) : Prop := ra_2 a4 (rn_W P f t l 28) ∧ (e = 2 → rh_ok (rn_W P f t l 28) a13 a14) ∧ (e = 3 → rl_ok (rn_W P f t l 28) a15 a16) ∧ (e = 4 → rm_ok (rn_W P f t l 28) a18 a19) ∧ (e = 5 → rf_ok P (rn_W P f t l 28) f t l 12 a20) ∧ (e = 6 → rz_ok (rn_W P f t l 28) a21 a22)
theorem wk_prepare {post : St1 → Prop} {fp fh : Int32} {a1 a2 a3 a4 a5 a6 a7 a8 a9 a10 a11 a12 a13 a14 a15 a16 a17 a18 a19 a20 a21 a22 : Nat → Int32} {e : Nat} (he : e < 7) {f t l : Nat → Nat} (hN : rn_ok fp a1 a2 a3 f t l) (H : ∀ b4 b7 b8 b9 b10 b13 b14 b15 b16 b17 b18 b19 b20 b21 b22, pr_ok e fp f t l b4 b13 b14 b15 b16 b18 b19 b20 b21 b22 → post (fp, fh, a1, a2, a3, b4, a5, a6, b7, b8, b9, b10, a11, a12, b13, b14, b15, b16, b17, b18, b19, b20, b21, b22)) : wpX_prepare post (fp, fh, a1, a2, a3, a4, a5, a6, a7, a8, a9, a10, a11, a12, a13, a14, a15, a16, a17, a18, a19, a20, a21, a22) (nI e) := by
  have hW := rn_wok hN 28 (by omega)
  refine wk_layRoads hN (fun b4 h4 => ?_)
  refine pk_eq e 2 (fun e2 => wk_layHierarchy hW h4 (fun b7 b8 b13 b14 h => H _ _ _ _ _ _ _ _ _ _ _ _ _ _ _ ⟨h4, fun _ => h, fun z => absurd z (by omega), fun z => absurd z (by omega), fun z => absurd z (by omega), fun z => absurd z (by omega)⟩)) (fun n2 => ?_)
  refine pk_eq e 3 (fun e2 => wk_layLabels hW h4 (fun b7 b8 b9 b10 b15 b16 h => H _ _ _ _ _ _ _ _ _ _ _ _ _ _ _ ⟨h4, fun z => absurd z (by omega), fun _ => h, fun z => absurd z (by omega), fun z => absurd z (by omega), fun z => absurd z (by omega)⟩)) (fun n3 => ?_)
  refine pk_eq e 4 (fun e2 => wk_layLandmarks hW h4 (fun b7 b8 b9 b10 b17 b18 b19 h => H _ _ _ _ _ _ _ _ _ _ _ _ _ _ _ ⟨h4, fun z => absurd z (by omega), fun z => absurd z (by omega), fun _ => h, fun z => absurd z (by omega), fun z => absurd z (by omega)⟩)) (fun n4 => ?_)
  refine pk_eq e 5 (fun e2 => wk_layFlags hN hW h4 (fun b7 b8 b9 b10 b20 h => H _ _ _ _ _ _ _ _ _ _ _ _ _ _ _ ⟨h4, fun z => absurd z (by omega), fun z => absurd z (by omega), fun z => absurd z (by omega), fun _ => h, fun z => absurd z (by omega)⟩)) (fun n5 => ?_)
  refine pk_eq e 6 (fun e2 => wk_layCells hN h4 (fun b21 b22 k1 k2 => H _ _ _ _ _ _ _ _ _ _ _ _ _ _ _ ⟨h4, fun z => absurd z (by omega), fun z => absurd z (by omega), fun z => absurd z (by omega), fun z => absurd z (by omega), fun _ => ⟨k2, k1⟩⟩)) (fun n6 => ?_)
  exact H _ _ _ _ _ _ _ _ _ _ _ _ _ _ _ ⟨h4, fun z => absurd z (by omega), fun z => absurd z (by omega), fun z => absurd z (by omega), fun z => absurd z (by omega), fun z => absurd z (by omega)⟩
theorem wk_distanceBy {post : Int32 → St1 → Prop} {fp fh : Int32} {a1 a2 a3 a4 a5 a6 a7 a8 a9 a10 a11 a12 a13 a14 a15 a16 a17 a18 a19 a20 a21 a22 : Nat → Int32} {e : Nat} (he : e < 7) {f t l : Nat → Nat} (hN : rn_ok fp a1 a2 a3 f t l) (hpr : pr_ok e fp f t l a4 a13 a14 a15 a16 a18 a19 a20 a21 a22) {s d : Nat} (hs : s < 12) (hd : d < 12) (H : ∀ bh b7 b8 b9 b10 b11 b12, post (nI (rd_D (rn_W fp f t l 28) s d)) (fp, bh, a1, a2, a3, a4, a5, a6, b7, b8, b9, b10, b11, b12, a13, a14, a15, a16, a17, a18, a19, a20, a21, a22)) : wpX_distanceBy post (fp, fh, a1, a2, a3, a4, a5, a6, a7, a8, a9, a10, a11, a12, a13, a14, a15, a16, a17, a18, a19, a20, a21, a22) (nI e) (nI s) (nI d) := by
  have hW := rn_wok hN 28 (by omega)
  obtain ⟨h4, p2, p3, p4, p5, p6⟩ := hpr
  refine br_f (nI_pos (by omega)) (pk_lt 5 e (fun z => wk_distanceOverCells hW hs hd h4 (p6 (by omega)) (fun b7 b8 b9 b10 => H _ _ _ _ _ _ _)) (fun z => ?_))
  refine pk_eq e 0 (fun e0 => wk_searchFrom hN hs (fun h b7 b8 b11 b12 h7 => ⟨pk_in d 12 hd, ?_⟩)) (fun n0 => ?_)
  · rw [ra_at h7 d hd]
    exact H _ _ _ _ _ _ _
  refine pk_eq e 1 (fun e0 => wk_distanceFromBoth hW hs hd h4 (fun b7 b8 b9 b10 => H _ _ _ _ _ _ _)) (fun n1 => ?_)
  refine pk_eq e 2 (fun e0 => wk_distanceUp hW hs hd (p2 e0) (fun b7 b8 b9 b10 => H _ _ _ _ _ _ _)) (fun n2 => ?_)
  refine pk_eq e 3 (fun e0 => ?_) (fun n3 => ?_)
  · obtain ⟨T, X, Hb, h15, h16, hinv, hall⟩ := p3 e0
    refine wk_distanceByLabels hs hd h15 h16 (rl_Tc hW hinv) (rl_Xc hW hinv) (fun v hv => ?_)
    rw [rl_fin hW hinv hall hs hd hv]
    exact H _ _ _ _ _ _ _
  refine pk_eq e 4 (fun e0 => wk_distanceWithLandmarks hW hs hd h4 (p4 e0) (fun b7 b8 b9 b10 => H _ _ _ _ _ _ _)) (fun n4 => ?_)
  exact pk_eq e 5 (fun e0 => wk_distanceByFlags hN hs hd (p5 e0) (fun h b7 b8 b11 b12 => H _ _ _ _ _ _ _)) (fun n5 => absurd n5 (by omega))
theorem wk_findAll {post : St1 → Prop} {fp fh : Int32} {a1 a2 a3 a4 a5 a6 a7 a8 a9 a10 a11 a12 a13 a14 a15 a16 a17 a18 a19 a20 a21 a22 : Nat → Int32} {e : Nat} (he : e < 7) {f t l : Nat → Nat} (hN : rn_ok fp a1 a2 a3 f t l) (H : ∀ bh b4 b5 b7 b8 b9 b10 b11 b12 b13 b14 b15 b16 b17 b18 b19 b20 b21 b22, ra_2 b5 (rd_D (rn_W fp f t l 28)) → pr_ok e fp f t l b4 b13 b14 b15 b16 b18 b19 b20 b21 b22 → post (fp, bh, a1, a2, a3, b4, b5, a6, b7, b8, b9, b10, b11, b12, b13, b14, b15, b16, b17, b18, b19, b20, b21, b22)) : wpX_findAll post (fp, fh, a1, a2, a3, a4, a5, a6, a7, a8, a9, a10, a11, a12, a13, a14, a15, a16, a17, a18, a19, a20, a21, a22) (nI e) := by
  have hW := rn_wok hN 28 (by omega)
  unfold wpX_findAll
  refine wk_prepare he hN (fun b4 b7 b8 b9 b10 b13 b14 b15 b16 b17 b18 b19 b20 b21 b22 hpr => ?_)
  refine pk_loop (σ := Int32 × (Nat → Int32) × (Nat → Int32) × (Nat → Int32) × (Nat → Int32) × (Nat → Int32) × (Nat → Int32) × (Nat → Int32)) (fun n i q => wX_findAll_7 post (nI e) n (nI i) fp q.1 a1 a2 a3 b4 q.2.1 a6 q.2.2.1 q.2.2.2.1 q.2.2.2.2.1 q.2.2.2.2.2.1 q.2.2.2.2.2.2.1 q.2.2.2.2.2.2.2 b13 b14 b15 b16 b17 b18 b19 b20 b21 b22) (fun i q => ∀ j, j < i → q.2.1 j = nI (rd_D (rn_W fp f t l 28) (j / 12) (j % 12))) 144 0 (fh, a5, b7, b8, b9, b10, a11, a12) (by omega) lt_0 ?_ ?_
  · rintro n ⟨ch, c5, c7, c8, c9, c10, c11, c12⟩ h
    refine pk_le 144 144 (fun _ => H _ _ _ _ _ _ _ _ _ _ _ _ _ _ _ _ _ _ _ (fun i j hi hj => ?_) hpr) (fun z => absurd z (by omega))
    rw [h (i * 12 + j) (by omega), show (i * 12 + j) / 12 = i by omega, show (i * 12 + j) % 12 = j by omega]
  · rintro n i ⟨ch, c5, c7, c8, c9, c10, c11, c12⟩ hi h hw
    refine pk_le 144 i (fun z => absurd z (by omega)) (fun _ => ⟨by decide, by decide, ?_⟩)
    rw [ra_md hi, ra_dv hi]
    have cap := rd_cap hW (show i / 12 < 12 by omega) (show i % 12 < 12 by omega)
    refine wk_distanceBy he hN hpr (by omega) (by omega) (fun dh d7 d8 d9 d10 d11 d12 => ?_)
    refine pk_le 1000000 (rd_D (rn_W fp f t l 28) (i / 12) (i % 12)) (fun z => ⟨pk_in i 144 hi, nm_e (nm_r (nI_1 i) (hw (_, _, _, _, _, _, _, _) (ra_fl (f := fun j => nI (rd_D (rn_W fp f t l 28) (j / 12) (j % 12))) h (nI_clamp (by omega)) ?_)))⟩) (fun z => ⟨pk_in i 144 hi, nm_e (nm_r (nI_1 i) (hw (_, _, _, _, _, _, _, _) (ra_fl (f := fun j => nI (rd_D (rn_W fp f t l 28) (j / 12) (j % 12))) h (nI_clamp (by omega)) rfl)))⟩)
    rw [show rd_D (rn_W fp f t l 28) (i / 12) (i % 12) = 1000000 by omega]
    rfl
end
section
/-! the net: its distances, sets as bits, greatest numbers -/
def rn_D (P : Int32) (f t l : Nat → Nat) : Nat → Nat → Nat := rd_D (rn_W P f t l 28)
/-- what distance answers -/
def rn_a (d : Nat) : Int32 := if d < 1000000 then nI d else -3
theorem rn_a1 {d : Nat} (h : d < 1000000) : rn_a d = nI d := if_pos h
theorem rn_a2 {d : Nat} (h : ¬ d < 1000000) : rn_a d = -3 := if_neg h
theorem rn_n3 {d : Nat} (h : d < 2 ^ 31) : ¬ nI d = -3 := fun z => by
  have := nI_pos h
  rw [z] at this
  exact this (by decide)
theorem rn_a3 (d : Nat) : rn_a d = -3 ↔ ¬ d < 1000000 := by
  by_cases c : d < 1000000
  · rw [rn_a1 c]
    exact ⟨fun z => absurd z (rn_n3 (by omega)), fun z => absurd c z⟩
  · rw [rn_a2 c]
    exact ⟨fun _ => c, fun _ => rfl⟩
theorem rn_a0 (d : Nat) : rn_a d < 0 ↔ ¬ d < 1000000 := by
  by_cases c : d < 1000000
  · rw [rn_a1 c]
    exact ⟨fun z => absurd z (nI_pos (by omega)), fun z => absurd c z⟩
  · rw [rn_a2 c]
    exact ⟨fun _ => c, fun _ => by decide⟩
def rn_set (c : Nat → Bool) : Nat → Int32
  | 0 => 0
  | n + 1 => if c n = true then rn_set c n ||| ((1 : Int32) <<< (nI n &&& 31)) else rn_set c n
theorem rn_set_s (c : Nat → Bool) (n : Nat) : rn_set c (n + 1) = if c n = true then rn_set c n ||| ((1 : Int32) <<< (nI n &&& 31)) else rn_set c n := rfl
theorem rn_set_bt (c : Nat → Bool) : ∀ n, n ≤ 32 → ∀ i, i < 32 → bt (rn_set c n) i = (decide (i < n) && c i) := by
  intro n
  induction n with
  | zero =>
    intro _ i _
    show bt 0 i = _
    rw [b_0]
    simp
  | succ n ih =>
    intro hn i hi
    rw [rn_set_s]
    by_cases e : i = n
    · rw [e]
      have h0 := ih (by omega) n (by omega)
      cases h : c n
      · rw [if_neg (by decide), h0, h]
        simp
      · rw [if_pos rfl, bq_set _ (by omega) (by omega), h0]
        simp
    · have h0 := ih (by omega) i hi
      have eq : decide (i < n + 1) = decide (i < n) := by
        by_cases c : i < n
        · rw [decide_eq_true c, decide_eq_true (by omega)]
        · rw [decide_eq_false c, decide_eq_false (by omega)]
      cases h : c n
      · rw [if_neg (by decide), h0, eq]
      · rw [if_pos rfl, bq_set _ (by omega) hi, h0, eq]
        simp [e]
def rn_mx (g : Nat → Nat) : Nat → Nat
  | 0 => 0
  | n + 1 => if g n < 1000000 then max (rn_mx g n) (g n) else rn_mx g n
theorem rn_mx_s (g : Nat → Nat) (n : Nat) : rn_mx g (n + 1) = if g n < 1000000 then max (rn_mx g n) (g n) else rn_mx g n := rfl
theorem rn_mx_lt (g : Nat → Nat) (n : Nat) : rn_mx g n < 1000000 := by
  induction n with
  | zero => show 0 < 1000000; omega
  | succ n ih =>
    rw [rn_mx_s]
    split <;> omega
theorem rn_mx_ge (g : Nat → Nat) : ∀ n j, j < n → g j < 1000000 → g j ≤ rn_mx g n := by
  intro n
  induction n with
  | zero => intro j hj; omega
  | succ n ih =>
    intro j hj hl
    rw [rn_mx_s]
    by_cases e : j = n
    · rw [e] at hl ⊢
      rw [if_pos hl]
      omega
    · have := ih j (by omega) hl
      split <;> omega
theorem rn_mx_le (g : Nat → Nat) (m : Nat) : ∀ n, (∀ j, j < n → g j < 1000000 → g j ≤ m) → rn_mx g n ≤ m := by
  intro n
  induction n with
  | zero => intro _; show 0 ≤ m; omega
  | succ n ih =>
    intro h
    have a1 := ih (fun j hj => h j (by omega))
    rw [rn_mx_s]
    by_cases c : g n < 1000000
    · have a2 := h n (by omega) c
      rw [if_pos c]
      omega
    · rw [if_neg c]
      exact a1
theorem rn_mx_congr {g g' : Nat → Nat} : ∀ n, (∀ j, j < n → g j = g' j) → rn_mx g n = rn_mx g' n := by
  intro n
  induction n with
  | zero => intro _; rfl
  | succ n ih =>
    intro h
    rw [rn_mx_s, rn_mx_s, ih (fun j hj => h j (by omega)), h n (by omega)]
/-! a road goes -/
def rn_z (k : Nat) (f : Nat → Nat) (j : Nat) : Nat := if j = k then 0 else f j
theorem rn_zk (k : Nat) (f : Nat → Nat) : rn_z k f k = 0 := if_pos rfl
theorem rn_zn {k j : Nat} (f : Nat → Nat) (h : j ≠ k) : rn_z k f j = f j := if_neg h
def rn_clr (P : Int32) (k : Nat) : Int32 := P &&& (((1 : Int32) <<< (nI k &&& 31)) ^^^ (-1))
def rn_put (P : Int32) (k : Nat) : Int32 := P ||| ((1 : Int32) <<< (nI k &&& 31))
theorem rn_clr_h (P : Int32) {k j : Nat} (hk : k < 28) (hj : j < 28) : rn_h (rn_clr P k) j = (rn_h P j && !decide (j = k)) := by
  unfold rn_clr
  rw [bq_h (show j < 32 by omega), bq_clr P (show k < 32 by omega) (show j < 32 by omega), bq_h (show j < 32 by omega)]
theorem rn_put_h (P : Int32) {k j : Nat} (hk : k < 28) (hj : j < 28) : rn_h (rn_put P k) j = (rn_h P j || decide (j = k)) := by
  unfold rn_put
  rw [bq_h (show j < 32 by omega), bq_set P (show k < 32 by omega) (show j < 32 by omega), bq_h (show j < 32 by omega)]
theorem rn_put_clr {P : Int32} {k : Nat} (hk : k < 28) (h : rn_h P k = true) : rn_put (rn_clr P k) k = P := by
  refine b_ext (fun i hi => ?_)
  unfold rn_put rn_clr
  rw [bq_set _ (show k < 32 by omega) hi, bq_clr P (show k < 32 by omega) hi]
  by_cases e : i = k
  · rw [bq_h (show k < 32 by omega)] at h
    rw [e, h]
    simp
  · simp [e]
theorem rn_clr_put {P : Int32} {k : Nat} (hk : k < 28) (h : rn_h P k = false) : rn_clr (rn_put P k) k = P := by
  refine b_ext (fun i hi => ?_)
  unfold rn_put rn_clr
  rw [bq_clr _ (show k < 32 by omega) hi, bq_set P (show k < 32 by omega) hi]
  by_cases e : i = k
  · rw [bq_h (show k < 32 by omega)] at h
    rw [e, h]
    simp
  · simp [e]
/-- a hole beyond 28 stays one -/
theorem rn_rem {P : Int32} {a1 a2 a3 : Nat → Int32} {f t l : Nat → Nat} (h : rn_ok P a1 a2 a3 f t l) {k : Nat} (hk : k < 28) : rn_ok (rn_clr P k) a1 a2 a3 (rn_z k f) (rn_z k t) (rn_z k l) := by
  obtain ⟨h1, h2, h3⟩ := h
  refine ⟨h1, fun j hj hh => ?_, fun j hj => ?_⟩
  · rw [rn_clr_h P hk hj] at hh
    have e : j ≠ k := by
      intro e
      rw [e] at hh
      simp at hh
    rw [rn_zn f e, rn_zn t e, rn_zn l e]
    refine h2 j hj ?_
    cases g : rn_h P j
    · rw [g] at hh
      simp at hh
    · rfl
  · by_cases e : j = k
    · rw [e, rn_zk, rn_zk, rn_zk]
      exact ⟨rfl, rfl, rfl⟩
    · rw [rn_zn f e, rn_zn t e, rn_zn l e]
      refine h3 j ?_
      rcases Nat.lt_or_ge j 28 with c | c
      · right
        rcases hj with z | z
        · omega
        · rw [rn_clr_h P hk c] at z
          simpa [e] using z
      · exact Or.inl c
theorem rn_add {P : Int32} {a1 a2 a3 : Nat → Int32} {f t l : Nat → Nat} (h : rn_ok P a1 a2 a3 f t l) {k a b len : Nat} (hk : k < 28) (hh : rn_h P k = false) (ha : a < 12) (hb : b < 12) (hab : a ≠ b) (h1 : 1 ≤ len) (h30 : len ≤ 30) : rn_ok (rn_put P k) (upd a1 k (nI a)) (upd a2 k (nI b)) (upd a3 k (nI len)) (fun j => if j = k then a else f j) (fun j => if j = k then b else t j) (fun j => if j = k then len else l j) := by
  obtain ⟨g1, g2, g3⟩ := h
  refine ⟨fun j hj => ?_, fun j hj hp => ?_, fun j hj => ?_⟩
  · by_cases e : j = k
    · rw [e, pk_us, pk_us]
      exact ⟨⟨a, ha, rfl⟩, ⟨b, hb, rfl⟩⟩
    · rw [pk_un e, pk_un e]
      exact g1 j hj
  · by_cases e : j = k
    · dsimp only
      rw [e, pk_us, pk_us, pk_us, if_pos rfl, if_pos rfl, if_pos rfl]
      exact ⟨rfl, rfl, rfl, ha, hb, hab, h1, h30⟩
    · dsimp only
      rw [pk_un e, pk_un e, pk_un e, if_neg e, if_neg e, if_neg e]
      refine g2 j hj ?_
      rw [rn_put_h P hk hj] at hp
      simpa [e] using hp
  · have e : j ≠ k := by
      intro e
      rcases hj with z | z
      · omega
      · rw [e, rn_put_h P hk hk] at z
        simp at z
    dsimp only
    rw [if_neg e, if_neg e, if_neg e]
    refine g3 j ?_
    rcases Nat.lt_or_ge j 28 with c | c
    · right
      rcases hj with z | z
      · omega
      · rw [rn_put_h P hk c] at z
        simpa [e] using z
    · exact Or.inl c
theorem rn_chg {P : Int32} {a1 a2 a3 : Nat → Int32} {f t l : Nat → Nat} (h : rn_ok P a1 a2 a3 f t l) {k len : Nat} (hk : k < 28) (hh : rn_h P k = true) (h1 : 1 ≤ len) (h30 : len ≤ 30) : rn_ok P a1 a2 (upd a3 k (nI len)) f t (fun j => if j = k then len else l j) := by
  obtain ⟨g1, g2, g3⟩ := h
  refine ⟨g1, fun j hj hp => ?_, fun j hj => ?_⟩
  · have g := g2 j hj hp
    by_cases e : j = k
    · dsimp only
      rw [e] at g ⊢
      rw [pk_us, if_pos rfl]
      exact ⟨g.1, g.2.1, rfl, g.2.2.2.1, g.2.2.2.2.1, g.2.2.2.2.2.1, h1, h30⟩
    · dsimp only
      rw [pk_un e, if_neg e]
      exact g
  · have g := g3 j hj
    have e : j ≠ k := by
      intro e
      rcases hj with z | z
      · omega
      · rw [e, hh] at z
        exact absurd z (by decide)
    dsimp only
    rw [if_neg e]
    exact g
/-- roads of the net without k -/
theorem rn_remW {P : Int32} {a1 a2 a3 : Nat → Int32} {f t l : Nat → Nat} (h : rn_ok P a1 a2 a3 f t l) {k : Nat} (hk : k < 28) {u v : Nat} (hu : u < 12) (hv : v < 12) :
    rn_W P f t l 28 u v ≤ rn_W (rn_clr P k) (rn_z k f) (rn_z k t) (rn_z k l) 28 u v ∧ (rn_W (rn_clr P k) (rn_z k f) (rn_z k t) (rn_z k l) 28 u v = rn_W P f t l 28 u v ∨ (f k = u ∧ t k = v ∧ rn_W P f t l 28 u v = l k)) := by
  have c1 := ((rn_wok h 28 (by omega)) u v hu hv).2.1
  have c2 := ((rn_wok (rn_rem h hk) 28 (by omega)) u v hu hv).2.1
  have le : rn_W P f t l 28 u v ≤ rn_W (rn_clr P k) (rn_z k f) (rn_z k t) (rn_z k l) 28 u v := by
    rcases rn_W2 (rn_clr P k) (rn_z k f) (rn_z k t) (rn_z k l) u v 28 with z | ⟨j, hj, hh, e1, e2, z⟩
    · omega
    · rw [rn_clr_h P hk hj] at hh
      have e : j ≠ k := by
        intro e
        rw [e] at hh
        simp at hh
      have hp : rn_h P j = true := by simpa [e] using hh
      rw [rn_zn f e] at e1
      rw [rn_zn t e] at e2
      rw [rn_zn l e] at z
      have := rn_W1 (f := f) (t := t) (l := l) hp 28 hj
      rw [e1, e2] at this
      omega
  refine ⟨le, ?_⟩
  rcases rn_W2 P f t l u v 28 with z | ⟨j, hj, hh, e1, e2, z⟩
  · left
    omega
  · by_cases e : j = k
    · right
      rw [e] at e1 e2 z
      exact ⟨e1, e2, z⟩
    · left
      have hp : rn_h (rn_clr P k) j = true := by
        rw [rn_clr_h P hk hj, hh]
        simp [e]
      have := rn_W1 (f := rn_z k f) (t := rn_z k t) (l := rn_z k l) hp 28 hj
      rw [rn_zn f e, rn_zn t e, rn_zn l e, e1, e2] at this
      omega
theorem rn_remD {P : Int32} {a1 a2 a3 : Nat → Int32} {f t l : Nat → Nat} (h : rn_ok P a1 a2 a3 f t l) {k : Nat} (hk : k < 28) {s v : Nat} (hs : s < 12) (hv : v < 12) : rn_D P f t l s v ≤ rn_D (rn_clr P k) (rn_z k f) (rn_z k t) (rn_z k l) s v := by
  refine rd_max (rn_wok (rn_rem h hk) 28 (by omega)) (g := rn_D P f t l s) hs (rd_self _ s) (fun a b ha hb => ?_) (fun b hb => rd_cap (rn_wok h 28 (by omega)) hs hb) _ v hv (Nat.le_refl _)
  have w1 := (rn_remW h hk ha hb).1
  have w2 : rn_D P f t l s b ≤ rn_D P f t l s a + rn_W P f t l 28 a b := rd_stepF (rn_W P f t l 28) ha s b
  omega
/-- a road that is longer than the distance of its ends isn't missed -/
theorem rn_remE {P : Int32} {a1 a2 a3 : Nat → Int32} {f t l : Nat → Nat} (h : rn_ok P a1 a2 a3 f t l) {k : Nat} (hk : k < 28) (hn : rn_D P f t l (f k) (t k) < l k) {s : Nat} (hs : s < 12) : ∀ n v, v < 12 → rn_D P f t l s v ≤ n → rn_D (rn_clr P k) (rn_z k f) (rn_z k t) (rn_z k l) s v = rn_D P f t l s v := by
  have hW := rn_wok h 28 (by omega)
  have hW' := rn_wok (rn_rem h hk) 28 (by omega)
  intro n
  induction n with
  | zero =>
    intro v hv hle
    have a1 := rn_remD h hk hs hv
    by_cases e : s = v
    · have : rn_D (rn_clr P k) (rn_z k f) (rn_z k t) (rn_z k l) s v = 0 := by rw [e]; exact rd_self _ v
      omega
    · have : 1 ≤ rn_D P f t l s v := rd_pos hW hs hv e
      omega
  | succ n ih =>
    intro v hv hle
    have a1 := rn_remD h hk hs hv
    by_cases e : s = v
    · have : rn_D (rn_clr P k) (rn_z k f) (rn_z k t) (rn_z k l) s v = 0 := by rw [e]; exact rd_self _ v
      omega
    · by_cases c : rn_D P f t l s v < 1000000
      · obtain ⟨q, hq, hqv, g⟩ := rd_last (W := rn_W P f t l 28) hs hv e c
        have g' : rn_D P f t l s q + rn_W P f t l 28 q v = rn_D P f t l s v := g
        have p1 := (hW q v hq hv).1
        have i1 := ih q hq (by omega)
        have s1 : rn_D (rn_clr P k) (rn_z k f) (rn_z k t) (rn_z k l) s v ≤ rn_D (rn_clr P k) (rn_z k f) (rn_z k t) (rn_z k l) s q + rn_W (rn_clr P k) (rn_z k f) (rn_z k t) (rn_z k l) 28 q v := rd_stepF _ hq s v
        have s2 : rn_D P f t l s v ≤ rn_D P f t l s q + rn_D P f t l q v := rd_tri _ hq s v
        rcases (rn_remW h hk hq hv).2 with z | ⟨z1, z2, z3⟩
        · omega
        · rw [z1, z2] at hn
          omega
      · have c2 : rn_D (rn_clr P k) (rn_z k f) (rn_z k t) (rn_z k l) s v ≤ 1000000 := rd_cap hW' hs hv
        omega
end
section
/-! what is asked -/
theorem wk_isPoint {post : Int32 → Prop} {u : St2} {p : Nat} (hp : p < 12) (H : post 1) : wpX_isPoint post u (nI p) := br_f (nI_pos (by omega)) (pk_le 12 p (fun z => absurd z (by omega)) (fun _ => H))
theorem wk_isEngine {post : Int32 → Prop} {u : St2} {p : Nat} (hp : p < 7) (H : post 1) : wpX_isEngine post u (nI p) := br_f (nI_pos (by omega)) (pk_le 7 p (fun z => absurd z (by omega)) (fun _ => H))
theorem wk_distance {post : Int32 → St1 → Prop} {fp fh : Int32} {a1 a2 a3 a4 a5 a6 a7 a8 a9 a10 a11 a12 a13 a14 a15 a16 a17 a18 a19 a20 a21 a22 : Nat → Int32} {f t l : Nat → Nat} (hN : rn_ok fp a1 a2 a3 f t l) {e s d : Nat} (he : e < 7) (hs : s < 12) (hd : d < 12) (H : ∀ bh b4 b5 b6 b7 b8 b9 b10 b11 b12 b13 b14 b15 b16 b17 b18 b19 b20 b21 b22, post (rn_a (rn_D fp f t l s d)) (fp, bh, a1, a2, a3, b4, b5, b6, b7, b8, b9, b10, b11, b12, b13, b14, b15, b16, b17, b18, b19, b20, b21, b22)) : wpX_distance post (fp, fh, a1, a2, a3, a4, a5, a6, a7, a8, a9, a10, a11, a12, a13, a14, a15, a16, a17, a18, a19, a20, a21, a22) (nI e) (nI s) (nI d) := by
  unfold wpX_distance
  refine wk_isEngine he (br_f (by decide) (wk_isPoint hs (br_f (by decide) (wk_isPoint hd (br_f (by decide) ?_)))))
  refine wk_prepare he hN (fun b4 b7 b8 b9 b10 b13 b14 b15 b16 b17 b18 b19 b20 b21 b22 hpr => ?_)
  refine wk_distanceBy he hN hpr hs hd (fun ch c7 c8 c9 c10 c11 c12 => ?_)
  have cap := rd_cap (rn_wok hN 28 (by omega)) hs hd
  refine pk_le 1000000 (rd_D (rn_W fp f t l 28) s d) (fun z => ?_) (fun z => ?_)
  · rw [← rn_a2 (d := rn_D fp f t l s d) (by unfold rn_D; omega)]
    exact H _ _ _ _ _ _ _ _ _ _ _ _ _ _ _ _ _ _ _ _
  · rw [← rn_a1 z]
    exact H _ _ _ _ _ _ _ _ _ _ _ _ _ _ _ _ _ _ _ _
def rn_ov (a b : Nat) : Int32 := if a < 1000000 ∧ b < 1000000 then nI (a + b) else -3
theorem wk_over {post : Int32 → St1 → Prop} {fp fh : Int32} {a1 a2 a3 a4 a5 a6 a7 a8 a9 a10 a11 a12 a13 a14 a15 a16 a17 a18 a19 a20 a21 a22 : Nat → Int32} {f t l : Nat → Nat} (hN : rn_ok fp a1 a2 a3 f t l) {s p d : Nat} (hs : s < 12) (hp : p < 12) (hd : d < 12) (H : ∀ bh b4 b5 b6 b7 b8 b9 b10 b11 b12 b13 b14 b15 b16 b17 b18 b19 b20 b21 b22, post (rn_ov (rn_D fp f t l s p) (rn_D fp f t l p d)) (fp, bh, a1, a2, a3, b4, b5, b6, b7, b8, b9, b10, b11, b12, b13, b14, b15, b16, b17, b18, b19, b20, b21, b22)) : wpX_over post (fp, fh, a1, a2, a3, a4, a5, a6, a7, a8, a9, a10, a11, a12, a13, a14, a15, a16, a17, a18, a19, a20, a21, a22) (nI s) (nI p) (nI d) := by
  unfold wpX_over
  refine wk_isPoint hs (br_f (by decide) (wk_isPoint hp (br_f (by decide) (wk_isPoint hd (br_f (by decide) ?_)))))
  refine wk_distance (e := 3) hN (by omega) hs hp (fun bh b4 b5 b6 b7 b8 b9 b10 b11 b12 b13 b14 b15 b16 b17 b18 b19 b20 b21 b22 => ?_)
  refine wk_distance (e := 2) hN (by omega) hp hd (fun ch c4 c5 c6 c7 c8 c9 c10 c11 c12 c13 c14 c15 c16 c17 c18 c19 c20 c21 c22 => ?_)
  refine ek_if (rn_a3 _) (fun z => ?_) (fun z => ek_if (rn_a3 _) (fun z2 => ?_) (fun z2 => ?_))
  · rw [← show rn_ov (rn_D fp f t l s p) (rn_D fp f t l p d) = -3 from if_neg (fun y => z y.1)]
    exact H _ _ _ _ _ _ _ _ _ _ _ _ _ _ _ _ _ _ _ _
  · rw [← show rn_ov (rn_D fp f t l s p) (rn_D fp f t l p d) = -3 from if_neg (fun y => z2 y.2)]
    exact H _ _ _ _ _ _ _ _ _ _ _ _ _ _ _ _ _ _ _ _
  · have z' := Decidable.not_not.mp z
    have z2' := Decidable.not_not.mp z2
    rw [rn_a1 z', rn_a1 z2', nI_add, ← show rn_ov (rn_D fp f t l s p) (rn_D fp f t l p d) = nI (rn_D fp f t l s p + rn_D fp f t l p d) from if_pos ⟨z', z2'⟩]
    exact H _ _ _ _ _ _ _ _ _ _ _ _ _ _ _ _ _ _ _ _
def rn_nd (P : Int32) (f t l : Nat → Nat) : Int32 := rn_set (fun k => rn_h P k && decide (rn_D P f t l (f k) (t k) < l k)) 28
theorem wk_needless {post : Int32 → St1 → Prop} {fp fh : Int32} {a1 a2 a3 a4 a5 a6 a7 a8 a9 a10 a11 a12 a13 a14 a15 a16 a17 a18 a19 a20 a21 a22 : Nat → Int32} {f t l : Nat → Nat} (hN : rn_ok fp a1 a2 a3 f t l) (H : ∀ bh b4 b5 b6 b7 b8 b9 b10 b11 b12 b13 b14 b15 b16 b17 b18 b19 b20 b21 b22, post (rn_nd fp f t l) (fp, bh, a1, a2, a3, b4, b5, b6, b7, b8, b9, b10, b11, b12, b13, b14, b15, b16, b17, b18, b19, b20, b21, b22)) : wpX_needless post (fp, fh, a1, a2, a3, a4, a5, a6, a7, a8, a9, a10, a11, a12, a13, a14, a15, a16, a17, a18, a19, a20, a21, a22) := by
  have hW := rn_wok hN 28 (by omega)
  unfold wpX_needless
  refine wk_findAll (e := 5) (by omega) hN (fun bh b4 b5 b7 b8 b9 b10 b11 b12 b13 b14 b15 b16 b17 b18 b19 b20 b21 b22 h5 _ => ?_)
  refine pk_loop (fun n i s => wX_needless_9 post fp bh a1 a2 a3 b4 b5 a6 b7 b8 b9 b10 b11 b12 b13 b14 b15 b16 b17 b18 b19 b20 b21 b22 n s (nI i)) (fun i s => s = rn_set (fun k => rn_h fp k && decide (rn_D fp f t l (f k) (t k) < l k)) i) 28 0 0 (by omega) rfl ?_ ?_
  · intro n s h
    rw [h]
    exact pk_le 28 28 (fun _ => H _ _ _ _ _ _ _ _ _ _ _ _ _ _ _ _ _ _ _ _) (fun z => absurd z (by omega))
  · intro n k s hk h hw
    rw [h]
    have e0 : (rn_h fp k && decide (rn_D fp f t l (f k) (t k) < l k)) = false → wX_needless_57 post (wX_needless_9 post fp bh a1 a2 a3 b4 b5 a6 b7 b8 b9 b10 b11 b12 b13 b14 b15 b16 b17 b18 b19 b20 b21 b22 n) (rn_set (fun k => rn_h fp k && decide (rn_D fp f t l (f k) (t k) < l k)) k) (nI k) fp bh a1 a2 a3 b4 b5 a6 b7 b8 b9 b10 b11 b12 b13 b14 b15 b16 b17 b18 b19 b20 b21 b22 := by
      intro no
      refine br_t rfl (nm_r (bq_or0 _) (nm_r (nI_1 k) (hw _ ?_)))
      rw [rn_set_s, if_neg (by rw [no]; decide)]
    refine pk_le 28 k (fun z => absurd z (by omega)) (fun _ => wk_has hk (fun hh => br_f (by decide) ⟨pk_in k 28 hk, pk_in k 28 hk, pk_in k 28 hk, ?_⟩) (fun hh => br_t rfl (e0 (by rw [hh]; rfl))))
    have g := hN.2.1 k hk hh
    have c1 : a1 (nI k).toNatClampNeg = nI (f k) := by rw [nI_clamp (by omega)]; exact g.1
    have c2 : a2 (nI k).toNatClampNeg = nI (t k) := by rw [nI_clamp (by omega)]; exact g.2.1
    have c3 : a3 (nI k).toNatClampNeg = nI (l k) := by rw [nI_clamp (by omega)]; exact g.2.2.1
    have cap := rd_cap hW g.2.2.2.1 g.2.2.2.2.1
    rw [c1, c2, c3]
    refine ⟨pk_in (f k * 12 + t k) 144 (by omega) (ra_ix _ _), ?_⟩
    rw [ra_at2 h5 (f k) (t k) g.2.2.2.1 g.2.2.2.2.1 (ra_ix _ _)]
    refine pk_le (l k) (rd_D (rn_W fp f t l 28) (f k) (t k)) (fun z => e0 ?_) (fun z => br_f (by decide) (nm_e (nm_r (nI_1 k) (hw _ ?_))))
    · rw [hh, decide_eq_false (by unfold rn_D; omega)]
      rfl
    · rw [rn_set_s, if_pos (by rw [hh, decide_eq_true (show rn_D fp f t l (f k) (t k) < l k from z)]; rfl)]
def rn_ar (P : Int32) (f t l : Nat → Nat) (s : Nat) (r : Int32) : Int32 := rn_set (fun d => decide (rn_D P f t l s d < 1000000 ∧ ¬ r < nI (rn_D P f t l s d))) 12
theorem wk_around {post : Int32 → St1 → Prop} {fp fh : Int32} {a1 a2 a3 a4 a5 a6 a7 a8 a9 a10 a11 a12 a13 a14 a15 a16 a17 a18 a19 a20 a21 a22 : Nat → Int32} {f t l : Nat → Nat} (hN : rn_ok fp a1 a2 a3 f t l) {s : Nat} (hs : s < 12) {r : Int32} (H : ∀ bh b4 b5 b6 b7 b8 b9 b10 b11 b12 b13 b14 b15 b16 b17 b18 b19 b20 b21 b22, post (rn_ar fp f t l s r) (fp, bh, a1, a2, a3, b4, b5, b6, b7, b8, b9, b10, b11, b12, b13, b14, b15, b16, b17, b18, b19, b20, b21, b22)) : wpX_around post (fp, fh, a1, a2, a3, a4, a5, a6, a7, a8, a9, a10, a11, a12, a13, a14, a15, a16, a17, a18, a19, a20, a21, a22) (nI s) r := by
  have hW := rn_wok hN 28 (by omega)
  unfold wpX_around
  refine wk_isPoint hs (br_f (by decide) (wk_findAll (e := 3) (by omega) hN (fun bh b4 b5 b7 b8 b9 b10 b11 b12 b13 b14 b15 b16 b17 b18 b19 b20 b21 b22 h5 _ => ?_)))
  refine pk_loop (fun n i q => wX_around_19 post (nI s) r fp bh a1 a2 a3 b4 b5 a6 b7 b8 b9 b10 b11 b12 b13 b14 b15 b16 b17 b18 b19 b20 b21 b22 n q (nI i)) (fun i q => q = rn_set (fun d => decide (rn_D fp f t l s d < 1000000 ∧ ¬ r < nI (rn_D fp f t l s d))) i) 12 0 0 (by omega) rfl ?_ ?_
  · intro n q h
    rw [h]
    exact pk_le 12 12 (fun _ => H _ _ _ _ _ _ _ _ _ _ _ _ _ _ _ _ _ _ _ _) (fun z => absurd z (by omega))
  · intro n i q hi h hw
    rw [h]
    have cap := rd_cap hW hs hi
    refine pk_le 12 i (fun z => absurd z (by omega)) (fun _ => ⟨pk_in (s * 12 + i) 144 (by omega) (ra_ix s i), nm_r (ra_at2 h5 s i hs hi (ra_ix s i)) ?_⟩)
    refine pk_le 1000000 (rd_D (rn_W fp f t l 28) s i) (fun z => nm_r (bq_or0 _) (nm_r (nI_1 i) (hw _ ?_))) (fun z => br_c (fun z2 => nm_r (bq_or0 _) (nm_r (nI_1 i) (hw _ ?_))) (fun z2 => nm_e (nm_r (nI_1 i) (hw _ ?_))))
    · rw [rn_set_s, if_neg (by rw [decide_eq_true_eq]; intro y; have := y.1; unfold rn_D at this; omega)]
    · rw [rn_set_s, if_neg (by rw [decide_eq_true_eq]; intro y; exact y.2 z2)]
    · rw [rn_set_s, if_pos (by rw [decide_eq_true_eq]; exact ⟨z, z2⟩)]
theorem rn_set_0 (c : Nat → Bool) : ∀ n, (∀ j, j < n → c j = false) → rn_set c n = 0 := by
  intro n
  induction n with
  | zero => intro _; rfl
  | succ n ih =>
    intro h
    rw [rn_set_s, h n (by omega), if_neg (by decide)]
    exact ih (fun j hj => h j (by omega))
def rn_bw (P : Int32) (f t l : Nat → Nat) (s d : Nat) : Int32 := rn_set (fun p => decide (rn_D P f t l s d < 1000000 ∧ rn_D P f t l s p + rn_D P f t l p d = rn_D P f t l s d)) 12
theorem wk_between {post : Int32 → St1 → Prop} {fp fh : Int32} {a1 a2 a3 a4 a5 a6 a7 a8 a9 a10 a11 a12 a13 a14 a15 a16 a17 a18 a19 a20 a21 a22 : Nat → Int32} {f t l : Nat → Nat} (hN : rn_ok fp a1 a2 a3 f t l) {s d : Nat} (hs : s < 12) (hd : d < 12) (H : ∀ bh b4 b5 b6 b7 b8 b9 b10 b11 b12 b13 b14 b15 b16 b17 b18 b19 b20 b21 b22, post (rn_bw fp f t l s d) (fp, bh, a1, a2, a3, b4, b5, b6, b7, b8, b9, b10, b11, b12, b13, b14, b15, b16, b17, b18, b19, b20, b21, b22)) : wpX_between post (fp, fh, a1, a2, a3, a4, a5, a6, a7, a8, a9, a10, a11, a12, a13, a14, a15, a16, a17, a18, a19, a20, a21, a22) (nI s) (nI d) := by
  have hW := rn_wok hN 28 (by omega)
  unfold wpX_between
  refine wk_isPoint hs (br_f (by decide) (wk_isPoint hd (br_f (by decide) (wk_findAll (e := 2) (by omega) hN (fun bh b4 b5 b7 b8 b9 b10 b11 b12 b13 b14 b15 b16 b17 b18 b19 b20 b21 b22 h5 _ => ⟨pk_in (s * 12 + d) 144 (by omega) (ra_ix s d), nm_r (ra_at2 h5 s d hs hd (ra_ix s d)) ?_⟩)))))
  have capW := rd_cap hW hs hd
  by_cases c : rd_D (rn_W fp f t l 28) s d < 1000000
  · refine pk_loop (fun n i q => wX_between_39 post (nI s) (nI d) (nI (rd_D (rn_W fp f t l 28) s d)) fp bh a1 a2 a3 b4 b5 a6 b7 b8 b9 b10 b11 b12 b13 b14 b15 b16 b17 b18 b19 b20 b21 b22 n q (nI i)) (fun i q => q = rn_set (fun p => decide (rn_D fp f t l s d < 1000000 ∧ rn_D fp f t l s p + rn_D fp f t l p d = rn_D fp f t l s d)) i) 12 0 0 (by omega) rfl ?_ ?_
    · intro n q h
      rw [h]
      exact pk_le 12 12 (fun _ => H _ _ _ _ _ _ _ _ _ _ _ _ _ _ _ _ _ _ _ _) (fun z => absurd z (by omega))
    · intro n i q hi h hw
      rw [h]
      have cap1 := rd_cap hW hs hi
      have cap2 := rd_cap hW hi hd
      refine pk_le 12 i (fun z => absurd z (by omega)) (fun _ => pk_le 1000000 (rd_D (rn_W fp f t l 28) s d) (fun z => absurd z (by omega)) (fun _ => ⟨pk_in (s * 12 + i) 144 (by omega) (ra_ix s i), pk_in (i * 12 + d) 144 (by omega) (ra_ix i d), ?_⟩))
      refine pk_eq (rd_D (rn_W fp f t l 28) s i + rd_D (rn_W fp f t l 28) i d) (rd_D (rn_W fp f t l 28) s d) (fun z => nm_e (nm_r (nI_1 i) (hw _ ?_))) (fun z => nm_r (bq_or0 _) (nm_r (nI_1 i) (hw _ ?_))) (by rw [ra_at2 h5 s i hs hi (ra_ix s i), ra_at2 h5 i d hi hd (ra_ix i d), nI_add])
      · rw [rn_set_s, if_pos (by rw [decide_eq_true_eq]; exact ⟨c, z⟩)]
      · rw [rn_set_s, if_neg (by rw [decide_eq_true_eq]; exact fun y => z y.2)]
  · have e0 : rn_bw fp f t l s d = 0 := rn_set_0 _ 12 (fun j _ => decide_eq_false (fun y => c y.1))
    have H' := fun bh b4 b5 b6 b7 b8 b9 b10 b11 b12 b13 b14 b15 b16 b17 b18 b19 b20 b21 b22 => H bh b4 b5 b6 b7 b8 b9 b10 b11 b12 b13 b14 b15 b16 b17 b18 b19 b20 b21 b22
    rw [e0] at H'
    exact ⟨1, pk_le 12 0 (fun z => absurd z (by omega)) (fun _ => pk_le 1000000 (rd_D (rn_W fp f t l 28) s d) (fun _ => H' _ _ _ _ _ _ _ _ _ _ _ _ _ _ _ _ _ _ _ _) (fun z => absurd z (by omega)))⟩
def rn_ft (P : Int32) (f t l : Nat → Nat) (s : Nat) : Nat := rn_mx (fun d => rn_D P f t l s d) 12
theorem wk_farthest {post : Int32 → St1 → Prop} {fp fh : Int32} {a1 a2 a3 a4 a5 a6 a7 a8 a9 a10 a11 a12 a13 a14 a15 a16 a17 a18 a19 a20 a21 a22 : Nat → Int32} {f t l : Nat → Nat} (hN : rn_ok fp a1 a2 a3 f t l) {s : Nat} (hs : s < 12) (H : ∀ bh b4 b5 b6 b7 b8 b9 b10 b11 b12 b13 b14 b15 b16 b17 b18 b19 b20 b21 b22, post (nI (rn_ft fp f t l s)) (fp, bh, a1, a2, a3, b4, b5, b6, b7, b8, b9, b10, b11, b12, b13, b14, b15, b16, b17, b18, b19, b20, b21, b22)) : wpX_farthest post (fp, fh, a1, a2, a3, a4, a5, a6, a7, a8, a9, a10, a11, a12, a13, a14, a15, a16, a17, a18, a19, a20, a21, a22) (nI s) := by
  have hW := rn_wok hN 28 (by omega)
  unfold wpX_farthest
  refine wk_isPoint hs (br_f (by decide) (wk_findAll (e := 6) (by omega) hN (fun bh b4 b5 b7 b8 b9 b10 b11 b12 b13 b14 b15 b16 b17 b18 b19 b20 b21 b22 h5 _ => ?_)))
  refine pk_loop (fun n i q => wX_farthest_19 post (nI s) fp bh a1 a2 a3 b4 b5 a6 b7 b8 b9 b10 b11 b12 b13 b14 b15 b16 b17 b18 b19 b20 b21 b22 n q (nI i)) (fun i q => q = nI (rn_mx (fun d => rn_D fp f t l s d) i)) 12 0 0 (by omega) rfl ?_ ?_
  · intro n q h
    rw [h]
    exact pk_le 12 12 (fun _ => H _ _ _ _ _ _ _ _ _ _ _ _ _ _ _ _ _ _ _ _) (fun z => absurd z (by omega))
  · intro n i q hi h hw
    rw [h]
    have cap := rd_cap hW hs hi
    have lt := rn_mx_lt (fun d => rn_D fp f t l s d) i
    refine pk_le 12 i (fun z => absurd z (by omega)) (fun _ => ⟨pk_in (s * 12 + i) 144 (by omega) (ra_ix s i), nm_r (ra_at2 h5 s i hs hi (ra_ix s i)) ?_⟩)
    refine pk_le 1000000 (rd_D (rn_W fp f t l 28) s i) (fun z => nm_r (nI_1 i) (hw _ ?_)) (fun z => pk_le (rd_D (rn_W fp f t l 28) s i) (rn_mx (fun d => rn_D fp f t l s d) i) (fun z2 => nm_r (nI_1 i) (hw _ ?_)) (fun z2 => nm_r (nI_1 i) (hw _ ?_)))
    · rw [rn_mx_s, if_neg (by unfold rn_D; omega)]
    · rw [rn_mx_s, if_pos (by exact z), Nat.max_eq_left (by exact z2)]
    · rw [rn_mx_s, if_pos (by exact z), Nat.max_eq_right (by exact Nat.le_of_lt z2)]
      rfl
def rn_wd (P : Int32) (f t l : Nat → Nat) : Nat := rn_mx (fun i => rn_D P f t l (i / 12) (i % 12)) 144
theorem wk_widest {post : Int32 → St1 → Prop} {fp fh : Int32} {a1 a2 a3 a4 a5 a6 a7 a8 a9 a10 a11 a12 a13 a14 a15 a16 a17 a18 a19 a20 a21 a22 : Nat → Int32} {f t l : Nat → Nat} (hN : rn_ok fp a1 a2 a3 f t l) (H : ∀ bh b4 b5 b6 b7 b8 b9 b10 b11 b12 b13 b14 b15 b16 b17 b18 b19 b20 b21 b22, post (nI (rn_wd fp f t l)) (fp, bh, a1, a2, a3, b4, b5, b6, b7, b8, b9, b10, b11, b12, b13, b14, b15, b16, b17, b18, b19, b20, b21, b22)) : wpX_widest post (fp, fh, a1, a2, a3, a4, a5, a6, a7, a8, a9, a10, a11, a12, a13, a14, a15, a16, a17, a18, a19, a20, a21, a22) := by
  have hW := rn_wok hN 28 (by omega)
  unfold wpX_widest
  refine wk_findAll (e := 1) (by omega) hN (fun bh b4 b5 b7 b8 b9 b10 b11 b12 b13 b14 b15 b16 b17 b18 b19 b20 b21 b22 h5 _ => ?_)
  refine pk_loop (fun n i q => wX_widest_9 post fp bh a1 a2 a3 b4 b5 a6 b7 b8 b9 b10 b11 b12 b13 b14 b15 b16 b17 b18 b19 b20 b21 b22 n q (nI i)) (fun i q => q = nI (rn_mx (fun i => rn_D fp f t l (i / 12) (i % 12)) i)) 144 0 0 (by omega) rfl ?_ ?_
  · intro n q h
    rw [h]
    exact pk_le 144 144 (fun _ => H _ _ _ _ _ _ _ _ _ _ _ _ _ _ _ _ _ _ _ _) (fun z => absurd z (by omega))
  · intro n i q hi h hw
    rw [h]
    have cap := rd_cap hW (show i / 12 < 12 by omega) (show i % 12 < 12 by omega)
    have lt := rn_mx_lt (fun i => rn_D fp f t l (i / 12) (i % 12)) i
    have rd : b5 (nI i).toNatClampNeg = nI (rd_D (rn_W fp f t l 28) (i / 12) (i % 12)) := ra_at (ra_12 h5) i hi
    refine pk_le 144 i (fun z => absurd z (by omega)) (fun _ => ⟨pk_in i 144 hi, ?_⟩)
    rw [rd]
    refine pk_le 1000000 (rd_D (rn_W fp f t l 28) (i / 12) (i % 12)) (fun z => nm_r (nI_1 i) (hw _ ?_)) (fun z => ⟨pk_in i 144 hi, pk_le (rd_D (rn_W fp f t l 28) (i / 12) (i % 12)) (rn_mx (fun i => rn_D fp f t l (i / 12) (i % 12)) i) (fun z2 => nm_r (nI_1 i) (hw _ ?_)) (fun z2 => ⟨pk_in i 144 hi, nm_e (nm_r (nI_1 i) (hw _ ?_))⟩)⟩)
    · rw [rn_mx_s, if_neg (by unfold rn_D; omega)]
    · rw [rn_mx_s, if_pos (by exact z), Nat.max_eq_left (by exact z2)]
    · rw [rn_mx_s, if_pos (by exact z), Nat.max_eq_right (by exact Nat.le_of_lt z2)]
      rfl
theorem wk_agree {post : Int32 → St1 → Prop} {fp fh : Int32} {a1 a2 a3 a4 a5 a6 a7 a8 a9 a10 a11 a12 a13 a14 a15 a16 a17 a18 a19 a20 a21 a22 : Nat → Int32} {f t l : Nat → Nat} (hN : rn_ok fp a1 a2 a3 f t l) {e o : Nat} (he : e < 7) (ho : o < 7) (H : ∀ bh b4 b5 b6 b7 b8 b9 b10 b11 b12 b13 b14 b15 b16 b17 b18 b19 b20 b21 b22, post 1 (fp, bh, a1, a2, a3, b4, b5, b6, b7, b8, b9, b10, b11, b12, b13, b14, b15, b16, b17, b18, b19, b20, b21, b22)) : wpX_agree post (fp, fh, a1, a2, a3, a4, a5, a6, a7, a8, a9, a10, a11, a12, a13, a14, a15, a16, a17, a18, a19, a20, a21, a22) (nI e) (nI o) := by
  unfold wpX_agree
  refine wk_isEngine he (br_f (by decide) (wk_isEngine ho (br_f (by decide) (wk_findAll he hN (fun bh b4 b5 b7 b8 b9 b10 b11 b12 b13 b14 b15 b16 b17 b18 b19 b20 b21 b22 h5 _ => ?_)))))
  refine pk_loop (fun n i s => wX_agree_23 post (nI o) fp bh n (nI i) a1 a2 a3 b4 b5 s b7 b8 b9 b10 b11 b12 b13 b14 b15 b16 b17 b18 b19 b20 b21 b22) (fun i s => ∀ j, j < i → s j = b5 j) 144 0 a6 (by omega) lt_0 ?_ ?_
  · intro n s h
    refine pk_le 144 144 (fun _ => wk_findAll ho hN (fun ch c4 c5 c7 c8 c9 c10 c11 c12 c13 c14 c15 c16 c17 c18 c19 c20 c21 c22 k5 _ => ?_)) (fun z => absurd z (by omega))
    refine pk_loop (fun n i q => wX_agree_58 post fp ch a1 a2 a3 c4 c5 s c7 c8 c9 c10 c11 c12 c13 c14 c15 c16 c17 c18 c19 c20 c21 c22 n q (nI i)) (fun i q => q = 1) 144 0 1 (by omega) rfl ?_ ?_
    · intro n q hq
      rw [hq]
      exact pk_le 144 144 (fun _ => ⟨rfl, H _ _ _ _ _ _ _ _ _ _ _ _ _ _ _ _ _ _ _ _⟩) (fun z => absurd z (by omega))
    · intro n i q hi hq hw
      rw [hq]
      refine pk_le 144 i (fun z => absurd z (by omega)) (fun _ => br_f (by decide) ⟨pk_in i 144 hi, pk_in i 144 hi, br_t ?_ (nm_r (nI_1 i) (hw _ rfl))⟩)
      rw [nI_clamp (by omega), h i hi, (ra_12 h5) i hi, (ra_12 k5) i hi]
  · intro n i s hi h hw
    exact pk_le 144 i (fun z => absurd z (by omega)) (fun _ => ⟨pk_in i 144 hi, pk_in i 144 hi, nm_e (nm_r (nI_1 i) (hw _ (ra_fl (f := b5) h (nI_clamp (by omega)) (by rw [nI_clamp (by omega)]))))⟩)
def rn_dt (P : Int32) (f t l : Nat → Nat) (k : Nat) : Int32 :=
  if rn_h P k = true then (if rn_D (rn_clr P k) (rn_z k f) (rn_z k t) (rn_z k l) (f k) (t k) < 1000000 then nI (rn_D (rn_clr P k) (rn_z k f) (rn_z k t) (rn_z k l) (f k) (t k)) - nI (rn_D P f t l (f k) (t k)) else -3) else -1
theorem wk_detour {post : Int32 → St1 → Prop} {fp fh : Int32} {a1 a2 a3 a4 a5 a6 a7 a8 a9 a10 a11 a12 a13 a14 a15 a16 a17 a18 a19 a20 a21 a22 : Nat → Int32} {f t l : Nat → Nat} (hN : rn_ok fp a1 a2 a3 f t l) {k : Nat} (hk : k < 28) (H : ∀ bh b4 b5 b6 b7 b8 b9 b10 b11 b12 b13 b14 b15 b16 b17 b18 b19 b20 b21 b22, post (rn_dt fp f t l k) (fp, bh, a1, a2, a3, b4, b5, b6, b7, b8, b9, b10, b11, b12, b13, b14, b15, b16, b17, b18, b19, b20, b21, b22)) : wpX_detour post (fp, fh, a1, a2, a3, a4, a5, a6, a7, a8, a9, a10, a11, a12, a13, a14, a15, a16, a17, a18, a19, a20, a21, a22) (nI k) := by
  have hW := rn_wok hN 28 (by omega)
  unfold wpX_detour
  unfold rn_dt at H
  refine wk_has hk (fun hh => br_f (by decide) ⟨pk_in k 28 hk, ?_⟩) (fun hh => br_t rfl ?_)
  · have g := hN.2.1 k hk hh
    have c1 : a1 (nI k).toNatClampNeg = nI (f k) := by rw [nI_clamp (by omega)]; exact g.1
    have c2 : a2 (nI k).toNatClampNeg = nI (t k) := by rw [nI_clamp (by omega)]; exact g.2.1
    refine nm_r c1 ⟨pk_in k 28 hk, nm_r c2 ?_⟩
    refine wk_distance (e := 4) hN (by omega) g.2.2.2.1 g.2.2.2.2.1 (fun bh b4 b5 b6 b7 b8 b9 b10 b11 b12 b13 b14 b15 b16 b17 b18 b19 b20 b21 b22 => nm_e ?_)
    refine wk_distance (e := 5) (rn_rem hN hk) (by omega) g.2.2.2.1 g.2.2.2.2.1 (fun ch c4 c5 c6 c7 c8 c9 c10 c11 c12 c13 c14 c15 c16 c17 c18 c19 c20 c21 c22 => nm_r (rn_put_clr hk hh) ?_)
    have fin : rn_D fp f t l (f k) (t k) < 1000000 := by
      have w1 := rn_W1 (f := f) (t := t) (l := l) hh 28 hk
      have w2 := rd_leW (rn_W fp f t l 28) (f k) (t k)
      unfold rn_D
      omega
    rw [if_pos hh] at H
    refine ek_if (rn_a3 _) (fun z => ?_) (fun z => ?_)
    · rw [if_neg z] at H
      exact H _ _ _ _ _ _ _ _ _ _ _ _ _ _ _ _ _ _ _ _
    · have z' := Decidable.not_not.mp z
      rw [if_pos z'] at H
      rw [rn_a1 z', rn_a1 fin]
      exact H _ _ _ _ _ _ _ _ _ _ _ _ _ _ _ _ _ _ _ _
  · rw [if_neg (by rw [hh]; decide)] at H
    exact H _ _ _ _ _ _ _ _ _ _ _ _ _ _ _ _ _ _ _ _
end
section
/-! what is prepared is sound -/
theorem bq_4095 : ∀ i, i < 32 → bt 4095 i = decide (i < 12) := by decide +kernel
theorem wk_so214 {post : Int32 → St1 → Prop} {fp fh : Int32} {a1 a2 a3 a4 a5 a6 a7 a8 a9 a10 a11 a12 a13 a14 a15 a16 a17 a18 a19 a20 a21 a22 : Nat → Int32} {R : Nat → Nat} (h14 : ra_1 a14 12 R) (hR : ∀ v, v < 12 → R v < 12) (hS : ∀ r, r < 12 → ∃ p, p < 12 ∧ R p = r) (H : post 1 (fp, fh, a1, a2, a3, a4, a5, a6, a7, a8, a9, a10, a11, a12, a13, a14, a15, a16, a17, a18, a19, a20, a21, a22)) : ∃ n, wX_sound_214 post 1 fp fh a1 a2 a3 a4 a5 a6 a7 a8 a9 a10 a11 a12 a13 a14 a15 a16 a17 a18 a19 a20 a21 a22 n 0 0 := by
  refine pk_loop (fun n i q => wX_sound_214 post 1 fp fh a1 a2 a3 a4 a5 a6 a7 a8 a9 a10 a11 a12 a13 a14 a15 a16 a17 a18 a19 a20 a21 a22 n q (nI i)) (fun i q => ∀ j, j < 32 → (bt q j = true ↔ ∃ p, p < i ∧ R p = j)) 12 0 0 (by omega) ?_ ?_ ?_
  · intro j _
    rw [b_0]
    exact ⟨fun z => absurd z (by decide), fun ⟨p, hp, _⟩ => absurd hp (by omega)⟩
  · intro n q h
    have eq : q = 4095 := by
      refine b_ext (fun i hi => ?_)
      rw [bq_4095 i hi]
      by_cases c : i < 12
      · rw [decide_eq_true c]
        exact (h i hi).mpr (hS i c)
      · rw [decide_eq_false c]
        cases g : bt q i
        · rfl
        · obtain ⟨p, hp, e⟩ := (h i hi).mp g
          have := hR p hp
          omega
    exact pk_le 12 12 (fun _ => br_f (by decide) (br_t eq H)) (fun z => absurd z (by omega))
  · intro n i q hi h hw
    have ri := hR i hi
    refine pk_le 12 i (fun z => absurd z (by omega)) (fun _ => ⟨pk_in i 12 hi, nm_e (nm_r (nI_1 i) (hw _ (fun j hj => ?_)))⟩)
    rw [ra_at h14 i hi, bq_set q (show R i < 32 by omega) hj, Bool.or_eq_true, h j hj, decide_eq_true_eq]
    constructor
    · rintro (⟨p, hp, e⟩ | e)
      · exact ⟨p, by omega, e⟩
      · exact ⟨i, by omega, e.symm⟩
    · rintro ⟨p, hp, e⟩
      by_cases c : p = i
      · right
        rw [← e, c]
      · exact Or.inl ⟨p, by omega, e⟩
theorem wk_so52 {post : Int32 → St1 → Prop} {fp fh : Int32} {a1 a2 a3 a4 a5 a6 a7 a8 a9 a10 a11 a12 a13 a14 a15 a16 a17 a18 a19 a20 a21 a22 : Nat → Int32} {W : Nat → Nat → Nat} (hW : rd_ok W) (h6 : ra_2 a6 (rd_D W)) (hh : rh_ok W a13 a14) (hl : rl_ok W a15 a16) (hm : rm_ok W a18 a19) (h22 : ra_2 a22 (rz_X W)) (H : post 1 (fp, fh, a1, a2, a3, a4, a5, a6, a7, a8, a9, a10, a11, a12, a13, a14, a15, a16, a17, a18, a19, a20, a21, a22)) : ∃ n, wX_sound_52 post fp fh a1 a2 a3 a4 a5 a6 a7 a8 a9 a10 a11 a12 a13 a14 a15 a16 a17 a18 a19 a20 a21 a22 n 1 0 := by
  obtain ⟨E, R, h13, h14, _, hE, hR, _, hS⟩ := hh
  obtain ⟨T, X, Hb, h15, h16, hinv, _⟩ := hl
  refine pk_loop (fun n i q => wX_sound_52 post fp fh a1 a2 a3 a4 a5 a6 a7 a8 a9 a10 a11 a12 a13 a14 a15 a16 a17 a18 a19 a20 a21 a22 n q (nI i)) (fun i q => q = 1) 144 0 1 (by omega) rfl ?_ ?_
  · intro n q h
    rw [h]
    exact pk_le 144 144 (fun _ => wk_so214 h14 hR hS H) (fun z => absurd z (by omega))
  · intro n i q hi h hw
    rw [h]
    have hs : i / 12 < 12 := by omega
    have ht : i % 12 < 12 := by omega
    have r6 : a6 (nI i).toNatClampNeg = nI (rd_D W (i / 12) (i % 12)) := ra_at (ra_12 h6) i hi
    have r13 : a13 (nI i).toNatClampNeg = nI (E (i / 12) (i % 12)) := ra_at (ra_12 h13) i hi
    have r22 : a22 (nI i).toNatClampNeg = nI (rz_X W (i / 12) (i % 12)) := ra_at (ra_12 h22) i hi
    have r15 : a15 (nI i).toNatClampNeg = nI (T (i / 12) (i % 12)) := ra_at (ra_12 h15) i hi
    have r16 : a16 (nI i).toNatClampNeg = nI (X (i / 12) (i % 12)) := ra_at (ra_12 h16) i hi
    have c0 := rd_cap hW hs ht
    have c0' := rd_cap hW ht hs
    have c1 := hE _ _ hs ht
    have c2 : rd_D W (i / 12) (i % 12) ≤ rz_X W (i / 12) (i % 12) := rz_ge hW 12 (Nat.le_refl _) _ _ hs ht
    have c3 : rz_X W (i / 12) (i % 12) ≤ 1000000 := Nat.le_trans (rd_it_le (rz_0 W) 12 _ _) (rz_0_le hW hs ht)
    have c4 := rm_adm hW (M := rm_M W) (N := rm_N W) (n := 3) (fun _ _ _ _ => rfl) (fun _ _ _ _ => rfl) hs ht
    have c5 := rl_Tc hW hinv _ _ hs ht
    have c6 := rl_Xc hW hinv _ _ hs ht
    have c7 := hinv.1 _ _ hs ht
    have c8 := hinv.2.1 _ _ hs ht
    have e156 : wX_sound_156 post (wX_sound_52 post fp fh a1 a2 a3 a4 a5 a6 a7 a8 a9 a10 a11 a12 a13 a14 a15 a16 a17 a18 a19 a20 a21 a22 n) (nI i) (nI (i / 12)) (nI (i % 12)) fp fh a1 a2 a3 a4 a5 a6 a7 a8 a9 a10 a11 a12 a13 a14 a15 a16 a17 a18 a19 a20 a21 a22 := by
      refine br_f (by decide) ⟨pk_in i 144 hi, ?_⟩
      refine pk_le 1000000 (X (i / 12) (i % 12)) (fun _ => nm_r (nI_1 i) (hw _ rfl)) (fun z => ⟨pk_in i 144 hi, pk_in (i % 12 * 12 + i / 12) 144 (by omega) (ra_ix _ _), pk_eq (X (i / 12) (i % 12)) (rd_D W (i % 12) (i / 12)) (fun _ => nm_r (nI_1 i) (hw _ rfl)) (fun y => absurd y (by omega)) r16 (ra_at2 h6 _ _ ht hs (ra_ix _ _))⟩) rfl r16
    have e125 : wX_sound_125 post (wX_sound_52 post fp fh a1 a2 a3 a4 a5 a6 a7 a8 a9 a10 a11 a12 a13 a14 a15 a16 a17 a18 a19 a20 a21 a22 n) (nI i) (nI (i / 12)) (nI (i % 12)) 1 fp fh a1 a2 a3 a4 a5 a6 a7 a8 a9 a10 a11 a12 a13 a14 a15 a16 a17 a18 a19 a20 a21 a22 := by
      refine br_f (by decide) ⟨pk_in i 144 hi, ?_⟩
      refine pk_le 1000000 (T (i / 12) (i % 12)) (fun _ => e156) (fun z => ⟨pk_in i 144 hi, pk_in i 144 hi, pk_eq (T (i / 12) (i % 12)) (rd_D W (i / 12) (i % 12)) (fun _ => e156) (fun y => absurd y (by omega)) r15 r6⟩) rfl r15
    refine pk_le 144 i (fun z => absurd z (by omega)) (fun _ => ⟨by decide, nm_r (ra_dv hi) ⟨by decide, nm_r (ra_md hi) (br_f (by decide) ⟨pk_in i 144 hi, pk_in i 144 hi, ?_⟩)⟩⟩)
    refine pk_lt (E (i / 12) (i % 12)) (rd_D W (i / 12) (i % 12)) (fun z => absurd z (by omega)) (fun _ => ⟨pk_in i 144 hi, pk_in i 144 hi, ?_⟩) r13 r6
    refine pk_lt (rz_X W (i / 12) (i % 12)) (rd_D W (i / 12) (i % 12)) (fun z => absurd z (by omega)) (fun _ => ?_) r22 r6
    refine wk_atLeast hW hm hs ht ⟨pk_in i 144 hi, ?_⟩
    exact pk_lt (rd_D W (i / 12) (i % 12)) (rm_pi (rm_M W) (rm_N W) (i / 12) (i % 12) 3) (fun z => absurd z (by omega)) (fun _ => e125) r6
theorem wk_sound {post : Int32 → St1 → Prop} {fp fh : Int32} {a1 a2 a3 a4 a5 a6 a7 a8 a9 a10 a11 a12 a13 a14 a15 a16 a17 a18 a19 a20 a21 a22 : Nat → Int32} {f t l : Nat → Nat} (hN : rn_ok fp a1 a2 a3 f t l) (H : ∀ bh b4 b5 b6 b7 b8 b9 b10 b11 b12 b13 b14 b15 b16 b17 b18 b19 b20 b21 b22, post 1 (fp, bh, a1, a2, a3, b4, b5, b6, b7, b8, b9, b10, b11, b12, b13, b14, b15, b16, b17, b18, b19, b20, b21, b22)) : wpX_sound post (fp, fh, a1, a2, a3, a4, a5, a6, a7, a8, a9, a10, a11, a12, a13, a14, a15, a16, a17, a18, a19, a20, a21, a22) := by
  have hW := rn_wok hN 28 (by omega)
  unfold wpX_sound
  refine wk_findAll (e := 0) (by omega) hN (fun bh b4 b5 b7 b8 b9 b10 b11 b12 b13 b14 b15 b16 b17 b18 b19 b20 b21 b22 h5 hpr => ?_)
  refine pk_loop (fun n i s => wX_sound_7 post fp bh n (nI i) a1 a2 a3 b4 b5 s b7 b8 b9 b10 b11 b12 b13 b14 b15 b16 b17 b18 b19 b20 b21 b22) (fun i s => ∀ j, j < i → s j = b5 j) 144 0 a6 (by omega) lt_0 ?_ ?_
  · intro n s h
    refine pk_le 144 144 (fun _ => ?_) (fun z => absurd z (by omega))
    have h4 := hpr.1
    have h6 : ra_2 s (rd_D (rn_W fp f t l 28)) := fun i j hi hj => by rw [h (i * 12 + j) (by omega)]; exact h5 i j hi hj
    refine wk_layHierarchy hW h4 (fun c7 c8 c13 c14 hh => ?_)
    refine wk_layLabels hW h4 (fun d7 d8 d9 d10 d15 d16 hl => ?_)
    refine wk_layLandmarks hW h4 (fun e7 e8 e9 e10 e17 e18 e19 hm => ?_)
    refine wk_layCells hN h4 (fun e21 e22 _ h22 => ?_)
    exact wk_so52 hW h6 hh hl hm h22 (H _ _ _ _ _ _ _ _ _ _ _ _ _ _ _ _ _ _ _ _)
  · intro n i s hi h hw
    exact pk_le 144 i (fun z => absurd z (by omega)) (fun _ => ⟨pk_in i 144 hi, pk_in i 144 hi, nm_e (nm_r (nI_1 i) (hw _ (ra_fl (f := b5) h (nI_clamp (by omega)) (by rw [nI_clamp (by omega)]))))⟩)
/-! roads come, go and change -/
theorem wk_hasX {post : Int32 → Prop} {fp fh : Int32} {a1 a2 a3 a4 a5 a6 a7 a8 a9 a10 a11 a12 a13 a14 a15 a16 a17 a18 a19 a20 a21 a22 : Nat → Int32} (x : Int32) (H1 : ∀ k, k < 28 → x = nI k → rn_h fp k = true → post 1) (H0 : post 0) : wpX_has post (fp, fh, a1, a2, a3, a4, a5, a6, a7, a8, a9, a10, a11, a12, a13, a14, a15, a16, a17, a18, a19, a20, a21, a22) x := by
  rcases pk_ix x (show 28 < 2 ^ 31 by omega) with z | z | ⟨k, hk, e⟩
  · exact br_t z H0
  · exact br_c (fun _ => H0) (fun _ => br_t z H0)
  · rw [e]
    exact wk_has hk (fun hh => H1 k hk e hh) (fun _ => H0)
theorem wk_remove {post : Int32 → St1 → Prop} {fp fh : Int32} {a1 a2 a3 a4 a5 a6 a7 a8 a9 a10 a11 a12 a13 a14 a15 a16 a17 a18 a19 a20 a21 a22 : Nat → Int32} {f t l : Nat → Nat} (hN : rn_ok fp a1 a2 a3 f t l) {k : Nat} (hk : k < 28) (hh : rn_h fp k = true) (H : post (nI (l k)) (rn_clr fp k, fh, a1, a2, a3, a4, a5, a6, a7, a8, a9, a10, a11, a12, a13, a14, a15, a16, a17, a18, a19, a20, a21, a22)) : wpX_remove post (fp, fh, a1, a2, a3, a4, a5, a6, a7, a8, a9, a10, a11, a12, a13, a14, a15, a16, a17, a18, a19, a20, a21, a22) (nI k) := by
  have g := hN.2.1 k hk hh
  unfold wpX_remove
  refine wk_has hk (fun _ => br_f (by decide) (nm_e ⟨pk_in k 28 hk, ?_⟩)) (fun z => absurd z (by rw [hh]; decide))
  rw [nI_clamp (by omega), g.2.2.1]
  exact H
theorem wk_removeX {post : Int32 → St1 → Prop} {fp fh : Int32} {a1 a2 a3 a4 a5 a6 a7 a8 a9 a10 a11 a12 a13 a14 a15 a16 a17 a18 a19 a20 a21 a22 : Nat → Int32} {f t l : Nat → Nat} (hN : rn_ok fp a1 a2 a3 f t l) {x : Int32} (H : ∀ r P f' t' l', rn_ok P a1 a2 a3 f' t' l' → post r (P, fh, a1, a2, a3, a4, a5, a6, a7, a8, a9, a10, a11, a12, a13, a14, a15, a16, a17, a18, a19, a20, a21, a22)) : wpX_remove post (fp, fh, a1, a2, a3, a4, a5, a6, a7, a8, a9, a10, a11, a12, a13, a14, a15, a16, a17, a18, a19, a20, a21, a22) x := by
  unfold wpX_remove
  refine wk_hasX x (fun k hk e hh => br_f (by decide) ?_) (br_t rfl (H _ _ _ _ _ hN))
  rw [e]
  exact nm_e ⟨pk_in k 28 hk, H _ _ _ _ _ (rn_rem hN hk)⟩
theorem rs_30 {x : Int32} (h1 : ¬ x < 1) (h2 : x ≤ 30) : ∃ n, 1 ≤ n ∧ n ≤ 30 ∧ x = nI n := by
  have h0 : ¬ x < 0 := by
    intro z
    apply h1
    rw [Int32.lt_iff_toInt_lt] at z ⊢
    have e0 : (0 : Int32).toInt = 0 := by decide
    have e1 : (1 : Int32).toInt = 1 := by decide
    omega
  obtain ⟨n, hn, e⟩ := nI_of2 (M := 30) (n := 30) (by decide) h0 h2
  refine ⟨n, ?_, hn, e⟩
  rcases Nat.eq_zero_or_pos n with z | z
  · rw [e, z] at h1
    exact absurd (by decide) h1
  · exact z
theorem wk_changeX {post : Int32 → St1 → Prop} {fp fh : Int32} {a1 a2 a3 a4 a5 a6 a7 a8 a9 a10 a11 a12 a13 a14 a15 a16 a17 a18 a19 a20 a21 a22 : Nat → Int32} {f t l : Nat → Nat} (hN : rn_ok fp a1 a2 a3 f t l) {x y : Int32} (H : ∀ r b3 l', rn_ok fp a1 a2 b3 f t l' → post r (fp, fh, a1, a2, b3, a4, a5, a6, a7, a8, a9, a10, a11, a12, a13, a14, a15, a16, a17, a18, a19, a20, a21, a22)) : wpX_change post (fp, fh, a1, a2, a3, a4, a5, a6, a7, a8, a9, a10, a11, a12, a13, a14, a15, a16, a17, a18, a19, a20, a21, a22) x y := by
  unfold wpX_change
  refine wk_hasX x (fun k hk e hh => br_f (by decide) (br_c (fun _ => H _ _ _ hN) (fun z1 => br_c (fun z2 => ?_) (fun _ => H _ _ _ hN)))) (br_t rfl (H _ _ _ hN))
  obtain ⟨n, h1, h30, en⟩ := rs_30 z1 z2
  rw [e]
  refine ⟨pk_in k 28 hk, nm_e ⟨pk_in k 28 hk, nm_r (by rw [nI_clamp (by omega), en, rs_b8 n (by omega)]) (H _ _ _ (rn_chg hN hk hh h1 h30))⟩⟩
theorem wk_add {post : Int32 → St1 → Prop} {fp fh : Int32} {a1 a2 a3 a4 a5 a6 a7 a8 a9 a10 a11 a12 a13 a14 a15 a16 a17 a18 a19 a20 a21 a22 : Nat → Int32} {f t l : Nat → Nat} (hN : rn_ok fp a1 a2 a3 f t l) {a b len : Nat} (ha : a < 12) (hb : b < 12) (hab : a ≠ b) (h1 : 1 ≤ len) (h30 : len ≤ 30) (H1 : ∀ k, k < 28 → rn_h fp k = false → post (nI k) (rn_put fp k, fh, upd a1 k (nI a), upd a2 k (nI b), upd a3 k (nI len), a4, a5, a6, a7, a8, a9, a10, a11, a12, a13, a14, a15, a16, a17, a18, a19, a20, a21, a22)) (H2 : post (-2) (fp, fh, a1, a2, a3, a4, a5, a6, a7, a8, a9, a10, a11, a12, a13, a14, a15, a16, a17, a18, a19, a20, a21, a22)) : wpX_add post (fp, fh, a1, a2, a3, a4, a5, a6, a7, a8, a9, a10, a11, a12, a13, a14, a15, a16, a17, a18, a19, a20, a21, a22) (nI a) (nI b) (nI len) := by
  unfold wpX_add
  refine wk_isPoint ha (br_f (by decide) (wk_isPoint hb (br_f (by decide) (pk_eq a b (fun z => absurd z hab) (fun _ => pk_lt len 1 (fun z => absurd z (by omega)) (fun _ => pk_le len 30 (fun _ => ?_) (fun z => absurd z (by omega))))))))
  refine pk_loop (σ := Unit) (fun n i _ => wX_add_35 post (nI a) (nI b) (nI len) fp fh a1 a2 a3 a4 a5 a6 a7 a8 a9 a10 a11 a12 a13 a14 a15 a16 a17 a18 a19 a20 a21 a22 n (nI i)) (fun _ _ => True) 28 0 () (by omega) trivial ?_ ?_
  · intro n _ _
    exact pk_le 28 28 (fun _ => H2) (fun z => absurd z (by omega))
  · intro n k _ hk _ hw
    refine pk_le 28 k (fun z => absurd z (by omega)) (fun _ => wk_has hk (fun _ => br_f (by decide) (nm_r (nI_1 k) (hw () trivial))) (fun hh => br_t rfl ?_))
    exact nm_e ⟨pk_in k 28 hk, nm_r (by rw [nI_clamp (by omega), rs_b8 a (by omega)]) ⟨pk_in k 28 hk, nm_r (by rw [nI_clamp (by omega), rs_b8 b (by omega)]) ⟨pk_in k 28 hk, nm_r (by rw [nI_clamp (by omega), rs_b8 len (by omega)]) (H1 k hk hh)⟩⟩⟩
theorem wk_isPointX {post : Int32 → Prop} {u : St2} (x : Int32) (H1 : ∀ p, p < 12 → x = nI p → post 1) (H0 : post 0) : wpX_isPoint post u x := by
  rcases pk_ix x (show 12 < 2 ^ 31 by omega) with z | z | ⟨k, hk, e⟩
  · exact br_t z H0
  · exact br_c (fun _ => H0) (fun _ => br_t z H0)
  · rw [e]
    exact wk_isPoint hk (H1 k hk e)
theorem wk_addX {post : Int32 → St1 → Prop} {fp fh : Int32} {a1 a2 a3 a4 a5 a6 a7 a8 a9 a10 a11 a12 a13 a14 a15 a16 a17 a18 a19 a20 a21 a22 : Nat → Int32} {f t l : Nat → Nat} (hN : rn_ok fp a1 a2 a3 f t l) {x y z : Int32} (H : ∀ r P b1 b2 b3 f' t' l', rn_ok P b1 b2 b3 f' t' l' → post r (P, fh, b1, b2, b3, a4, a5, a6, a7, a8, a9, a10, a11, a12, a13, a14, a15, a16, a17, a18, a19, a20, a21, a22)) : wpX_add post (fp, fh, a1, a2, a3, a4, a5, a6, a7, a8, a9, a10, a11, a12, a13, a14, a15, a16, a17, a18, a19, a20, a21, a22) x y z := by
  by_cases c : (∃ a, a < 12 ∧ x = nI a) ∧ (∃ b, b < 12 ∧ y = nI b) ∧ ¬ x = y ∧ ¬ z < 1 ∧ z ≤ 30
  · obtain ⟨⟨a, ha, ea⟩, ⟨b, hb, eb⟩, hab, z1, z2⟩ := c
    obtain ⟨n, h1, h30, en⟩ := rs_30 z1 z2
    rw [ea, eb, en]
    have ne : a ≠ b := fun e => hab (by rw [ea, eb, e])
    exact wk_add hN ha hb ne h1 h30 (fun k hk hh => H _ _ _ _ _ _ _ _ (rn_add hN hk hh ha hb ne h1 h30)) (H _ _ _ _ _ _ _ _ hN)
  · have h0 : ∀ r, post r (fp, fh, a1, a2, a3, a4, a5, a6, a7, a8, a9, a10, a11, a12, a13, a14, a15, a16, a17, a18, a19, a20, a21, a22) := fun r => H _ _ _ _ _ _ _ _ hN
    unfold wpX_add
    refine wk_isPointX x (fun a ha ea => br_f (by decide) (wk_isPointX y (fun b hb eb => br_f (by decide) (br_c (fun _ => h0 _) (fun e => br_c (fun _ => h0 _) (fun z1 => br_c (fun z2 => absurd ⟨⟨a, ha, ea⟩, ⟨b, hb, eb⟩, e, z1, z2⟩ c) (fun _ => h0 _))))) (br_t rfl (h0 _)))) (br_t rfl (h0 _))
theorem wk_turn {post : St1 → Prop} {fp fh : Int32} {a1 a2 a3 a4 a5 a6 a7 a8 a9 a10 a11 a12 a13 a14 a15 a16 a17 a18 a19 a20 a21 a22 : Nat → Int32} {f t l : Nat → Nat} (hN : rn_ok fp a1 a2 a3 f t l) {x y z w : Int32} (H : ∀ P b1 b2 b3 f' t' l', rn_ok P b1 b2 b3 f' t' l' → post (P, fh, b1, b2, b3, a4, a5, a6, a7, a8, a9, a10, a11, a12, a13, a14, a15, a16, a17, a18, a19, a20, a21, a22)) : wpL_turn post (fp, fh, a1, a2, a3, a4, a5, a6, a7, a8, a9, a10, a11, a12, a13, a14, a15, a16, a17, a18, a19, a20, a21, a22) x y z w := by
  have eC : ∀ u v, wL_turn_181 post u v fp fh a1 a2 a3 a4 a5 a6 a7 a8 a9 a10 a11 a12 a13 a14 a15 a16 a17 a18 a19 a20 a21 a22 := fun u v => wk_changeX hN (fun r b3 l' h => H _ _ _ _ _ _ _ h)
  have e166 : ∀ u v w, wL_turn_166 post u v w fp fh a1 a2 a3 a4 a5 a6 a7 a8 a9 a10 a11 a12 a13 a14 a15 a16 a17 a18 a19 a20 a21 a22 := fun u v w => br_c (fun _ => eC _ _) (fun _ => eC _ _)
  have e142 : ∀ u, wL_turn_142 post u fp fh a1 a2 a3 a4 a5 a6 a7 a8 a9 a10 a11 a12 a13 a14 a15 a16 a17 a18 a19 a20 a21 a22 := fun u => wk_removeX hN (fun r P f' t' l' h => H _ _ _ _ _ _ _ h)
  have e111 : ∀ u v w, wL_turn_111 post u v w fp fh a1 a2 a3 a4 a5 a6 a7 a8 a9 a10 a11 a12 a13 a14 a15 a16 a17 a18 a19 a20 a21 a22 := fun u v w => wk_addX hN (fun r P b1 b2 b3 f' t' l' h => H _ _ _ _ _ _ _ h)
  have e80 : ∀ c1 c2 c3 c4 c5 c6 c7, wL_turn_80 post c1 c2 c3 c4 c5 c6 c7 fp fh a1 a2 a3 a4 a5 a6 a7 a8 a9 a10 a11 a12 a13 a14 a15 a16 a17 a18 a19 a20 a21 a22 := fun c1 c2 c3 c4 c5 c6 c7 => br_c (fun _ => br_c (fun _ => br_c (fun _ => e166 _ _ _) (fun _ => ⟨by decide, e166 _ _ _⟩)) (fun _ => br_c (fun _ => e142 _) (fun _ => ⟨by decide, e142 _⟩))) (fun _ => br_c (fun _ => e111 _ _ _) (fun _ => e111 _ _ _))
  have e49 : ∀ c1 c2 c3 c4 c5 c6 c7, wL_turn_49 post c1 c2 c3 c4 c5 c6 c7 fp fh a1 a2 a3 a4 a5 a6 a7 a8 a9 a10 a11 a12 a13 a14 a15 a16 a17 a18 a19 a20 a21 a22 := fun c1 c2 c3 c4 c5 c6 c7 => br_c (fun _ => e80 _ _ _ _ _ _ _) (fun _ => br_c (fun _ => ⟨by decide, e80 _ _ _ _ _ _ _⟩) (fun _ => e80 _ _ _ _ _ _ _))
  have e18 : ∀ c1 c2 c3 c4 c5 c6, wL_turn_18 post c1 c2 c3 c4 c5 c6 fp fh a1 a2 a3 a4 a5 a6 a7 a8 a9 a10 a11 a12 a13 a14 a15 a16 a17 a18 a19 a20 a21 a22 := fun c1 c2 c3 c4 c5 c6 => br_c (fun _ => e49 _ _ _ _ _ _ _) (fun _ => br_c (fun _ => ⟨by decide, e49 _ _ _ _ _ _ _⟩) (fun _ => e49 _ _ _ _ _ _ _))
  unfold wpL_turn
  exact nm_e (br_c (fun _ => e18 _ _ _ _ _ _) (fun _ => e18 _ _ _ _ _ _))
end
section
/-! the law's views -/
def rn_ln (P : Int32) (f t l : Nat → Nat) : Nat → Int64
  | 0 => (nI (rn_wd P f t l)).toInt64
  | c + 1 => rn_ln P f t l c * 401 + (rn_a (rn_D P f t l (c / 12) (c % 12))).toInt64
theorem wk_lengths {post : Int64 → St1 → Prop} {fp fh : Int32} {a1 a2 a3 a4 a5 a6 a7 a8 a9 a10 a11 a12 a13 a14 a15 a16 a17 a18 a19 a20 a21 a22 : Nat → Int32} {f t l : Nat → Nat} (hN : rn_ok fp a1 a2 a3 f t l) {e : Nat} (he : e < 7) (H : ∀ bh b4 b5 b6 b7 b8 b9 b10 b11 b12 b13 b14 b15 b16 b17 b18 b19 b20 b21 b22, post (rn_ln fp f t l 144) (fp, bh, a1, a2, a3, b4, b5, b6, b7, b8, b9, b10, b11, b12, b13, b14, b15, b16, b17, b18, b19, b20, b21, b22)) : wpL_lengths post (fp, fh, a1, a2, a3, a4, a5, a6, a7, a8, a9, a10, a11, a12, a13, a14, a15, a16, a17, a18, a19, a20, a21, a22) (nI e) := by
  have key : ∀ k i, i + k = 144 → ∀ bh b4 b5 b6 b7 b8 b9 b10 b11 b12 b13 b14 b15 b16 b17 b18 b19 b20 b21 b22, wL_lengths_9 post (nI e) (k + 1) (rn_ln fp f t l i) (nI i) fp bh a1 a2 a3 b4 b5 b6 b7 b8 b9 b10 b11 b12 b13 b14 b15 b16 b17 b18 b19 b20 b21 b22 := by
    intro k
    induction k with
    | zero =>
      intro i hi bh b4 b5 b6 b7 b8 b9 b10 b11 b12 b13 b14 b15 b16 b17 b18 b19 b20 b21 b22
      have : i = 144 := by omega
      rw [this]
      exact pk_le 144 144 (fun _ => H _ _ _ _ _ _ _ _ _ _ _ _ _ _ _ _ _ _ _ _) (fun z => absurd z (by omega))
    | succ k ih =>
      intro i hi bh b4 b5 b6 b7 b8 b9 b10 b11 b12 b13 b14 b15 b16 b17 b18 b19 b20 b21 b22
      refine pk_le 144 i (fun z => absurd z (by omega)) (fun _ => ⟨by decide, by decide, ?_⟩)
      rw [ra_md (show i < 144 by omega), ra_dv (show i < 144 by omega)]
      exact wk_distance hN he (by omega) (by omega) (fun ch c4 c5 c6 c7 c8 c9 c10 c11 c12 c13 c14 c15 c16 c17 c18 c19 c20 c21 c22 => nm_e (nm_r (nI_1 i) (ih (i + 1) (by omega) _ _ _ _ _ _ _ _ _ _ _ _ _ _ _ _ _ _ _ _)))
  unfold wpL_lengths
  exact wk_widest hN (fun bh b4 b5 b6 b7 b8 b9 b10 b11 b12 b13 b14 b15 b16 b17 b18 b19 b20 b21 b22 => ⟨145, key 144 0 (by omega) _ _ _ _ _ _ _ _ _ _ _ _ _ _ _ _ _ _ _ _⟩)
def rn_vw (P : Int32) (f t l : Nat → Nat) : Nat → Int64
  | 0 => rn_ln P f t l 144 + P.toInt64 + 31 * (rn_nd P f t l).toInt64
  | k + 1 => rn_vw P f t l k * 31 + (rn_dt P f t l k).toInt64 + 7 * (rn_bw P f t l (k % 12) (3 * k % 12)).toInt64 + 5 * (nI (rn_ft P f t l (k % 12))).toInt64
theorem wk_view {post : Int64 → St1 → Prop} {fp fh : Int32} {a1 a2 a3 a4 a5 a6 a7 a8 a9 a10 a11 a12 a13 a14 a15 a16 a17 a18 a19 a20 a21 a22 : Nat → Int32} {f t l : Nat → Nat} (hN : rn_ok fp a1 a2 a3 f t l) {e : Nat} (he : e < 7) (H : ∀ bh b4 b5 b6 b7 b8 b9 b10 b11 b12 b13 b14 b15 b16 b17 b18 b19 b20 b21 b22, post (rn_vw fp f t l 28) (fp, bh, a1, a2, a3, b4, b5, b6, b7, b8, b9, b10, b11, b12, b13, b14, b15, b16, b17, b18, b19, b20, b21, b22)) : wpL_view post (fp, fh, a1, a2, a3, a4, a5, a6, a7, a8, a9, a10, a11, a12, a13, a14, a15, a16, a17, a18, a19, a20, a21, a22) (nI e) := by
  have key : ∀ k i, i + k = 28 → ∀ bh b4 b5 b6 b7 b8 b9 b10 b11 b12 b13 b14 b15 b16 b17 b18 b19 b20 b21 b22, wL_view_25 post (k + 1) (rn_vw fp f t l i) (nI i) fp bh a1 a2 a3 b4 b5 b6 b7 b8 b9 b10 b11 b12 b13 b14 b15 b16 b17 b18 b19 b20 b21 b22 := by
    intro k
    induction k with
    | zero =>
      intro i hi bh b4 b5 b6 b7 b8 b9 b10 b11 b12 b13 b14 b15 b16 b17 b18 b19 b20 b21 b22
      have : i = 28 := by omega
      rw [this]
      exact pk_le 28 28 (fun _ => H _ _ _ _ _ _ _ _ _ _ _ _ _ _ _ _ _ _ _ _) (fun z => absurd z (by omega))
    | succ k ih =>
      intro i hi bh b4 b5 b6 b7 b8 b9 b10 b11 b12 b13 b14 b15 b16 b17 b18 b19 b20 b21 b22
      have e3 : (3 : Int32) * nI i = nI (3 * i) := by rw [show (3 : Int32) = nI 3 from rfl, pk_mul]
      refine pk_le 28 i (fun z => absurd z (by omega)) (fun _ => wk_detour hN (by omega) (fun ch c4 c5 c6 c7 c8 c9 c10 c11 c12 c13 c14 c15 c16 c17 c18 c19 c20 c21 c22 => ⟨by decide, by decide, ?_⟩))
      rw [e3, ra_md (show 3 * i < 144 by omega), ra_md (show i < 144 by omega)]
      refine wk_between hN (by omega) (by omega) (fun dh d4 d5 d6 d7 d8 d9 d10 d11 d12 d13 d14 d15 d16 d17 d18 d19 d20 d21 d22 => ⟨by decide, ?_⟩)
      exact wk_farthest hN (by omega) (fun gh g4 g5 g6 g7 g8 g9 g10 g11 g12 g13 g14 g15 g16 g17 g18 g19 g20 g21 g22 => nm_e (nm_r (nI_1 i) (ih (i + 1) (by omega) _ _ _ _ _ _ _ _ _ _ _ _ _ _ _ _ _ _ _ _)))
  unfold wpL_view
  exact wk_lengths hN he (fun bh b4 b5 b6 b7 b8 b9 b10 b11 b12 b13 b14 b15 b16 b17 b18 b19 b20 b21 b22 => wk_needless hN (fun ch c4 c5 c6 c7 c8 c9 c10 c11 c12 c13 c14 c15 c16 c17 c18 c19 c20 c21 c22 => nm_e ⟨29, key 28 0 (by omega) _ _ _ _ _ _ _ _ _ _ _ _ _ _ _ _ _ _ _ _⟩))
/-! a road comes and goes -/
theorem rn_z_id {k a : Nat} {f : Nat → Nat} (h : f k = 0) : rn_z k (fun j => if j = k then a else f j) = f := by
  funext j
  by_cases e : j = k
  · rw [e, rn_zk, h]
  · rw [rn_zn _ e, if_neg e]
theorem wk_comesAndGoes {post : Int32 → St1 → Prop} {fp fh : Int32} {a1 a2 a3 a4 a5 a6 a7 a8 a9 a10 a11 a12 a13 a14 a15 a16 a17 a18 a19 a20 a21 a22 : Nat → Int32} {f t l : Nat → Nat} (hN : rn_ok fp a1 a2 a3 f t l) {a b len e : Nat} (ha : a < 12) (hb : b < 12) (hab : a ≠ b) (h1 : 1 ≤ len) (h30 : len ≤ 30) (he : e < 7) (H : ∀ bh b4 b5 b6 b7 b8 b9 b10 b11 b12 b13 b14 b15 b16 b17 b18 b19 b20 b21 b22 b1 b2 b3, rn_ok fp b1 b2 b3 f t l → post 1 (fp, bh, b1, b2, b3, b4, b5, b6, b7, b8, b9, b10, b11, b12, b13, b14, b15, b16, b17, b18, b19, b20, b21, b22)) : wpL_comesAndGoes post (fp, fh, a1, a2, a3, a4, a5, a6, a7, a8, a9, a10, a11, a12, a13, a14, a15, a16, a17, a18, a19, a20, a21, a22) (nI a) (nI b) (nI len) (nI e) := by
  unfold wpL_comesAndGoes
  refine wk_view hN he (fun bh b4 b5 b6 b7 b8 b9 b10 b11 b12 b13 b14 b15 b16 b17 b18 b19 b20 b21 b22 => ?_)
  refine wk_add hN ha hb hab h1 h30 (fun k hk hh => ?_) ?_
  · have hN' := rn_add hN hk hh ha hb hab h1 h30
    have hk' : rn_h (rn_put fp k) k = true := by rw [rn_put_h fp hk hk]; simp
    have z0 := hN.2.2 k (Or.inr hh)
    refine wk_distance hN' he ha hb (fun ch c4 c5 c6 c7 c8 c9 c10 c11 c12 c13 c14 c15 c16 c17 c18 c19 c20 c21 c22 => ?_)
    have w1 := rn_W1 (f := fun j => if j = k then a else f j) (t := fun j => if j = k then b else t j) (l := fun j => if j = k then len else l j) hk' 28 hk
    rw [if_pos rfl, if_pos rfl, if_pos rfl] at w1
    have d1 : rn_D (rn_put fp k) (fun j => if j = k then a else f j) (fun j => if j = k then b else t j) (fun j => if j = k then len else l j) a b ≤ rn_W (rn_put fp k) (fun j => if j = k then a else f j) (fun j => if j = k then b else t j) (fun j => if j = k then len else l j) 28 a b := rd_leW _ a b
    have d2 : 1 ≤ rn_D (rn_put fp k) (fun j => if j = k then a else f j) (fun j => if j = k then b else t j) (fun j => if j = k then len else l j) a b := rd_pos (rn_wok hN' 28 (by omega)) ha hb hab
    generalize rn_D (rn_put fp k) (fun j => if j = k then a else f j) (fun j => if j = k then b else t j) (fun j => if j = k then len else l j) a b = D at d1 d2
    rw [rn_a1 (show D < 1000000 by omega)]
    have hN2 := rn_rem hN' hk
    rw [rn_clr_put hk hh, rn_z_id z0.1, rn_z_id z0.2.1, rn_z_id z0.2.2] at hN2
    refine br_f (nI_pos (by omega)) (wk_remove hN' hk hk' ?_)
    dsimp only
    rw [if_pos rfl, rn_clr_put hk hh]
    refine br_f (nI_pos (by omega)) (pk_lt D 1 (fun z => absurd z (by omega)) (fun _ => pk_lt len D (fun z => absurd z (by omega)) (fun _ => br_t rfl ?_)))
    exact wk_view hN2 he (fun dh d4 d5 d6 d7 d8 d9 d10 d11 d12 d13 d14 d15 d16 d17 d18 d19 d20 d21 d22 => br_t rfl (H _ _ _ _ _ _ _ _ _ _ _ _ _ _ _ _ _ _ _ _ _ _ _ hN2))
  · refine wk_distance hN he ha hb (fun ch c4 c5 c6 c7 c8 c9 c10 c11 c12 c13 c14 c15 c16 c17 c18 c19 c20 c21 c22 => ?_)
    refine br_t (by decide) (br_t (by decide) (br_t rfl (br_t rfl ?_)))
    exact wk_view hN he (fun dh d4 d5 d6 d7 d8 d9 d10 d11 d12 d13 d14 d15 d16 d17 d18 d19 d20 d21 d22 => br_t rfl (H _ _ _ _ _ _ _ _ _ _ _ _ _ _ _ _ _ _ _ _ _ _ _ hN))
end
section
/-! the law's checks -/
theorem rn_ftwd (P : Int32) (f t l : Nat → Nat) {s : Nat} (hs : s < 12) : rn_ft P f t l s ≤ rn_wd P f t l := by
  refine rn_mx_le _ _ 12 (fun j hj hl => ?_)
  have h := rn_mx_ge (fun i => rn_D P f t l (i / 12) (i % 12)) 144 (s * 12 + j) (by omega)
  rw [show (s * 12 + j) / 12 = s by omega, show (s * 12 + j) % 12 = j by omega] at h
  exact h hl
theorem rn_bwb (P : Int32) (f t l : Nat → Nat) (s d : Nat) {p : Nat} (hp : p < 12) : bt (rn_bw P f t l s d) p = true ↔ rn_D P f t l s d < 1000000 ∧ rn_D P f t l s p + rn_D P f t l p d = rn_D P f t l s d := by
  unfold rn_bw
  rw [rn_set_bt _ 12 (by omega) p (by omega), decide_eq_true hp, Bool.true_and, decide_eq_true_eq]
theorem rn_arb (P : Int32) (f t l : Nat → Nat) (s : Nat) (r : Int32) {d : Nat} (hd : d < 12) : bt (rn_ar P f t l s r) d = true ↔ rn_D P f t l s d < 1000000 ∧ ¬ r < nI (rn_D P f t l s d) := by
  unfold rn_ar
  rw [rn_set_bt _ 12 (by omega) d (by omega), decide_eq_true hd, Bool.true_and, decide_eq_true_eq]
theorem rn_ndb (P : Int32) (f t l : Nat → Nat) {k : Nat} (hk : k < 28) : bt (rn_nd P f t l) k = true ↔ rn_h P k = true ∧ rn_D P f t l (f k) (t k) < l k := by
  unfold rn_nd
  rw [rn_set_bt _ 28 (by omega) k (by omega), decide_eq_true hk, Bool.true_and, Bool.and_eq_true, decide_eq_true_eq]
theorem wk_routes {post : Int32 → St1 → Prop} {fp fh : Int32} {a1 a2 a3 a4 a5 a6 a7 a8 a9 a10 a11 a12 a13 a14 a15 a16 a17 a18 a19 a20 a21 a22 : Nat → Int32} {f t l : Nat → Nat} (hN : rn_ok fp a1 a2 a3 f t l) {e s : Nat} {r : Int32} (he : e < 7) (hs : s < 12) (H : ∀ bh b4 b5 b6 b7 b8 b9 b10 b11 b12 b13 b14 b15 b16 b17 b18 b19 b20 b21 b22, post 1 (fp, bh, a1, a2, a3, b4, b5, b6, b7, b8, b9, b10, b11, b12, b13, b14, b15, b16, b17, b18, b19, b20, b21, b22)) : wpL_routes post (fp, fh, a1, a2, a3, a4, a5, a6, a7, a8, a9, a10, a11, a12, a13, a14, a15, a16, a17, a18, a19, a20, a21, a22) (nI e) (nI s) r := by
  have hW := rn_wok hN 28 (by omega)
  have key : ∀ k i, i + k = 144 → ∀ bh b4 b5 b6 b7 b8 b9 b10 b11 b12 b13 b14 b15 b16 b17 b18 b19 b20 b21 b22, wL_routes_40 post (nI e) (nI s) r (rn_ar fp f t l s r) (k + 1) 1 (nI i) fp bh a1 a2 a3 b4 b5 b6 b7 b8 b9 b10 b11 b12 b13 b14 b15 b16 b17 b18 b19 b20 b21 b22 := by
    intro k
    induction k with
    | zero =>
      intro i hi bh b4 b5 b6 b7 b8 b9 b10 b11 b12 b13 b14 b15 b16 b17 b18 b19 b20 b21 b22
      have : i = 144 := by omega
      rw [this]
      exact pk_le 144 144 (fun _ => ⟨rfl, H _ _ _ _ _ _ _ _ _ _ _ _ _ _ _ _ _ _ _ _⟩) (fun z => absurd z (by omega))
    | succ k ih =>
      intro i hi bh b4 b5 b6 b7 b8 b9 b10 b11 b12 b13 b14 b15 b16 b17 b18 b19 b20 b21 b22
      have hp : i / 12 < 12 := by omega
      have hd : i % 12 < 12 := by omega
      have capsd : rn_D fp f t l s (i % 12) ≤ 1000000 := rd_cap hW hs hd
      have capsp : rn_D fp f t l s (i / 12) ≤ 1000000 := rd_cap hW hs hp
      have cappd : rn_D fp f t l (i / 12) (i % 12) ≤ 1000000 := rd_cap hW hp hd
      have tri : rn_D fp f t l s (i % 12) ≤ rn_D fp f t l s (i / 12) + rn_D fp f t l (i / 12) (i % 12) := rd_tri _ hp s (i % 12)
      have bdp : rn_D fp f t l s (i / 12) < 1000000 → rn_D fp f t l s (i / 12) ≤ 122880 := rd_bd hW hs hp
      have bpd : rn_D fp f t l (i / 12) (i % 12) < 1000000 → rn_D fp f t l (i / 12) (i % 12) ≤ 122880 := rd_bd hW hp hd
      have bon := rn_bwb fp f t l s (i % 12) hp
      have bcl := rn_arb fp f t l s r hd
      refine pk_le 144 i (fun z => absurd z (by omega)) (fun _ => ⟨by decide, nm_r (ra_dv (by omega)) ⟨by decide, nm_r (ra_md (by omega)) ?_⟩⟩)
      refine wk_distance hN he hs hp (fun ch c4 c5 c6 c7 c8 c9 c10 c11 c12 c13 c14 c15 c16 c17 c18 c19 c20 c21 c22 => ?_)
      refine wk_distance hN he hp hd (fun dh d4 d5 d6 d7 d8 d9 d10 d11 d12 d13 d14 d15 d16 d17 d18 d19 d20 d21 d22 => ?_)
      refine wk_distance hN he hs hd (fun gh g4 g5 g6 g7 g8 g9 g10 g11 g12 g13 g14 g15 g16 g17 g18 g19 g20 g21 g22 => ?_)
      refine wk_over hN hs hp hd (fun hh h4 h5 h6 h7 h8 h9 h10 h11 h12 h13 h14 h15 h16 h17 h18 h19 h20 h21 h22 => ?_)
      refine wk_between hN hs hd (fun kh k4 k5 k6 k7 k8 k9 k10 k11 k12 k13 k14 k15 k16 k17 k18 k19 k20 k21 k22 => ?_)
      generalize hsd : rn_D fp f t l s (i % 12) = sd at *
      generalize hsp : rn_D fp f t l s (i / 12) = sp at *
      generalize hpd : rn_D fp f t l (i / 12) (i % 12) = pd at *
      have e217 : ∀ z, wL_routes_217 post (wL_routes_40 post (nI e) (nI s) r (rn_ar fp f t l s r) (k + 1)) (nI e) (nI s) r (rn_ar fp f t l s r) (nI i) (nI (i % 12)) (rn_a sd) z z fp kh a1 a2 a3 k4 k5 k6 k7 k8 k9 k10 k11 k12 k13 k14 k15 k16 k17 k18 k19 k20 k21 k22 := by
        intro z
        refine br_t rfl ?_
        rw [show (6 : Int32) - nI e = nI (6 - e) from pk_sub (a := 6) (by omega)]
        refine wk_distance hN (by omega) hs hd (fun mh m4 m5 m6 m7 m8 m9 m10 m11 m12 m13 m14 m15 m16 m17 m18 m19 m20 m21 m22 => br_t (by rw [hsd]) (nm_r (nI_1 i) (ih (i + 1) (by omega) _ _ _ _ _ _ _ _ _ _ _ _ _ _ _ _ _ _ _ _)))
      have e196 : ∀ z x14, ((x14 = 1 ∧ (sd < 1000000 ∧ ¬ r < nI sd)) ∨ (x14 = 0 ∧ ¬ (sd < 1000000 ∧ ¬ r < nI sd))) → wL_routes_196 post (wL_routes_40 post (nI e) (nI s) r (rn_ar fp f t l s r) (k + 1)) (nI e) (nI s) r (rn_ar fp f t l s r) (nI i) (nI (i % 12)) (rn_a sd) x14 z z fp kh a1 a2 a3 k4 k5 k6 k7 k8 k9 k10 k11 k12 k13 k14 k15 k16 k17 k18 k19 k20 k21 k22 := by
        intro z x14 hx
        refine br_t rfl (ek_if (rn_a0 _) (fun y => ?_) (fun y => ?_))
        · rcases hx with ⟨_, hx⟩ | ⟨hx, _⟩
          · exact absurd hx.1 y
          · rw [hx]
            exact e217 0
        · have y' := Decidable.not_not.mp y
          rw [rn_a1 y']
          refine br_c (fun w => ?_) (fun w => ?_)
          · rcases hx with ⟨_, hx⟩ | ⟨hx, _⟩
            · exact absurd w hx.2
            · rw [hx]
              have := e217 0
              rw [rn_a1 y'] at this
              exact this
          · rcases hx with ⟨hx, _⟩ | ⟨_, hx⟩
            · rw [hx]
              have := e217 1
              rw [rn_a1 y'] at this
              exact this
            · exact absurd ⟨y', w⟩ hx
      have e175 : ∀ x13 x14, ((x13 = 1 ∧ (sd < 1000000 ∧ sp + pd = sd)) ∨ (x13 = 0 ∧ ¬ (sd < 1000000 ∧ sp + pd = sd))) → ((x14 = 1 ∧ (sd < 1000000 ∧ ¬ r < nI sd)) ∨ (x14 = 0 ∧ ¬ (sd < 1000000 ∧ ¬ r < nI sd))) → wL_routes_175 post (wL_routes_40 post (nI e) (nI s) r (rn_ar fp f t l s r) (k + 1)) (nI e) (nI s) r (rn_ar fp f t l s r) (nI i) (nI (i % 12)) (rn_a sd) (rn_ov sp pd) x13 x14 fp kh a1 a2 a3 k4 k5 k6 k7 k8 k9 k10 k11 k12 k13 k14 k15 k16 k17 k18 k19 k20 k21 k22 := by
        intro x13 x14 h13 h14
        refine ek_if (rn_a3 _) (fun y => ?_) (fun y => ?_)
        · rcases h13 with ⟨_, h13⟩ | ⟨h13, _⟩
          · exact absurd h13.1 y
          · rw [h13]
            exact e196 0 x14 h14
        · have y' := Decidable.not_not.mp y
          have ov : rn_ov sp pd = rn_a sd ↔ sp + pd = sd := by
            rw [rn_a1 y']
            unfold rn_ov
            by_cases c : sp < 1000000 ∧ pd < 1000000
            · rw [if_pos c, nI_eq (by omega) (by omega)]
            · rw [if_neg c]
              exact ⟨fun w => absurd w.symm (rn_n3 (by omega)), fun w => absurd ⟨by omega, by omega⟩ c⟩
          refine ek_if ov (fun w => ?_) (fun w => ?_)
          · rcases h13 with ⟨h13, _⟩ | ⟨_, h13⟩
            · rw [h13]
              exact e196 1 x14 h14
            · exact absurd ⟨y', w⟩ h13
          · rcases h13 with ⟨_, h13⟩ | ⟨h13, _⟩
            · exact absurd h13.2 w
            · rw [h13]
              exact e196 0 x14 h14
      have e143 : ∀ x13 x14, ((x13 = 1 ∧ (sd < 1000000 ∧ sp + pd = sd)) ∨ (x13 = 0 ∧ ¬ (sd < 1000000 ∧ sp + pd = sd))) → ((x14 = 1 ∧ (sd < 1000000 ∧ ¬ r < nI sd)) ∨ (x14 = 0 ∧ ¬ (sd < 1000000 ∧ ¬ r < nI sd))) → wL_routes_143 post (wL_routes_40 post (nI e) (nI s) r (rn_ar fp f t l s r) (k + 1)) (nI e) (nI s) r 1 (rn_ar fp f t l s r) (nI i) (nI (i % 12)) (rn_a sp) (rn_a pd) (rn_a sd) (rn_ov sp pd) x13 x14 fp kh a1 a2 a3 k4 k5 k6 k7 k8 k9 k10 k11 k12 k13 k14 k15 k16 k17 k18 k19 k20 k21 k22 := by
        intro x13 x14 h13 h14
        have h := e175 x13 x14 h13 h14
        refine br_f (by decide) (ek_if (rn_a0 _) (fun _ => h) (fun y => ek_if (rn_a0 _) (fun _ => h) (fun y2 => ?_)))
        have y' := Decidable.not_not.mp y
        have y2' := Decidable.not_not.mp y2
        have b1 := bdp y'
        have b2 := bpd y2'
        refine ek_if (rn_a0 _) (fun y3 => absurd y3 (by omega)) (fun y3 => ?_)
        have y3' := Decidable.not_not.mp y3
        exact pk_lt (sp + pd) sd (fun w => absurd w (by omega)) (fun _ => h) (by rw [rn_a1 y', rn_a1 y2', nI_add]) (rn_a1 y3')
      have e125 : ∀ x13, ((x13 = 1 ∧ (sd < 1000000 ∧ sp + pd = sd)) ∨ (x13 = 0 ∧ ¬ (sd < 1000000 ∧ sp + pd = sd))) → wL_routes_125 post (wL_routes_40 post (nI e) (nI s) r (rn_ar fp f t l s r) (k + 1)) (nI e) (nI s) r 1 (rn_ar fp f t l s r) (nI i) (nI (i % 12)) (rn_a sp) (rn_a pd) (rn_a sd) (rn_ov sp pd) x13 fp kh a1 a2 a3 k4 k5 k6 k7 k8 k9 k10 k11 k12 k13 k14 k15 k16 k17 k18 k19 k20 k21 k22 := by
        intro x13 h13
        refine ek_if (bq_is1 (show i % 12 < 32 by omega)) (fun y => e143 x13 1 h13 (Or.inl ⟨rfl, bcl.mp y⟩)) (fun y => e143 x13 0 h13 (Or.inr ⟨rfl, fun w => y (bcl.mpr w)⟩))
      exact ek_if (bq_is1 (show i / 12 < 32 by omega)) (fun y => e125 1 (Or.inl ⟨rfl, bon.mp y⟩)) (fun y => e125 0 (Or.inr ⟨rfl, fun w => y (bon.mpr w)⟩))
  unfold wpL_routes
  refine wk_distance hN he hs hs (fun bh b4 b5 b6 b7 b8 b9 b10 b11 b12 b13 b14 b15 b16 b17 b18 b19 b20 b21 b22 => ?_)
  rw [show rn_D fp f t l s s = 0 from rd_self _ s]
  refine br_t rfl (wk_farthest hN hs (fun ch c4 c5 c6 c7 c8 c9 c10 c11 c12 c13 c14 c15 c16 c17 c18 c19 c20 c21 c22 => wk_widest hN (fun dh d4 d5 d6 d7 d8 d9 d10 d11 d12 d13 d14 d15 d16 d17 d18 d19 d20 d21 d22 => ?_)))
  have g1 := rn_ftwd fp f t l hs
  have g2 : rn_wd fp f t l < 1000000 := rn_mx_lt _ _
  refine pk_lt (rn_wd fp f t l) (rn_ft fp f t l s) (fun z => absurd z (by omega)) (fun _ => ?_)
  exact wk_around hN hs (fun gh g4 g5 g6 g7 g8 g9 g10 g11 g12 g13 g14 g15 g16 g17 g18 g19 g20 g21 g22 => ⟨145, key 144 0 (by omega) _ _ _ _ _ _ _ _ _ _ _ _ _ _ _ _ _ _ _ _⟩)
theorem wk_detours {post : Int32 → St1 → Prop} {fp fh : Int32} {a1 a2 a3 a4 a5 a6 a7 a8 a9 a10 a11 a12 a13 a14 a15 a16 a17 a18 a19 a20 a21 a22 : Nat → Int32} {f t l : Nat → Nat} (hN : rn_ok fp a1 a2 a3 f t l) (H : ∀ bh b4 b5 b6 b7 b8 b9 b10 b11 b12 b13 b14 b15 b16 b17 b18 b19 b20 b21 b22, post 1 (fp, bh, a1, a2, a3, b4, b5, b6, b7, b8, b9, b10, b11, b12, b13, b14, b15, b16, b17, b18, b19, b20, b21, b22)) : wpL_detours post (fp, fh, a1, a2, a3, a4, a5, a6, a7, a8, a9, a10, a11, a12, a13, a14, a15, a16, a17, a18, a19, a20, a21, a22) := by
  have hW := rn_wok hN 28 (by omega)
  have key2 : ∀ k i, i + k = 49 → ∀ bh b4 b5 b6 b7 b8 b9 b10 b11 b12 b13 b14 b15 b16 b17 b18 b19 b20 b21 b22, wL_detours_141 post (k + 1) 1 (nI i) fp bh a1 a2 a3 b4 b5 b6 b7 b8 b9 b10 b11 b12 b13 b14 b15 b16 b17 b18 b19 b20 b21 b22 := by
    intro k
    induction k with
    | zero =>
      intro i hi bh b4 b5 b6 b7 b8 b9 b10 b11 b12 b13 b14 b15 b16 b17 b18 b19 b20 b21 b22
      have : i = 49 := by omega
      rw [this]
      exact pk_le 49 49 (fun _ => ⟨rfl, H _ _ _ _ _ _ _ _ _ _ _ _ _ _ _ _ _ _ _ _⟩) (fun z => absurd z (by omega))
    | succ k ih =>
      intro i hi bh b4 b5 b6 b7 b8 b9 b10 b11 b12 b13 b14 b15 b16 b17 b18 b19 b20 b21 b22
      refine pk_le 49 i (fun z => absurd z (by omega)) (fun _ => br_f (by decide) ⟨by decide, by decide, ?_⟩)
      rw [show nI i - nI i / 7 * 7 = nI (i % 7) from pk_rem (d := 7) (by omega) (by omega) (by omega), show nI i / 7 = nI (i / 7) from pk_div (d := 7) (by omega) (by omega) (by omega)]
      exact wk_agree hN (by omega) (by omega) (fun ch c4 c5 c6 c7 c8 c9 c10 c11 c12 c13 c14 c15 c16 c17 c18 c19 c20 c21 c22 => br_f (by decide) (nm_r (nI_1 i) (ih (i + 1) (by omega) _ _ _ _ _ _ _ _ _ _ _ _ _ _ _ _ _ _ _ _)))
  have key1 : ∀ k i, i + k = 28 → ∀ bh b4 b5 b6 b7 b8 b9 b10 b11 b12 b13 b14 b15 b16 b17 b18 b19 b20 b21 b22, wL_detours_34 post fp (rn_nd fp f t l) (k + 1) 1 (nI i) fp bh a1 a2 a3 b4 b5 b6 b7 b8 b9 b10 b11 b12 b13 b14 b15 b16 b17 b18 b19 b20 b21 b22 := by
    intro k
    induction k with
    | zero =>
      intro i hi bh b4 b5 b6 b7 b8 b9 b10 b11 b12 b13 b14 b15 b16 b17 b18 b19 b20 b21 b22
      have : i = 28 := by omega
      rw [this]
      exact pk_le 28 28 (fun _ => ⟨50, key2 49 0 (by omega) _ _ _ _ _ _ _ _ _ _ _ _ _ _ _ _ _ _ _ _⟩) (fun z => absurd z (by omega))
    | succ k ih =>
      intro i hi bh b4 b5 b6 b7 b8 b9 b10 b11 b12 b13 b14 b15 b16 b17 b18 b19 b20 b21 b22
      have hi' : i < 28 := by omega
      refine pk_le 28 i (fun z => absurd z (by omega)) (fun _ => wk_detour hN hi' (fun ch c4 c5 c6 c7 c8 c9 c10 c11 c12 c13 c14 c15 c16 c17 c18 c19 c20 c21 c22 => ?_))
      have nx : wL_detours_34 post fp (rn_nd fp f t l) (k + 1) 1 (nI (i + 1)) fp ch a1 a2 a3 c4 c5 c6 c7 c8 c9 c10 c11 c12 c13 c14 c15 c16 c17 c18 c19 c20 c21 c22 := ih (i + 1) (by omega) _ _ _ _ _ _ _ _ _ _ _ _ _ _ _ _ _ _ _ _
      have bn := rn_ndb fp f t l hi'
      have hb : rn_h fp i = bt fp i := bq_h (by omega)
      refine ek_if (bq_is1 (show i < 32 by omega)) (fun y => ?_) (fun y => ?_)
      · have hh : rn_h fp i = true := by rw [hb]; exact y
        have g := hN.2.1 i hi' hh
        have cap : rn_D fp f t l (f i) (t i) ≤ 1000000 := rd_cap hW g.2.2.2.1 g.2.2.2.2.1
        have cap' : rn_D (rn_clr fp i) (rn_z i f) (rn_z i t) (rn_z i l) (f i) (t i) ≤ 1000000 := rd_cap (rn_wok (rn_rem hN hi') 28 (by omega)) g.2.2.2.1 g.2.2.2.2.1
        have mono := rn_remD hN hi' g.2.2.2.1 g.2.2.2.2.1
        refine ek_if (bq_is1 (show i < 32 by omega)) (fun w => ?_) (fun w => ?_)
        · have nd := (bn.mp w).2
          have eq := rn_remE hN hi' nd g.2.2.2.1 _ (t i) g.2.2.2.2.1 (Nat.le_refl _)
          refine br_f (by decide) (br_f (by decide) (br_f (by decide) (br_t ?_ (nm_r (nI_1 i) nx))))
          unfold rn_dt
          rw [if_pos hh, if_pos (by omega), eq, pk_sub (Nat.le_refl _), Nat.sub_self]
          rfl
        · refine br_f (by decide) (br_f (by decide) (br_t rfl ?_))
          by_cases c : rn_D (rn_clr fp i) (rn_z i f) (rn_z i t) (rn_z i l) (f i) (t i) < 1000000
          · have ed : rn_dt fp f t l i = nI (rn_D (rn_clr fp i) (rn_z i f) (rn_z i t) (rn_z i l) (f i) (t i) - rn_D fp f t l (f i) (t i)) := by
              unfold rn_dt
              rw [if_pos hh, if_pos c, pk_sub mono]
            rw [ed]
            exact br_f (rn_n3 (by omega)) (br_f (nI_pos (by omega)) (nm_r (nI_1 i) nx))
          · have ed : rn_dt fp f t l i = -3 := by
              unfold rn_dt
              rw [if_pos hh, if_neg c]
            exact br_t ed (nm_r (nI_1 i) nx)
      · have hh : ¬ rn_h fp i = true := by rw [hb]; exact y
        have ed : rn_dt fp f t l i = -1 := by
          unfold rn_dt
          rw [if_neg hh]
        have e81 : ∀ z, wL_detours_81 post (wL_detours_34 post fp (rn_nd fp f t l) (k + 1)) fp (rn_nd fp f t l) 1 (nI i) (rn_dt fp f t l i) 0 z fp ch a1 a2 a3 c4 c5 c6 c7 c8 c9 c10 c11 c12 c13 c14 c15 c16 c17 c18 c19 c20 c21 c22 := fun z => br_f (by decide) (br_t rfl (br_t ed (nm_r (nI_1 i) nx)))
        exact br_c (fun _ => e81 1) (fun _ => e81 0)
  have sub : rn_nd fp f t l &&& (fp ^^^ (-1)) = 0 := by
    refine b_ext (fun i hi => ?_)
    rw [b_and, b_xor, b_m1 i hi, b_0]
    by_cases c : i < 28
    · cases h : bt (rn_nd fp f t l) i
      · rfl
      · have := ((rn_ndb fp f t l c).mp h).1
        rw [bq_h hi] at this
        rw [this]
        rfl
    · have : bt (rn_nd fp f t l) i = false := by
        unfold rn_nd
        rw [rn_set_bt _ 28 (by omega) i hi, decide_eq_false c]
        rfl
      rw [this]
      rfl
  unfold wpL_detours
  refine wk_needless hN (fun bh b4 b5 b6 b7 b8 b9 b10 b11 b12 b13 b14 b15 b16 b17 b18 b19 b20 b21 b22 => br_t sub (wk_sound hN (fun ch c4 c5 c6 c7 c8 c9 c10 c11 c12 c13 c14 c15 c16 c17 c18 c19 c20 c21 c22 => br_f (by decide) ⟨29, key1 28 0 (by omega) _ _ _ _ _ _ _ _ _ _ _ _ _ _ _ _ _ _ _ _⟩)))
end
section
/-! the law -/
theorem rn_lnE {P Q : Int32} {f t l f' t' l' : Nat → Nat} (h : ∀ s v, s < 12 → v < 12 → rn_D Q f' t' l' s v = rn_D P f t l s v) : ∀ c, c ≤ 144 → rn_ln Q f' t' l' c = rn_ln P f t l c := by
  intro c
  induction c with
  | zero =>
    intro _
    show (nI (rn_wd Q f' t' l')).toInt64 = (nI (rn_wd P f t l)).toInt64
    unfold rn_wd
    rw [rn_mx_congr 144 (fun j hj => h (j / 12) (j % 12) (by omega) (by omega))]
  | succ c ih =>
    intro hc
    show rn_ln Q f' t' l' c * 401 + (rn_a (rn_D Q f' t' l' (c / 12) (c % 12))).toInt64 = rn_ln P f t l c * 401 + (rn_a (rn_D P f t l (c / 12) (c % 12))).toInt64
    rw [ih (by omega), h _ _ (by omega) (by omega)]
theorem rs_md (x : Int32) (m : Int32) (k d : Nat) (hm : m.toBitVec.toNat = 2 ^ k - 1) (hk : k ≤ 30) (hd : 0 < d) (hd2 : d < 2 ^ 31) : ∃ n, n < d ∧ (x &&& m) - (x &&& m) / nI d * nI d = nI n := by
  obtain ⟨j, hj, e⟩ := pk_andE x k hm
  have : 2 ^ k ≤ 2 ^ 30 := Nat.pow_le_pow_right (by omega) hk
  exact ⟨j % d, Nat.mod_lt j hd, by rw [e]; exact pk_rem (by omega) hd hd2⟩
theorem wk_law125 {post : Int32 → Prop} {L : Nat} {xs : Nat → Int32} {J : Int32 → Int32 → Int32 → (Nat → Int32) → (Nat → Int32) → (Nat → Int32) → (Nat → Int32) → (Nat → Int32) → (Nat → Int32) → (Nat → Int32) → (Nat → Int32) → (Nat → Int32) → (Nat → Int32) → (Nat → Int32) → (Nat → Int32) → (Nat → Int32) → (Nat → Int32) → (Nat → Int32) → (Nat → Int32) → (Nat → Int32) → (Nat → Int32) → (Nat → Int32) → (Nat → Int32) → (Nat → Int32) → (Nat → Int32) → Prop} {fp fh : Int32} {a1 a2 a3 a4 a5 a6 a7 a8 a9 a10 a11 a12 a13 a14 a15 a16 a17 a18 a19 a20 a21 a22 : Nat → Int32} {f t l : Nat → Nat} (hN : rn_ok fp a1 a2 a3 f t l) {x2 x3 : Int32} {e kc ks : Nat} (he : e < 7) (H : ∀ bh b1 b2 b3 b4 b5 b6 b7 b8 b9 b10 b11 b12 b13 b14 b15 b16 b17 b18 b19 b20 b21 b22, rn_ok fp b1 b2 b3 f t l → J (x2 + 4) fp bh b1 b2 b3 b4 b5 b6 b7 b8 b9 b10 b11 b12 b13 b14 b15 b16 b17 b18 b19 b20 b21 b22) : wL_law_125 post L xs J x2 x3 (nI e) kc ks fp fh a1 a2 a3 a4 a5 a6 a7 a8 a9 a10 a11 a12 a13 a14 a15 a16 a17 a18 a19 a20 a21 a22 := by
  obtain ⟨a, ha, ea⟩ := rs_md (x3 >>> ((8 : Int32) &&& 31)) 15 4 12 (by decide) (by omega) (by omega) (by omega)
  obtain ⟨c, hc, ec⟩ := rs_md (x3 >>> ((12 : Int32) &&& 31)) 15 4 11 (by decide) (by omega) (by omega) (by omega)
  obtain ⟨g, hg, eg⟩ := rs_md (x3 >>> ((4 : Int32) &&& 31)) 31 5 30 (by decide) (by omega) (by omega) (by omega)
  have eb : nI a + 1 + nI c - (nI a + 1 + nI c) / 12 * 12 = nI ((a + 1 + c) % 12) := by
    rw [nI_1, nI_add]
    exact ra_md (by omega)
  have hb : (a + 1 + c) % 12 < 12 := by omega
  have hab : a ≠ (a + 1 + c) % 12 := by omega
  have eg' : (1 : Int32) + ((x3 >>> ((4 : Int32) &&& 31) &&& 31) - (x3 >>> ((4 : Int32) &&& 31) &&& 31) / 30 * 30) = nI (1 + g) := by
    rw [show (x3 >>> ((4 : Int32) &&& 31) &&& 31) - (x3 >>> ((4 : Int32) &&& 31) &&& 31) / 30 * 30 = nI g from eg, show (1 : Int32) = nI 1 from rfl, nI_add]
  refine ⟨by decide, nm_r ea ⟨by decide, by decide, nm_r (e' := nI ((a + 1 + c) % 12)) (by rw [show (x3 >>> ((12 : Int32) &&& 31) &&& 15) - (x3 >>> ((12 : Int32) &&& 31) &&& 15) / 11 * 11 = nI c from ec]; exact eb) ?_⟩⟩
  refine wk_routes hN he ha (fun bh b4 b5 b6 b7 b8 b9 b10 b11 b12 b13 b14 b15 b16 b17 b18 b19 b20 b21 b22 => br_f (by decide) (wk_detours hN (fun ch c4 c5 c6 c7 c8 c9 c10 c11 c12 c13 c14 c15 c16 c17 c18 c19 c20 c21 c22 => br_f (by decide) ⟨by decide, ?_⟩)))
  rw [eg']
  exact wk_comesAndGoes hN ha hb hab (by omega) (by omega) he (fun dh d4 d5 d6 d7 d8 d9 d10 d11 d12 d13 d14 d15 d16 d17 d18 d19 d20 d21 d22 d1 d2 d3 hN2 => br_f (by decide) (nm_e (H _ _ _ _ _ _ _ _ _ _ _ _ _ _ _ _ _ _ _ _ _ _ _ hN2)))
theorem wk_law10 {post : Int32 → Prop} {L : Nat} (hL : L ≤ 260) {xs : Nat → Int32} {kc ks : Nat} (H : post 1) : ∀ m j, L ≤ j + m → j ≤ 300 → ∀ fp fh a1 a2 a3 a4 a5 a6 a7 a8 a9 a10 a11 a12 a13 a14 a15 a16 a17 a18 a19 a20 a21 a22 f t l, rn_ok fp a1 a2 a3 f t l → wL_law_10 post L xs kc ks (m + 1) (nI j) fp fh a1 a2 a3 a4 a5 a6 a7 a8 a9 a10 a11 a12 a13 a14 a15 a16 a17 a18 a19 a20 a21 a22 := by
  intro m
  induction m with
  | zero =>
    intro j hj hj2 fp fh a1 a2 a3 a4 a5 a6 a7 a8 a9 a10 a11 a12 a13 a14 a15 a16 a17 a18 a19 a20 a21 a22 f t l hN
    exact pk_le L (j + 3) (fun _ => H) (fun z => absurd z (by omega)) rfl (by rw [show (3 : Int32) = nI 3 from rfl, nI_add])
  | succ m ih =>
    intro j hj hj2 fp fh a1 a2 a3 a4 a5 a6 a7 a8 a9 a10 a11 a12 a13 a14 a15 a16 a17 a18 a19 a20 a21 a22 f t l hN
    refine pk_le L (j + 3) (fun _ => H) (fun z => ⟨pk_in j L (by omega), nm_e ⟨by decide, ?_⟩⟩) rfl (by rw [show (3 : Int32) = nI 3 from rfl, nI_add])
    generalize xs (nI j).toNatClampNeg >>> ((6 : Int32) &&& 31) = x3
    obtain ⟨e, he, ee⟩ := rs_md x3 255 8 7 (by decide) (by omega) (by omega) (by omega)
    obtain ⟨i, hi, ei⟩ := rs_md (x3 >>> ((3 : Int32) &&& 31)) 31 5 28 (by decide) (by omega) (by omega) (by omega)
    refine nm_r ee ⟨by decide, nm_r ei ?_⟩
    have go : ∀ fp fh a1 a2 a3 a4 a5 a6 a7 a8 a9 a10 a11 a12 a13 a14 a15 a16 a17 a18 a19 a20 a21 a22 f t l, rn_ok fp a1 a2 a3 f t l → wL_law_125 post L xs (wL_law_10 post L xs kc ks (m + 1)) (nI j) x3 (nI e) kc ks fp fh a1 a2 a3 a4 a5 a6 a7 a8 a9 a10 a11 a12 a13 a14 a15 a16 a17 a18 a19 a20 a21 a22 := by
      intro fp fh a1 a2 a3 a4 a5 a6 a7 a8 a9 a10 a11 a12 a13 a14 a15 a16 a17 a18 a19 a20 a21 a22 f t l hN
      refine wk_law125 hN he (fun bh b1 b2 b3 b4 b5 b6 b7 b8 b9 b10 b11 b12 b13 b14 b15 b16 b17 b18 b19 b20 b21 b22 hN2 => ?_)
      rw [show nI j + 4 = nI (j + 4) by rw [show (4 : Int32) = nI 4 from rfl, nI_add]]
      exact ih (j + 4) (by omega) (by omega) _ _ _ _ _ _ _ _ _ _ _ _ _ _ _ _ _ _ _ _ _ _ _ _ _ _ _ hN2
    refine wk_needless hN (fun bh b4 b5 b6 b7 b8 b9 b10 b11 b12 b13 b14 b15 b16 b17 b18 b19 b20 b21 b22 => ek_if (bq_is1 (show i < 32 by omega)) (fun y => br_f (by decide) ?_) (fun _ => br_t rfl ⟨pk_in j L (by omega), pk_in (j + 1) L (by omega) (nI_1 j), pk_in (j + 2) L (by omega) (by rw [show (2 : Int32) = nI 2 from rfl, nI_add]), pk_in (j + 3) L (by omega) (by rw [show (3 : Int32) = nI 3 from rfl, nI_add]), ?_⟩))
    · obtain ⟨hh, nd⟩ := (rn_ndb fp f t l hi).mp y
      have eqD : ∀ s v, s < 12 → v < 12 → rn_D (rn_clr fp i) (rn_z i f) (rn_z i t) (rn_z i l) s v = rn_D fp f t l s v := fun s v hs hv => rn_remE hN hi nd hs _ v hv (Nat.le_refl _)
      refine wk_lengths hN he (fun ch c4 c5 c6 c7 c8 c9 c10 c11 c12 c13 c14 c15 c16 c17 c18 c19 c20 c21 c22 => wk_remove hN hi hh (wk_lengths (rn_rem hN hi) he (fun dh d4 d5 d6 d7 d8 d9 d10 d11 d12 d13 d14 d15 d16 d17 d18 d19 d20 d21 d22 => br_t ?_ ?_)))
      · exact rn_lnE eqD 144 (Nat.le_refl _)
      · exact go _ _ _ _ _ _ _ _ _ _ _ _ _ _ _ _ _ _ _ _ _ _ _ _ _ _ _ (rn_rem hN hi)
    · exact wk_turn hN (fun P b1 b2 b3 f' t' l' hN2 => go _ _ _ _ _ _ _ _ _ _ _ _ _ _ _ _ _ _ _ _ _ _ _ _ _ _ _ hN2)
theorem rn_init : rn_ok 0 (fun _ => 0) (fun _ => 0) (fun _ => 0) (fun _ => 0) (fun _ => 0) (fun _ => 0) := by
  refine ⟨fun k hk => ⟨⟨0, by omega, rfl⟩, ⟨0, by omega, rfl⟩⟩, fun k hk hh => ?_, fun k _ => ⟨rfl, rfl, rfl⟩⟩
  rw [bq_h (by omega), b_0] at hh
  exact absurd hh (by decide)
theorem i_vc (xs : Nat → Int32) (L : Nat) (hL : L ≤ 260) : wpL_law (fun r => r = 1) L xs := by
  have key : wL_law_10 (fun r => r = 1) L xs (1 + 22) (24 + 1295) (L + 1) (nI 0) 0 0 (fun _ => 0) (fun _ => 0) (fun _ => 0) (fun _ => 0) (fun _ => 0) (fun _ => 0) (fun _ => 0) (fun _ => 0) (fun _ => 0) (fun _ => 0) (fun _ => 0) (fun _ => 0) (fun _ => 0) (fun _ => 0) (fun _ => 0) (fun _ => 0) (fun _ => 0) (fun _ => 0) (fun _ => 0) (fun _ => 0) (fun _ => 0) (fun _ => 0) := wk_law10 (post := fun r => r = 1) hL rfl L 0 (by omega) (by omega) 0 0 (fun _ => 0) (fun _ => 0) (fun _ => 0) (fun _ => 0) (fun _ => 0) (fun _ => 0) (fun _ => 0) (fun _ => 0) (fun _ => 0) (fun _ => 0) (fun _ => 0) (fun _ => 0) (fun _ => 0) (fun _ => 0) (fun _ => 0) (fun _ => 0) (fun _ => 0) (fun _ => 0) (fun _ => 0) (fun _ => 0) (fun _ => 0) (fun _ => 0) (fun _ => 0) (fun _ => 0) (fun _ => 0) rn_init
  refine ⟨22, 1295, by omega, by omega, ?_⟩
  exact ⟨by omega, by omega, by omega, by omega, by omega, by omega, by omega, by omega, by omega, by omega, by omega, by omega, by omega, by omega, by omega, by omega, by omega, by omega, by omega, by omega, by omega, by omega, by omega, by omega, by omega, by omega, by omega, by omega, by omega, by omega, by omega, by omega, by omega, by omega, by omega, by omega, by omega, by omega, by omega, by omega, by omega, by omega, by omega, by omega, L + 1, key⟩
end
