section
/-! sums over naturals below a bound; what a cut has left; one push; the measure -/
def gf_sm (f : Nat → Nat) : Nat → Nat
  | 0 => 0
  | n + 1 => gf_sm f n + f n
theorem gf_smS (f : Nat → Nat) (n : Nat) : gf_sm f (n + 1) = gf_sm f n + f n := rfl
theorem gf_smC {f g : Nat → Nat} {n : Nat} (h : ∀ i, i < n → f i = g i) : gf_sm f n = gf_sm g n := by
  induction n with
  | zero => rfl
  | succ n ih => rw [gf_smS, gf_smS, ih (fun i hi => h i (by omega)), h n (by omega)]
theorem gf_smLe {f g : Nat → Nat} {n : Nat} (h : ∀ i, i < n → f i ≤ g i) : gf_sm f n ≤ gf_sm g n := by
  induction n with
  | zero => exact Nat.le_refl 0
  | succ n ih =>
    rw [gf_smS, gf_smS]
    have h1 := ih (fun i hi => h i (by omega))
    have h2 := h n (by omega)
    omega
theorem gf_smAdd (f g : Nat → Nat) (n : Nat) : gf_sm (fun i => f i + g i) n = gf_sm f n + gf_sm g n := by
  induction n with
  | zero => rfl
  | succ n ih =>
    rw [gf_smS, gf_smS, gf_smS, ih]
    omega
theorem gf_sm0 {f : Nat → Nat} {n : Nat} (h : ∀ i, i < n → f i = 0) : gf_sm f n = 0 := by
  induction n with
  | zero => rfl
  | succ n ih => rw [gf_smS, ih (fun i hi => h i (by omega)), h n (by omega)]
theorem gf_smZ {f : Nat → Nat} {n : Nat} (h : gf_sm f n = 0) : ∀ i, i < n → f i = 0 := by
  induction n with
  | zero => intro i hi; omega
  | succ n ih =>
    rw [gf_smS] at h
    intro i hi
    by_cases e : i = n
    · rw [e]; omega
    · exact ih (by omega) i (by omega)
theorem gf_smU {f g : Nat → Nat} {n a : Nat} (ha : a < n) (h : ∀ i, i < n → i ≠ a → f i = g i) : gf_sm f n + g a = gf_sm g n + f a := by
  induction n with
  | zero => omega
  | succ n ih =>
    rw [gf_smS, gf_smS]
    by_cases e : a = n
    · rw [gf_smC (fun i hi => h i (by omega) (by omega)), e]
      omega
    · have h1 := ih (by omega) (fun i hi hn => h i (by omega) hn)
      have h2 := h n (by omega) (by omega)
      omega
theorem gf_smB {f : Nat → Nat} {n b : Nat} (h : ∀ i, i < n → f i ≤ b) : gf_sm f n ≤ n * b := by
  induction n with
  | zero => exact Nat.zero_le _
  | succ n ih =>
    rw [gf_smS, Nat.succ_mul]
    have h1 := ih (fun i hi => h i (by omega))
    have h2 := h n (by omega)
    omega
theorem gf_smOne {f : Nat → Nat} {n a : Nat} (ha : a < n) : f a ≤ gf_sm f n := by
  induction n with
  | zero => omega
  | succ n ih =>
    rw [gf_smS]
    by_cases e : a = n
    · rw [e]; omega
    · have := ih (by omega); omega
theorem gf_smLt {f : Nat → Nat} {n a : Nat} (h : ∀ i, i < n → f i ≤ 1) (ha : a < n) (h0 : f a = 0) : gf_sm f n + 1 ≤ n := by
  induction n with
  | zero => omega
  | succ n ih =>
    rw [gf_smS]
    by_cases e : a = n
    · subst e
      rw [h0]
      have := gf_smB (f := f) (n := a) (b := 1) (fun i hi => h i (by omega))
      omega
    · have h1 := ih (fun i hi => h i (by omega)) (by omega)
      have h2 := h n (by omega)
      omega
/-- a square sum as a sum over pairs and the diagonal -/
theorem gf_sq (f : Nat → Nat → Nat) (n : Nat) : gf_sm (fun u => gf_sm (f u) n) n = gf_sm (fun v => gf_sm (fun u => f u v + f v u) v) n + gf_sm (fun u => f u u) n := by
  induction n with
  | zero => rfl
  | succ n ih =>
    have e1 : gf_sm (fun u => gf_sm (f u) (n + 1)) n = gf_sm (fun u => gf_sm (f u) n) n + gf_sm (fun u => f u n) n := by
      rw [← gf_smAdd]
      exact gf_smC (fun i _ => rfl)
    have e2 : gf_sm (fun u => f u n + f n u) n = gf_sm (fun u => f u n) n + gf_sm (f n) n := gf_smAdd (fun u => f u n) (f n) n
    rw [gf_smS, gf_smS, gf_smS, e1, ih, e2, gf_smS (fun u => f u u)]
    omega
/-- what of an edge a cut S counts -/
def gf_ed (L : Nat → Nat → Nat) (S : Nat → Bool) (u v : Nat) : Nat := cond (S u && !S v) (L u v) 0
/-- what is left over the cut S -/
def gf_rs (L : Nat → Nat → Nat) (S : Nat → Bool) : Nat := gf_sm (fun u => gf_sm (gf_ed L S u) 9) 9
def gf_p2 (L : Nat → Nat → Nat) (a b x : Nat) : Nat → Nat → Nat := fun u v => if u = a ∧ v = b then x else L u v
theorem gf_p2s {L : Nat → Nat → Nat} {a b x : Nat} : gf_p2 L a b x a b = x := if_pos ⟨rfl, rfl⟩
theorem gf_p2n {L : Nat → Nat → Nat} {a b x u v : Nat} (h : ¬ (u = a ∧ v = b)) : gf_p2 L a b x u v = L u v := if_neg h
theorem gf_rsC {L M : Nat → Nat → Nat} {S T : Nat → Bool} (h : ∀ u v, u < 9 → v < 9 → L u v = M u v) (hS : ∀ u, u < 9 → S u = T u) : gf_rs L S = gf_rs M T := by
  refine gf_smC (fun u hu => gf_smC (fun v hv => ?_))
  unfold gf_ed
  rw [h u v hu hv, hS u hu, hS v hv]
theorem gf_rsU {L : Nat → Nat → Nat} {S : Nat → Bool} {a b x : Nat} (ha : a < 9) (hb : b < 9) : gf_rs (gf_p2 L a b x) S + gf_ed L S a b = gf_rs L S + cond (S a && !S b) x 0 := by
  have h1 : gf_rs (gf_p2 L a b x) S + gf_sm (gf_ed L S a) 9 = gf_rs L S + gf_sm (gf_ed (gf_p2 L a b x) S a) 9 := by
    refine gf_smU (f := fun u => gf_sm (gf_ed (gf_p2 L a b x) S u) 9) (g := fun u => gf_sm (gf_ed L S u) 9) ha (fun u _ hn => gf_smC (fun v _ => ?_))
    unfold gf_ed
    rw [gf_p2n (fun h => hn h.1)]
  have h2 : gf_sm (gf_ed (gf_p2 L a b x) S a) 9 + gf_ed L S a b = gf_sm (gf_ed L S a) 9 + gf_ed (gf_p2 L a b x) S a b := by
    refine gf_smU hb (fun v _ hn => ?_)
    unfold gf_ed
    rw [gf_p2n (fun h => hn h.2)]
  have h3 : gf_ed (gf_p2 L a b x) S a b = cond (S a && !S b) x 0 := by
    unfold gf_ed
    rw [gf_p2s]
  omega
/-- one step of a push: m fewer from c to v, m more from v to c -/
def gf_st (L : Nat → Nat → Nat) (c v m : Nat) : Nat → Nat → Nat := gf_p2 (gf_p2 L c v (L c v - m)) v c (L v c + m)
theorem gf_rsSt {L : Nat → Nat → Nat} {S : Nat → Bool} {c v m : Nat} (hc : c < 9) (hv : v < 9) (hn : c ≠ v) (hm : m ≤ L c v) : gf_rs (gf_st L c v m) S + cond (S c) m 0 = gf_rs L S + cond (S v) m 0 := by
  have h1 := gf_rsU (L := L) (S := S) (x := L c v - m) hc hv
  have h2 := gf_rsU (L := gf_p2 L c v (L c v - m)) (S := S) (x := L v c + m) hv hc
  have e : gf_ed (gf_p2 L c v (L c v - m)) S v c = gf_ed L S v c := by
    unfold gf_ed
    rw [gf_p2n (fun h => hn h.2)]
  rw [e] at h2
  unfold gf_ed at h1 h2
  unfold gf_st
  revert h1 h2
  cases S c <;> cases S v <;> simp only [Bool.not_true, Bool.not_false, Bool.and_true, Bool.and_false, Bool.true_and, Bool.false_and, cond_true, cond_false] <;> intro h1 h2 <;> omega
/-- a way from 8 back to 7 along what is left -/
def gf_pt (L : Nat → Nat → Nat) (ch : Nat → Nat) (N : Nat) : Prop := ch 0 = 8 ∧ ch N = 7 ∧ (∀ i, i ≤ N → ch i < 9) ∧ (∀ i j, i < j → j ≤ N → ch i ≠ ch j) ∧ (∀ i, i < N → 0 < L (ch (i + 1)) (ch i))
def gf_ps (L : Nat → Nat → Nat) (ch : Nat → Nat) (m : Nat) : Nat → (Nat → Nat → Nat)
  | 0 => L
  | i + 1 => gf_st (gf_ps L ch m i) (ch (i + 1)) (ch i) m
theorem gf_psS (L : Nat → Nat → Nat) (ch : Nat → Nat) (m i : Nat) : gf_ps L ch m (i + 1) = gf_st (gf_ps L ch m i) (ch (i + 1)) (ch i) m := rfl
theorem gf_stn {L : Nat → Nat → Nat} {c v m a b : Nat} (h1 : ¬ (a = c ∧ b = v)) (h2 : ¬ (a = v ∧ b = c)) : gf_st L c v m a b = L a b := by
  unfold gf_st
  rw [gf_p2n h2, gf_p2n h1]
theorem gf_st1 {L : Nat → Nat → Nat} {c v m : Nat} (hn : c ≠ v) : gf_st L c v m c v = L c v - m := by
  unfold gf_st
  rw [gf_p2n (fun h => hn h.1), gf_p2s]
theorem gf_st2 {L : Nat → Nat → Nat} {c v m : Nat} : gf_st L c v m v c = L v c + m := by
  unfold gf_st
  rw [gf_p2s]
theorem gf_psA {L : Nat → Nat → Nat} {ch : Nat → Nat} {m : Nat} : ∀ (i a b : Nat), (∀ j, j < i → a ≠ ch j) → (∀ j, j < i → b ≠ ch j) → gf_ps L ch m i a b = L a b := by
  intro i
  induction i with
  | zero => intro a b _ _; rfl
  | succ i ih =>
    intro a b ha hb
    rw [gf_psS, gf_stn (fun h => hb i (by omega) h.2) (fun h => ha i (by omega) h.1)]
    exact ih a b (fun j hj => ha j (by omega)) (fun j hj => hb j (by omega))
section
variable {L : Nat → Nat → Nat} {ch : Nat → Nat} {N m : Nat}
theorem gf_psB (hp : gf_pt L ch N) {i : Nat} (hi : i < N) : gf_ps L ch m i (ch (i + 1)) (ch i) = L (ch (i + 1)) (ch i) ∧ gf_ps L ch m i (ch i) (ch (i + 1)) = L (ch i) (ch (i + 1)) := by
  obtain ⟨_, _, _, hd, _⟩ := hp
  have h1 : ∀ j, j < i → ch (i + 1) ≠ ch j := fun j hj e => hd j (i + 1) (by omega) (by omega) e.symm
  have h2 : ∀ j, j < i → ch i ≠ ch j := fun j hj e => hd j i hj (by omega) e.symm
  exact ⟨gf_psA i _ _ h1 h2, gf_psA i _ _ h2 h1⟩
theorem gf_psR (hp : gf_pt L ch N) (hm : ∀ i, i < N → m ≤ L (ch (i + 1)) (ch i)) {S : Nat → Bool} : ∀ i, i ≤ N → gf_rs (gf_ps L ch m i) S + cond (S (ch i)) m 0 = gf_rs L S + cond (S (ch 0)) m 0 := by
  intro i
  induction i with
  | zero => intro _; rfl
  | succ i ih =>
    intro hi
    have h1 := ih (by omega)
    have h2 := gf_psB (m := m) hp (i := i) (by omega)
    have h3 := gf_rsSt (L := gf_ps L ch m i) (S := S) (c := ch (i + 1)) (v := ch i) (m := m) (hp.2.2.1 _ hi) (hp.2.2.1 _ (by omega)) (fun e => hp.2.2.2.1 i (i + 1) (by omega) hi e.symm) (by rw [h2.1]; exact hm i (by omega))
    rw [gf_psS]
    omega
theorem gf_psRN (hp : gf_pt L ch N) (hm : ∀ i, i < N → m ≤ L (ch (i + 1)) (ch i)) {S : Nat → Bool} (h7 : S 7 = true) (h8 : S 8 = false) : gf_rs (gf_ps L ch m N) S + m = gf_rs L S := by
  have h := gf_psR hp hm (S := S) N (Nat.le_refl N)
  rw [hp.1, hp.2.1, h7, h8] at h
  exact h
theorem gf_psP (hp : gf_pt L ch N) (hm : ∀ i, i < N → m ≤ L (ch (i + 1)) (ch i)) : ∀ i, i ≤ N → ∀ a b, a ≠ b → gf_ps L ch m i a b + gf_ps L ch m i b a = L a b + L b a := by
  intro i
  induction i with
  | zero => intro _ a b _; rfl
  | succ i ih =>
    intro hi a b hab
    have h1 := ih (by omega) a b hab
    have h2 := gf_psB (m := m) hp (i := i) (by omega)
    have h3 : ch (i + 1) ≠ ch i := fun e => hp.2.2.2.1 i (i + 1) (by omega) hi e.symm
    have h4 := hm i (by omega)
    rw [gf_psS]
    by_cases e1 : a = ch (i + 1) ∧ b = ch i
    · rw [e1.1, e1.2, gf_st1 h3, gf_st2]
      rw [e1.1, e1.2] at h1
      omega
    · by_cases e2 : b = ch (i + 1) ∧ a = ch i
      · rw [e2.1, e2.2, gf_st1 h3, gf_st2]
        rw [e2.1, e2.2] at h1
        omega
      · rw [gf_stn e1 (fun h => e2 ⟨h.2, h.1⟩), gf_stn (fun h => e2 ⟨h.1, h.2⟩) (fun h => e1 ⟨h.2, h.1⟩)]
        exact h1
theorem gf_psE (hp : gf_pt L ch N) : ∀ i, i ≤ N → ∀ w, gf_ps L ch m i 7 w ≤ L 7 w ∧ gf_ps L ch m i w 8 ≤ L w 8 := by
  intro i
  induction i with
  | zero => intro _ w; exact ⟨Nat.le_refl _, Nat.le_refl _⟩
  | succ i ih =>
    intro hi w
    have h1 := ih (by omega) w
    have h3 : ch (i + 1) ≠ ch i := fun e => hp.2.2.2.1 i (i + 1) (by omega) hi e.symm
    have h7 : ch i ≠ 7 := fun e => hp.2.2.2.1 i N (by omega) (Nat.le_refl N) (by rw [e, hp.2.1])
    have h8 : ch (i + 1) ≠ 8 := fun e => hp.2.2.2.1 0 (i + 1) (by omega) hi (by rw [e, hp.1])
    rw [gf_psS]
    constructor
    · by_cases e : 7 = ch (i + 1) ∧ w = ch i
      · rw [e.1, e.2, gf_st1 h3, ← e.1, ← e.2]
        omega
      · rw [gf_stn e (fun h => h7 h.1.symm)]
        exact h1.1
    · by_cases e : w = ch (i + 1) ∧ 8 = ch i
      · rw [e.1, e.2, gf_st1 h3, ← e.1, ← e.2]
        omega
      · rw [gf_stn e (fun h => h8 h.2.symm)]
        exact h1.2
end
end
section
/-! the measure of grow; cuts as masks; costs -/
theorem gf_rsX {L : Nat → Nat → Nat} {S : Nat → Bool} (h7 : S 7 = true) (h8 : S 8 = false) : gf_rs L S = gf_sm (fun u => gf_sm (gf_ed L S u) 7) 7 + gf_sm (fun w => cond (S w) (L w 8) 0 + cond (S w) 0 (L 7 w)) 7 + L 7 8 := by
  have a1 : gf_rs L S = gf_sm (fun u => gf_sm (gf_ed L S u) 9) 7 + gf_sm (gf_ed L S 7) 9 + gf_sm (gf_ed L S 8) 9 := rfl
  have a2 : gf_sm (fun u => gf_sm (gf_ed L S u) 9) 7 = gf_sm (fun u => gf_sm (gf_ed L S u) 7) 7 + gf_sm (fun w => cond (S w) (L w 8) 0) 7 := by
    rw [← gf_smAdd]
    refine gf_smC (fun u _ => ?_)
    have e7 : gf_ed L S u 7 = 0 := by
      unfold gf_ed
      rw [h7]
      cases S u <;> rfl
    have e8 : gf_ed L S u 8 = cond (S u) (L u 8) 0 := by
      unfold gf_ed
      rw [h8]
      cases S u <;> rfl
    show gf_sm (gf_ed L S u) 7 + gf_ed L S u 7 + gf_ed L S u 8 = _
    rw [e7, e8]
    rfl
  have a3 : gf_sm (gf_ed L S 7) 9 = gf_sm (fun w => cond (S w) 0 (L 7 w)) 7 + L 7 8 := by
    have e : gf_sm (gf_ed L S 7) 7 = gf_sm (fun w => cond (S w) 0 (L 7 w)) 7 := by
      refine gf_smC (fun w _ => ?_)
      unfold gf_ed
      rw [h7]
      cases S w <;> rfl
    have e7 : gf_ed L S 7 7 = 0 := by
      unfold gf_ed
      rw [h7]
      rfl
    have e8 : gf_ed L S 7 8 = L 7 8 := by
      unfold gf_ed
      rw [h7, h8]
      rfl
    show gf_sm (gf_ed L S 7) 7 + gf_ed L S 7 7 + gf_ed L S 7 8 = _
    rw [e, e7, e8]
    rfl
  have a4 : gf_sm (gf_ed L S 8) 9 = 0 := by
    refine gf_sm0 (fun w _ => ?_)
    unfold gf_ed
    rw [h8]
    rfl
  rw [a1, a2, a3, a4, gf_smAdd]
  omega
def gf_t (L : Nat → Nat → Nat) (w : Nat) : Nat := min (L 7 w) (L w 8)
def gf_D (L : Nat → Nat → Nat) : Nat := gf_sm (gf_t L) 7
def gf_K (L : Nat → Nat → Nat) : Nat := gf_sm (fun w => min 1 (gf_t L w)) 7
theorem gf_Dle {L : Nat → Nat → Nat} {S : Nat → Bool} (h7 : S 7 = true) (h8 : S 8 = false) : gf_D L ≤ gf_rs L S := by
  rw [gf_rsX h7 h8]
  have h : gf_D L ≤ gf_sm (fun w => cond (S w) (L w 8) 0 + cond (S w) 0 (L 7 w)) 7 := by
    refine gf_smLe (fun w _ => ?_)
    show min (L 7 w) (L w 8) ≤ cond (S w) (L w 8) 0 + cond (S w) 0 (L 7 w)
    cases S w <;> simp only [cond_true, cond_false] <;> omega
  omega
def gf_sS (L : Nat → Nat → Nat) : Nat → Bool := fun w => w == 7 || (decide (w < 7) && decide (L w 8 < L 7 w))
theorem gf_sS7 (L : Nat → Nat → Nat) : gf_sS L 7 = true := rfl
theorem gf_sS8 (L : Nat → Nat → Nat) : gf_sS L 8 = false := rfl
theorem gf_sSw {L : Nat → Nat → Nat} {w : Nat} (h : w < 7) : gf_sS L w = decide (L w 8 < L 7 w) := by
  unfold gf_sS
  rw [decide_eq_true h, beq_false_of_ne (by omega)]
  rfl
theorem gf_ini {L : Nat → Nat → Nat} (hC : ∀ u v, u < 7 → v < 7 → L u v ≤ 20) (h78 : L 7 8 = 0) : gf_rs L (gf_sS L) ≤ gf_D L + 980 := by
  rw [gf_rsX (gf_sS7 L) (gf_sS8 L), h78]
  have h1 : gf_sm (fun u => gf_sm (gf_ed L (gf_sS L) u) 7) 7 ≤ 7 * 140 := by
    refine gf_smB (fun u hu => ?_)
    refine Nat.le_trans (gf_smB (b := 20) (fun v hv => ?_)) (Nat.le_refl _)
    unfold gf_ed
    have := hC u v hu hv
    cases (gf_sS L u && !gf_sS L v) <;> simp only [cond_true, cond_false] <;> omega
  have h2 : gf_sm (fun w => cond (gf_sS L w) (L w 8) 0 + cond (gf_sS L w) 0 (L 7 w)) 7 = gf_D L := by
    refine gf_smC (fun w hw => ?_)
    show _ = min (L 7 w) (L w 8)
    rw [gf_sSw hw]
    by_cases e : L w 8 < L 7 w
    · rw [decide_eq_true e]
      simp only [cond_true]
      omega
    · rw [decide_eq_false e]
      simp only [cond_false]
      omega
  omega
def gf_mu (L : Nat → Nat → Nat) (S : Nat → Bool) : Nat := gf_K L + (gf_rs L S - gf_D L)
theorem gf_muI {L : Nat → Nat → Nat} (hC : ∀ u v, u < 7 → v < 7 → L u v ≤ 20) (h78 : L 7 8 = 0) : gf_mu L (gf_sS L) ≤ 987 := by
  have h1 := gf_ini hC h78
  have h2 : gf_K L ≤ 7 * 1 := gf_smB (fun w _ => Nat.min_le_left _ _)
  unfold gf_mu
  omega
theorem gf_ps2 {L : Nat → Nat → Nat} {ch : Nat → Nat} {m : Nat} (hp : gf_pt L ch 2) : ch 1 < 7 ∧ gf_ps L ch m 2 7 (ch 1) = L 7 (ch 1) - m ∧ gf_ps L ch m 2 (ch 1) 8 = L (ch 1) 8 - m ∧ ∀ w, w < 7 → w ≠ ch 1 → gf_ps L ch m 2 7 w = L 7 w ∧ gf_ps L ch m 2 w 8 = L w 8 := by
  obtain ⟨h0, h2, hb, hd, _⟩ := hp
  have n8 : ch 1 ≠ 8 := fun e => hd 0 1 (by omega) (by omega) (by rw [h0, e])
  have n7 : ch 1 ≠ 7 := fun e => hd 1 2 (by omega) (by omega) (by rw [h2, e])
  have h9 := hb 1 (by omega)
  have E : gf_ps L ch m 2 = gf_st (gf_st L (ch 1) 8 m) 7 (ch 1) m := by
    rw [gf_psS, gf_psS, h0, h2]
    rfl
  rw [E]
  refine ⟨by omega, ?_, ?_, fun w hw hn => ⟨?_, ?_⟩⟩
  · rw [gf_st1 (by omega), gf_stn (by omega) (by omega)]
  · rw [gf_stn (by omega) (by omega), gf_st1 (by omega)]
  · rw [gf_stn (by omega) (by omega), gf_stn (by omega) (by omega)]
  · rw [gf_stn (by omega) (by omega), gf_stn (by omega) (by omega)]
theorem gf_muD {L : Nat → Nat → Nat} {ch : Nat → Nat} {N m : Nat} {S : Nat → Bool} (h7 : S 7 = true) (h8 : S 8 = false) (hp : gf_pt L ch N) (hm : ∀ i, i < N → m ≤ L (ch (i + 1)) (ch i)) (h1 : 1 ≤ m)
    (hs : m = 200000 ∨ ∃ i, i < N ∧ m = L (ch (i + 1)) (ch i)) (hb : ∀ w, w < 9 → L 7 w < 200000) (h2 : (∃ w, w < 9 ∧ 0 < L 7 w ∧ 0 < L w 8) → N = 2) : gf_mu (gf_ps L ch m N) S < gf_mu L S := by
  have hr := gf_psRN hp hm h7 h8
  have hD := gf_Dle (L := L) h7 h8
  have hD' := gf_Dle (L := gf_ps L ch m N) h7 h8
  by_cases hw : ∃ w, w < 9 ∧ 0 < L 7 w ∧ 0 < L w 8
  · have hN := h2 hw
    subst hN
    obtain ⟨hc, e7, e8, eo⟩ := gf_ps2 (m := m) hp
    have m0 : m ≤ L (ch 1) (ch 0) := hm 0 (by omega)
    have m1 : m ≤ L (ch 2) (ch 1) := hm 1 (by omega)
    rw [hp.1] at m0
    rw [hp.2.1] at m1
    have hb1 := hb (ch 1) (by omega)
    have hmin : m = L (ch 1) 8 ∨ m = L 7 (ch 1) := by
      rcases hs with h | ⟨i, hi, h⟩
      · omega
      · have hi' : i = 0 ∨ i = 1 := by omega
        rcases hi' with rfl | rfl
        · rw [hp.1] at h
          exact Or.inl h
        · rw [hp.2.1] at h
          exact Or.inr h
    have t1 : gf_t L (ch 1) = m := by
      show min _ _ = _
      omega
    have t2 : gf_t (gf_ps L ch m 2) (ch 1) = 0 := by
      show min _ _ = _
      rw [e7, e8]
      omega
    have to : ∀ w, w < 7 → w ≠ ch 1 → gf_t (gf_ps L ch m 2) w = gf_t L w := by
      intro w hw hn
      unfold gf_t
      rw [(eo w hw hn).1, (eo w hw hn).2]
    have d : gf_D (gf_ps L ch m 2) + gf_t L (ch 1) = gf_D L + gf_t (gf_ps L ch m 2) (ch 1) := gf_smU hc to
    have k : gf_K (gf_ps L ch m 2) + min 1 (gf_t L (ch 1)) = gf_K L + min 1 (gf_t (gf_ps L ch m 2) (ch 1)) := gf_smU (f := fun w => min 1 (gf_t (gf_ps L ch m 2) w)) (g := fun w => min 1 (gf_t L w)) hc (fun w h1 h2 => by rw [to w h1 h2])
    rw [t1, t2] at d k
    unfold gf_mu
    omega
  · have t0 : ∀ w, w < 7 → gf_t L w = 0 := by
      intro w hw'
      show min _ _ = _
      have : ¬ (0 < L 7 w ∧ 0 < L w 8) := fun h => hw ⟨w, by omega, h⟩
      omega
    have t0' : ∀ w, w < 7 → gf_t (gf_ps L ch m N) w = 0 := by
      intro w hw'
      have h := gf_psE (m := m) hp N (Nat.le_refl N) w
      have h' := t0 w hw'
      unfold gf_t at h' ⊢
      omega
    have d : gf_D L = 0 := gf_sm0 t0
    have d' : gf_D (gf_ps L ch m N) = 0 := gf_sm0 t0'
    have k' : gf_K (gf_ps L ch m N) = 0 := gf_sm0 (fun w hw' => by rw [t0' w hw']; rfl)
    unfold gf_mu
    omega
/-- closed under what is left: nothing left over the cut -/
theorem gf_rs0 {L : Nat → Nat → Nat} {S : Nat → Bool} : gf_rs L S = 0 ↔ ∀ u v, u < 9 → v < 9 → S u = true → 0 < L u v → S v = true := by
  constructor
  · intro h u v hu hv hs hl
    have h1 : gf_ed L S u v = 0 := gf_smZ (gf_smZ h u hu) v hv
    unfold gf_ed at h1
    rw [hs] at h1
    cases e : S v
    · rw [e] at h1
      simp only [Bool.not_false, Bool.and_true, cond_true] at h1
      omega
    · rfl
  · intro h
    refine gf_sm0 (fun u hu => gf_sm0 (fun v hv => ?_))
    unfold gf_ed
    cases e : S u
    · rfl
    · cases e' : S v
      · have : ¬ 0 < L u v := fun hl => by
          have := h u v hu hv e hl
          rw [e'] at this
          exact absurd this (by decide)
        show L u v = 0
        omega
      · rfl
/-- what a cut costs, as the code sums it: C between nodes, p to the source, q to the sink -/
def gf_co (C : Nat → Nat → Nat) (p q : Nat → Nat) (S : Nat → Bool) : Nat := gf_sm (fun v => cond (S v) (q v) (p v) + gf_sm (fun u => cond (S u == S v) 0 (C u v)) v) 7
def gf_L0 (C : Nat → Nat → Nat) (p q : Nat → Nat) : Nat → Nat → Nat := fun u v => if v < 7 then (if u < 7 then C u v else if u = 7 then p v else 0) else if v = 8 ∧ u < 7 then q u else 0
theorem gf_L0i {C : Nat → Nat → Nat} {p q : Nat → Nat} {u v : Nat} (hu : u < 7) (hv : v < 7) : gf_L0 C p q u v = C u v := by
  unfold gf_L0
  rw [if_pos hv, if_pos hu]
theorem gf_L07 {C : Nat → Nat → Nat} {p q : Nat → Nat} {v : Nat} (hv : v < 7) : gf_L0 C p q 7 v = p v := by
  unfold gf_L0
  rw [if_pos hv, if_neg (by omega), if_pos rfl]
theorem gf_L08 {C : Nat → Nat → Nat} {p q : Nat → Nat} {u : Nat} (hu : u < 7) : gf_L0 C p q u 8 = q u := by
  unfold gf_L0
  rw [if_neg (by omega), if_pos ⟨rfl, hu⟩]
theorem gf_L078 {C : Nat → Nat → Nat} {p q : Nat → Nat} : gf_L0 C p q 7 8 = 0 := rfl
theorem gf_rsL0 {C : Nat → Nat → Nat} {p q : Nat → Nat} {S : Nat → Bool} (hC : ∀ u v, u < 7 → v < 7 → C u v = C v u) (h7 : S 7 = true) (h8 : S 8 = false) : gf_rs (gf_L0 C p q) S = gf_co C p q S := by
  rw [gf_rsX h7 h8, gf_L078]
  have h1 : gf_sm (fun u => gf_sm (gf_ed (gf_L0 C p q) S u) 7) 7 = gf_sm (fun v => gf_sm (fun u => cond (S u == S v) 0 (C u v)) v) 7 := by
    rw [gf_sq (gf_ed (gf_L0 C p q) S)]
    have d : gf_sm (fun u => gf_ed (gf_L0 C p q) S u u) 7 = 0 := by
      refine gf_sm0 (fun u _ => ?_)
      unfold gf_ed
      cases S u <;> rfl
    rw [d]
    refine gf_smC (fun v hv => gf_smC (fun u hu => ?_))
    unfold gf_ed
    rw [gf_L0i (by omega) hv, gf_L0i hv (by omega), hC v u hv (by omega)]
    cases S u <;> cases S v <;> simp
  have h2 : gf_sm (fun w => cond (S w) (gf_L0 C p q w 8) 0 + cond (S w) 0 (gf_L0 C p q 7 w)) 7 = gf_sm (fun v => cond (S v) (q v) (p v)) 7 := by
    refine gf_smC (fun w hw => ?_)
    rw [gf_L08 hw, gf_L07 hw]
    cases S w <;> simp
  rw [h1, h2]
  unfold gf_co
  rw [gf_smAdd]
  omega
theorem gf_coC {C C' : Nat → Nat → Nat} {p q p' q' : Nat → Nat} {S T : Nat → Bool} (hC : ∀ u v, u < 7 → v < 7 → C u v = C' u v) (hp : ∀ v, v < 7 → p v = p' v) (hq : ∀ v, v < 7 → q v = q' v) (hS : ∀ v, v < 7 → S v = T v) : gf_co C p q S = gf_co C' p' q' T := by
  refine gf_smC (fun v hv => ?_)
  rw [hp v hv, hq v hv, hS v hv, gf_smC (f := fun u => cond (S u == T v) 0 (C u v)) (g := fun u => cond (T u == T v) 0 (C' u v)) (fun u hu => by rw [hS u (by omega), hC u v (by omega) hv])]
/-- a link changed -/
theorem gf_coL {C : Nat → Nat → Nat} {p q : Nat → Nat} {S : Nat → Bool} {a b k : Nat} (hC : ∀ u v, u < 7 → v < 7 → C u v = C v u) (ha : a < 7) (hb : b < 7) (hn : a ≠ b) (h7 : S 7 = true) (h8 : S 8 = false) :
    gf_co (gf_p2 (gf_p2 C a b k) b a k) p q S + cond (S a == S b) 0 (C a b) = gf_co C p q S + cond (S a == S b) 0 k := by
  have hs : ∀ u v, u < 7 → v < 7 → gf_p2 (gf_p2 C a b k) b a k u v = gf_p2 (gf_p2 C a b k) b a k v u := by
    intro u v hu hv
    by_cases e1 : u = a ∧ v = b
    · rw [e1.1, e1.2, gf_p2s, gf_p2n (by omega), gf_p2s]
    · by_cases e2 : u = b ∧ v = a
      · rw [e2.1, e2.2, gf_p2s, gf_p2n (by omega), gf_p2s]
      · rw [gf_p2n e2, gf_p2n e1, gf_p2n (fun h => e1 ⟨h.2, h.1⟩), gf_p2n (fun h => e2 ⟨h.2, h.1⟩)]
        exact hC u v hu hv
  rw [← gf_rsL0 hs h7 h8, ← gf_rsL0 hC h7 h8]
  have e : gf_rs (gf_L0 (gf_p2 (gf_p2 C a b k) b a k) p q) S = gf_rs (gf_p2 (gf_p2 (gf_L0 C p q) a b k) b a k) S := by
    refine gf_rsC (fun u v hu hv => ?_) (fun _ _ => rfl)
    by_cases e1 : u = a ∧ v = b
    · rw [e1.1, e1.2, gf_L0i ha hb, gf_p2n (by omega), gf_p2s, gf_p2n (by omega), gf_p2s]
    · by_cases e2 : u = b ∧ v = a
      · rw [e2.1, e2.2, gf_L0i hb ha, gf_p2s, gf_p2s]
      · rw [gf_p2n e2, gf_p2n e1]
        unfold gf_L0
        rw [gf_p2n e2, gf_p2n e1]
  rw [e]
  have h1 := gf_rsU (L := gf_p2 (gf_L0 C p q) a b k) (S := S) (a := b) (b := a) (x := k) (by omega) (by omega)
  have h2 := gf_rsU (L := gf_L0 C p q) (S := S) (a := a) (b := b) (x := k) (by omega) (by omega)
  have e3 : gf_ed (gf_p2 (gf_L0 C p q) a b k) S b a = gf_ed (gf_L0 C p q) S b a := by
    unfold gf_ed
    rw [gf_p2n (by omega)]
  rw [e3] at h1
  unfold gf_ed at h1 h2
  rw [gf_L0i hb ha, hC b a hb ha] at h1
  rw [gf_L0i ha hb] at h2
  revert h1 h2
  cases S a <;> cases S b <;> simp <;> omega
/-- pulls grown at two places -/
theorem gf_coH {C : Nat → Nat → Nat} {p q : Nat → Nat} {S : Nat → Bool} {a b h : Nat} (ha : a < 7) (hb : b < 7) :
    gf_co C (fun v => if v = a then p v + h else p v) (fun v => if v = b then q v + h else q v) S = gf_co C p q S + cond (S a) 0 h + cond (S b) h 0 := by
  have h1 : gf_co C (fun v => if v = a then p v + h else p v) (fun v => if v = b then q v + h else q v) S = gf_co C p (fun v => if v = b then q v + h else q v) S + cond (S a) 0 h := by
    have := gf_smU (f := fun v => cond (S v) (if v = b then q v + h else q v) (if v = a then p v + h else p v) + gf_sm (fun u => cond (S u == S v) 0 (C u v)) v) (g := fun v => cond (S v) (if v = b then q v + h else q v) (p v) + gf_sm (fun u => cond (S u == S v) 0 (C u v)) v) ha (fun i _ hi => by rw [if_neg hi])
    rw [if_pos rfl] at this
    unfold gf_co
    revert this
    cases S a <;> simp only [cond_true, cond_false] <;> intro this <;> omega
  have h2 : gf_co C p (fun v => if v = b then q v + h else q v) S = gf_co C p q S + cond (S b) h 0 := by
    have := gf_smU (f := fun v => cond (S v) (if v = b then q v + h else q v) (p v) + gf_sm (fun u => cond (S u == S v) 0 (C u v)) v) (g := fun v => cond (S v) (q v) (p v) + gf_sm (fun u => cond (S u == S v) 0 (C u v)) v) hb (fun i _ hi => by rw [if_neg hi])
    rw [if_pos rfl] at this
    unfold gf_co
    revert this
    cases S b <;> simp only [cond_true, cond_false] <;> intro this <;> omega
  rw [h1, h2]
  omega
theorem gf_coB {C : Nat → Nat → Nat} {p q : Nat → Nat} {S : Nat → Bool} (hC : ∀ u v, u < 7 → v < 7 → C u v ≤ 20) (hp : ∀ v, v < 7 → p v ≤ 140) (hq : ∀ v, v < 7 → q v ≤ 140) : gf_co C p q S ≤ 1960 := by
  refine Nat.le_trans (gf_smB (b := 280) (fun v hv => ?_)) (by omega)
  have h1 : gf_sm (fun u => cond (S u == S v) 0 (C u v)) v ≤ v * 20 := gf_smB (fun u hu => by
    have := hC u v (by omega) hv
    cases (S u == S v) <;> simp only [cond_true, cond_false] <;> omega)
  have h2 := hp v hv
  have h3 := hq v hv
  revert h1
  cases S v <;> intro h1 <;> simp only [cond_true, cond_false] at h1 ⊢ <;> omega
/-- the other side -/
theorem gf_coF {C : Nat → Nat → Nat} {p q : Nat → Nat} {S T : Nat → Bool} (h : ∀ v, v < 7 → T v = !S v) : gf_co C p q T = gf_co C q p S := by
  refine gf_smC (fun v hv => ?_)
  rw [h v hv, gf_smC (f := fun u => cond (T u == !S v) 0 (C u v)) (g := fun u => cond (S u == S v) 0 (C u v)) (fun u hu => by rw [h u (by omega)]; cases S u <;> cases S v <;> rfl)]
  cases S v <;> rfl
/-- a mask as a set with 7 in it and 8 out -/
def gf_S (s : Nat) : Nat → Bool := fun v => v == 7 || (decide (v < 7) && s.testBit v)
theorem gf_S7 (s : Nat) : gf_S s 7 = true := rfl
theorem gf_S8 (s : Nat) : gf_S s 8 = false := rfl
theorem gf_Sv {s v : Nat} (h : v < 7) : gf_S s v = s.testBit v := by
  unfold gf_S
  rw [decide_eq_true h, beq_false_of_ne (by omega)]
  rfl
theorem gf_mk (S : Nat → Bool) (n : Nat) : ∃ s, s < 2 ^ n ∧ ∀ v, v < n → s.testBit v = S v := by
  induction n with
  | zero => exact ⟨0, by decide, fun v hv => absurd hv (by omega)⟩
  | succ n ih =>
    obtain ⟨s, hs, h⟩ := ih
    have hlt : 2 ^ n < 2 ^ (n + 1) := Nat.pow_lt_pow_right (by omega) (by omega)
    cases e : S n
    · refine ⟨s, by omega, fun v hv => ?_⟩
      by_cases ev : v = n
      · rw [ev, e]
        exact Nat.testBit_lt_two_pow hs
      · exact h v (by omega)
    · refine ⟨s ||| 2 ^ n, Nat.or_lt_two_pow (by omega) hlt, fun v hv => ?_⟩
      rw [Nat.testBit_or, Nat.testBit_two_pow]
      by_cases ev : v = n
      · rw [ev, e]
        simp
      · rw [h v (by omega)]
        simp [show ¬ n = v by omega]
theorem gf_mk9 (S : Nat → Bool) (h7 : S 7 = true) (h8 : S 8 = false) : ∃ s, s < 128 ∧ ∀ v, v < 9 → gf_S s v = S v := by
  obtain ⟨s, hs, h⟩ := gf_mk S 7
  refine ⟨s, hs, fun v hv => ?_⟩
  by_cases e7 : v = 7
  · rw [e7, h7]
    rfl
  · by_cases e8 : v = 8
    · rw [e8, h8]
      rfl
    · rw [gf_Sv (by omega)]
      exact h v (by omega)
theorem gf_mext {s t : Nat} (hs : s < 128) (ht : t < 128) (h : ∀ v, v < 7 → s.testBit v = t.testBit v) : s = t := by
  refine Nat.eq_of_testBit_eq (fun i => ?_)
  by_cases hi : i < 7
  · exact h i hi
  · have h1 : (128 : Nat) ≤ 2 ^ i := by
      have := Nat.pow_le_pow_right (n := 2) (by omega) (show 7 ≤ i by omega)
      exact this
    rw [Nat.testBit_lt_two_pow (by omega), Nat.testBit_lt_two_pow (by omega)]
/-- m is the least of c over the masks -/
def gf_mn (c : Nat → Nat) (m : Nat) : Prop := (∃ s, s < 128 ∧ c s = m) ∧ ∀ s, s < 128 → m ≤ c s
theorem gf_mnU {c : Nat → Nat} {m m' : Nat} (h : gf_mn c m) (h' : gf_mn c m') : m = m' := by
  obtain ⟨⟨s, hs, e⟩, hl⟩ := h
  obtain ⟨⟨s', hs', e'⟩, hl'⟩ := h'
  have h1 := hl s' hs'
  have h2 := hl' s hs
  omega
theorem gf_mf {L : Nat → Nat → Nat} {C : Nat → Nat → Nat} {p q : Nat → Nat} {f : Nat} (hR : ∀ S, S 7 = true → S 8 = false → gf_rs L S + f = gf_co C p q S) (hz : ∃ S : Nat → Bool, S 7 = true ∧ S 8 = false ∧ gf_rs L S = 0) : gf_mn (fun s => gf_co C p q (gf_S s)) f := by
  constructor
  · obtain ⟨S, h7, h8, h0⟩ := hz
    obtain ⟨s, hs, e⟩ := gf_mk9 S h7 h8
    refine ⟨s, hs, ?_⟩
    have h1 := hR (gf_S s) rfl rfl
    have h2 : gf_rs L (gf_S s) = gf_rs L S := gf_rsC (fun _ _ _ _ => rfl) e
    show gf_co C p q (gf_S s) = f
    omega
  · intro s _
    have h1 := hR (gf_S s) rfl rfl
    show f ≤ gf_co C p q (gf_S s)
    omega
end
section
/-! Int32 as naturals, masks as sets, pulls -/
theorem gf_sl : ∀ n, n < 32 → ((nI n &&& 31).toBitVec.smod 32).toNat = n := by decide +kernel
theorem gf_i9 (u v : Nat) : nI u * 9 + nI v = nI (u * 9 + v) := by
  show nI u * nI 9 + nI v = _
  rw [pk_mul, nI_add]
theorem gf_i7 (u v : Nat) : nI u * 7 + nI v = nI (u * 7 + v) := by
  show nI u * nI 7 + nI v = _
  rw [pk_mul, nI_add]
theorem gf_and (a b : Nat) : nI a &&& nI b = nI (a &&& b) := by
  apply Int32.toBitVec_inj.1
  show BitVec.ofNat 32 a &&& BitVec.ofNat 32 b = BitVec.ofNat 32 (a &&& b)
  apply BitVec.eq_of_getLsbD_eq
  intro i hi
  simp [hi]
theorem gf_or (a b : Nat) : nI a ||| nI b = nI (a ||| b) := by
  apply Int32.toBitVec_inj.1
  show BitVec.ofNat 32 a ||| BitVec.ofNat 32 b = BitVec.ofNat 32 (a ||| b)
  apply BitVec.eq_of_getLsbD_eq
  intro i hi
  simp [hi]
theorem gf_shl1 {v : Nat} (hv : v < 31) : (1 : Int32) <<< (nI v &&& 31) = nI (2 ^ v) := by
  have h : 1 * 2 ^ v < 2 ^ 32 := by
    have := Nat.pow_lt_pow_right (a := 2) (by omega) (show v < 32 by omega)
    omega
  have := pk_shlN (n := 1) (nI v &&& 31) v (gf_sl v (by omega)) h
  rw [Nat.one_mul] at this
  exact this
theorem gf_m1 {n : Nat} (h : n < 2 ^ 31) : ¬ nI n = -1 := by
  intro e
  have := nI_pos h
  rw [e] at this
  exact this (by decide)
theorem gf_inT {post : Int32 → Prop} {m k : Nat} {x y : Int32} (hm : m < 2 ^ 31) (hk : k < 32) (hx : x = nI m) (hy : y = nI k) (h : post (cond (m.testBit k) 1 0)) : wpX_in post () x y := by
  subst hx
  subst hy
  have e : (nI m >>> (nI k &&& 31)) &&& 1 = nI (m / 2 ^ k % 2) := by
    rw [pk_shrN hm (nI k &&& 31) k (gf_sl k hk)]
    have hd : m / 2 ^ k ≤ m := Nat.div_le_self _ _
    exact pk_andN (m := 1) (by omega) 1 (by decide)
  rw [Nat.testBit_eq_decide_div_mod_eq] at h
  unfold wpX_in
  rw [e]
  refine pk_eq (m / 2 ^ k % 2) 1 (fun z => ?_) (fun z => ?_)
  · rw [decide_eq_true z] at h
    exact h
  · rw [decide_eq_false z] at h
    exact h
/-- the number x is the set P below n -/
def gf_bm (n : Nat) (x : Int32) (P : Nat → Prop) : Prop := ∃ m, m < 2 ^ n ∧ x = nI m ∧ ∀ v, v < n → (m.testBit v = true ↔ P v)
theorem gf_bmC {n : Nat} {x : Int32} {P Q : Nat → Prop} (h : gf_bm n x P) (e : ∀ v, v < n → (P v ↔ Q v)) : gf_bm n x Q := by
  obtain ⟨m, h1, h2, h3⟩ := h
  exact ⟨m, h1, h2, fun v hv => (h3 v hv).trans (e v hv)⟩
theorem gf_bm0 {n : Nat} : gf_bm n 0 (fun _ => False) := ⟨0, Nat.two_pow_pos n, rfl, fun v _ => by simp⟩
theorem gf_bm1 {n v : Nat} (hv : v < n) (hn : n ≤ 31) : gf_bm n ((1 : Int32) <<< (nI v &&& 31)) (fun u => u = v) := by
  refine ⟨2 ^ v, Nat.pow_lt_pow_right (by omega) hv, gf_shl1 (by omega), fun u _ => ?_⟩
  rw [Nat.testBit_two_pow]
  simp only [decide_eq_true_eq]
  exact ⟨fun h => h.symm, fun h => h.symm⟩
theorem gf_bmO {n : Nat} {x y : Int32} {P Q : Nat → Prop} (h : gf_bm n x P) (g : gf_bm n y Q) : gf_bm n (x ||| y) (fun v => P v ∨ Q v) := by
  obtain ⟨m, h1, rfl, h3⟩ := h
  obtain ⟨k, g1, rfl, g3⟩ := g
  refine ⟨m ||| k, Nat.or_lt_two_pow h1 g1, gf_or m k, fun v hv => ?_⟩
  rw [Nat.testBit_or, Bool.or_eq_true, h3 v hv, g3 v hv]
theorem gf_bmA {n : Nat} {x y : Int32} {P Q : Nat → Prop} (h : gf_bm n x P) (g : gf_bm n y Q) : gf_bm n (x &&& y) (fun v => P v ∧ Q v) := by
  obtain ⟨m, h1, rfl, h3⟩ := h
  obtain ⟨k, g1, rfl, g3⟩ := g
  refine ⟨m &&& k, Nat.and_lt_two_pow _ g1, gf_and m k, fun v hv => ?_⟩
  rw [Nat.testBit_and, Bool.and_eq_true, h3 v hv, g3 v hv]
theorem gf_bm7 {x : Int32} {P : Nat → Prop} (h : gf_bm 9 x P) : gf_bm 7 (x &&& 127) P := by
  obtain ⟨m, h1, rfl, h3⟩ := h
  refine ⟨m % 2 ^ 7, Nat.mod_lt _ (by decide), pk_andN (m := 127) (by omega) 7 (by decide), fun v hv => ?_⟩
  rw [Nat.testBit_mod_two_pow, ← h3 v (by omega), decide_eq_true hv, Bool.true_and]
theorem gf_bmS {x : Int32} {P : Nat → Prop} (h : gf_bm 7 x P) : gf_bm 7 (127 - x) (fun v => ¬ P v) := by
  obtain ⟨m, h1, rfl, h3⟩ := h
  refine ⟨2 ^ 7 - (m + 1), by omega, ?_, fun v hv => ?_⟩
  · show nI 127 - nI m = _
    rw [pk_sub (by omega)]
    exact congrArg nI (by omega)
  · show _ ↔ ¬ P v
    rw [Nat.testBit_two_pow_sub_succ h1, decide_eq_true hv, Bool.true_and, ← h3 v hv]
    cases m.testBit v <;> simp
theorem gf_xor : ∀ m, m < 128 → (127 : Int32) &&& (nI m ^^^ (-1)) = 127 - nI m := by decide +kernel
theorem gf_bmN {x : Int32} {P : Nat → Prop} (h : gf_bm 7 x P) : gf_bm 7 (127 &&& (x ^^^ (-1))) (fun v => ¬ P v) := by
  have h' := gf_bmS h
  obtain ⟨m, h1, rfl, h3⟩ := h
  rw [gf_xor m h1]
  exact h'
theorem gf_bmE {n : Nat} {x y : Int32} {P Q : Nat → Prop} (h : gf_bm n x P) (g : gf_bm n y Q) (e : ∀ v, v < n → (P v ↔ Q v)) : x = y := by
  obtain ⟨m, h1, rfl, h3⟩ := h
  obtain ⟨k, g1, rfl, g3⟩ := g
  refine congrArg nI (Nat.eq_of_testBit_eq (fun i => ?_))
  by_cases hi : i < n
  · have := ((h3 i hi).trans (e i hi)).trans (g3 i hi).symm
    exact Bool.eq_iff_iff.mpr this
  · have hp := Nat.pow_le_pow_right (n := 2) (by omega) (show n ≤ i by omega)
    rw [Nat.testBit_lt_two_pow (by omega), Nat.testBit_lt_two_pow (by omega)]
theorem gf_bmZ {n : Nat} {x : Int32} {P : Nat → Prop} (h : gf_bm n x P) (hn30 : n ≤ 30) : x = 0 ↔ ∀ v, v < n → ¬ P v := by
  constructor
  · intro e v hv hP
    obtain ⟨m, h1, h2, h3⟩ := h
    have hlt : 2 ^ n < 2 ^ 31 := Nat.pow_lt_pow_right (by omega) (by omega)
    have : m = 0 := (nI_eq (by omega) (by omega)).mp (h2.symm.trans e)
    have h4 := (h3 v hv).mpr hP
    rw [this, Nat.zero_testBit] at h4
    exact absurd h4 (by decide)
  · intro hn
    exact gf_bmE h gf_bm0 (fun v hv => ⟨fun hP => hn v hv hP, fun f => f.elim⟩)
theorem gf_bmI {post : Int32 → Prop} {n v : Nat} {x y : Int32} {P : Nat → Prop} (h : gf_bm n x P) (hn : n ≤ 30) (hv : v < n) (hy : y = nI v) (h1 : P v → post 1) (h0 : ¬ P v → post 0) : wpX_in post () x y := by
  obtain ⟨m, g1, g2, g3⟩ := h
  have hlt : 2 ^ n ≤ 2 ^ 30 := Nat.pow_le_pow_right (by omega) hn
  refine gf_inT (m := m) (k := v) (by omega) (by omega) g2 hy ?_
  cases e : m.testBit v
  · exact h0 (fun hP => by
      rw [(g3 v hv).mpr hP] at e
      exact absurd e (by decide))
  · exact h1 ((g3 v hv).mp e)
/-- pulls -/
def gf_pl (b s : Int32) (x : Nat) : Nat := (b.toInt + s.toInt * (x : Int)).toNat
def gf_rg (b s : Int32) : Prop := 0 ≤ b.toInt ∧ b.toInt ≤ 40 ∧ -2 ≤ s.toInt ∧ s.toInt ≤ 2
theorem gf_plS {s : Int} (h1 : -2 ≤ s) (h2 : s ≤ 2) {x : Nat} (hx : x ≤ 50) : -100 ≤ s * (x : Int) ∧ s * (x : Int) ≤ 100 := by
  have : s = -2 ∨ s = -1 ∨ s = 0 ∨ s = 1 ∨ s = 2 := by omega
  rcases this with h | h | h | h | h <;> subst h <;> omega
theorem gf_plB {b s : Int32} (h : gf_rg b s) {x : Nat} (hx : x ≤ 50) : gf_pl b s x ≤ 140 := by
  have := gf_plS h.2.2.1 h.2.2.2 hx
  have h1 := h.2.1
  unfold gf_pl
  omega
theorem gf_plV {b s : Int32} (h : gf_rg b s) {x : Nat} (hx : x ≤ 50) : (b + s * nI x).toInt = b.toInt + s.toInt * (x : Int) := by
  have h0 := gf_plS h.2.2.1 h.2.2.2 hx
  have h1 := h.2.1
  have h2 := h.1
  rw [Int32.toInt_add, Int32.toInt_mul, nI_toInt (by omega)]
  rw [Int.bmod_eq_of_le (n := s.toInt * (x : Int)) (by omega) (by omega)]
  rw [Int.bmod_eq_of_le (by omega) (by omega)]
theorem gf_plP {post : Int32 → Prop} {b s : Int32} (h : gf_rg b s) {x : Nat} (hx : x ≤ 50) (hp : post (nI (gf_pl b s x))) : ∀ y : Int32, y = b + s * nI x → ((y ≤ 0 → post 0) ∧ (¬ y ≤ 0 → post y)) := by
  intro y ey
  have hv := gf_plV h hx
  rw [← ey] at hv
  have h0 := gf_plS h.2.2.1 h.2.2.2 hx
  have h1 := h.2.1
  have h2 := h.1
  refine br_c (fun z => ?_) (fun z => ?_)
  · have z' := Int32.le_iff_toInt_le.mp z
    have e : gf_pl b s x = 0 := by
      unfold gf_pl
      rw [← hv]
      have : (0 : Int32).toInt = 0 := by decide
      omega
    rw [e] at hp
    exact hp
  · have z' : ¬ y.toInt ≤ (0 : Int32).toInt := fun t => z (Int32.le_iff_toInt_le.mpr t)
    have e : y = nI (gf_pl b s x) := by
      apply Int32.toInt_inj.mp
      rw [nI_toInt (by have := gf_plB h hx; omega)]
      unfold gf_pl
      rw [← hv]
      have : (0 : Int32).toInt = 0 := by decide
      omega
    rw [e]
    exact hp
end
section
/-! the configuration, pulls as methods, load -/
def gf_C (a1 : Nat → Int32) (u v : Nat) : Nat := (a1 (u * 7 + v)).toNatClampNeg
def gf_cf (a1 a2 a3 a4 a5 : Nat → Int32) : Prop := (∀ u v, u < 7 → v < 7 → a1 (u * 7 + v) = nI (gf_C a1 u v) ∧ gf_C a1 u v ≤ 20 ∧ gf_C a1 u v = gf_C a1 v u) ∧ (∀ v, v < 7 → gf_rg (a2 v) (a3 v) ∧ gf_rg (a4 v) (a5 v))
def gf_p (a b : Nat → Int32) (x : Nat) : Nat → Nat := fun v => gf_pl (a v) (b v) x
/-- the array of what is left, as a table -/
def gf_lf (s : Nat → Int32) (L : Nat → Nat → Nat) : Prop := ∀ u v, u < 9 → v < 9 → s (u * 9 + v) = nI (L u v)
theorem gf_lfC {s : Nat → Int32} {L M : Nat → Nat → Nat} (h : gf_lf s L) (e : ∀ u v, u < 9 → v < 9 → L u v = M u v) : gf_lf s M := fun u v hu hv => by rw [h u v hu hv, e u v hu hv]
theorem gf_lfU {s : Nat → Int32} {L : Nat → Nat → Nat} {a b x : Nat} (h : gf_lf s L) (hb : b < 9) : gf_lf (upd s (a * 9 + b) (nI x)) (gf_p2 L a b x) := by
  intro u v hu hv
  by_cases e : u = a ∧ v = b
  · rw [e.1, e.2, pk_us, gf_p2s]
  · rw [pk_un (by omega), gf_p2n e]
    exact h u v hu hv
section
variable {wf fl : Int32} {a1 a2 a3 a4 a5 a6 a7 a8 a9 a10 a11 a12 : Nat → Int32}
theorem gf_srcP {post : Int32 → Prop} {v x : Nat} (hv : v < 7) (hx : x ≤ 50) (h : gf_rg (a2 v) (a3 v)) (hp : post (nI (gf_p a2 a3 x v))) : wpX_sourcePull post (wf, fl, a1, a2, a3, a4, a5, a6, a7, a8, a9, a10, a11, a12) (nI v) (nI x) := by
  unfold wpX_sourcePull
  rw [nI_clamp (show v < 2 ^ 31 by omega)]
  exact ⟨pk_in v 7 hv, pk_in v 7 hv, gf_plP h hx hp⟩
theorem gf_snkP {post : Int32 → Prop} {v x : Nat} (hv : v < 7) (hx : x ≤ 50) (h : gf_rg (a4 v) (a5 v)) (hp : post (nI (gf_p a4 a5 x v))) : wpX_sinkPull post (wf, fl, a1, a2, a3, a4, a5, a6, a7, a8, a9, a10, a11, a12) (nI v) (nI x) := by
  unfold wpX_sinkPull
  rw [nI_clamp (show v < 2 ^ 31 by omega)]
  exact ⟨pk_in v 7 hv, pk_in v 7 hv, gf_plP h hx hp⟩
theorem gf_load31 {post : St1 → Prop} {J : Int32 → (Nat → Int32) → (Nat → Int32) → (Nat → Int32) → (Nat → Int32) → (Nat → Int32) → (Nat → Int32) → (Nat → Int32) → (Nat → Int32) → (Nat → Int32) → (Nat → Int32) → (Nat → Int32) → (Nat → Int32) → Prop} {x u : Nat} (hu : u < 7) (hx : x ≤ 50) (hcf : gf_cf a1 a2 a3 a4 a5) {M : Nat → Nat → Nat} (h : gf_lf a6 M)
    (H : ∀ s, gf_lf s (gf_p2 (gf_p2 (fun a b => if a = u ∧ b < 7 then gf_C a1 u b else M a b) 7 u (gf_p a2 a3 x u)) u 8 (gf_p a4 a5 x u)) → J (nI (u + 1)) a1 a2 a3 a4 a5 s a7 a8 a9 a10 a11 a12) :
    ∃ n, wX_load_31 post J (nI x) (nI u) wf fl n 0 a1 a2 a3 a4 a5 a6 a7 a8 a9 a10 a11 a12 :=
  pk_loop (fun n i s => wX_load_31 post J (nI x) (nI u) wf fl n (nI i) a1 a2 a3 a4 a5 s a7 a8 a9 a10 a11 a12) (fun i s => gf_lf s (fun a b => if a = u ∧ b < i then gf_C a1 u b else M a b)) 7 0 a6 (by omega)
    (gf_lfC h (fun a b _ _ => by rw [if_neg (by omega)]))
    (fun n s hs => pk_le 7 7 (fun _ => gf_srcP hu hx (hcf.2 u hu).1 ⟨pk_in (63 + u) 81 (by omega) (nI_add 63 u), nm_r (e' := upd s (7 * 9 + u) (nI (gf_p a2 a3 x u))) (by rw [show (63 : Int32) + nI u = nI (7 * 9 + u) from nI_add 63 u, nI_clamp (by omega)])
      (gf_snkP hu hx (hcf.2 u hu).2 ⟨pk_in (u * 9 + 8) 81 (by omega) (gf_i9 u 8), nm_r (e' := upd (upd s (7 * 9 + u) (nI (gf_p a2 a3 x u))) (u * 9 + 8) (nI (gf_p a4 a5 x u))) (by rw [show nI u * 9 + 8 = nI (u * 9 + 8) from gf_i9 u 8, nI_clamp (by omega)])
        (nm_r (nI_1 u) (H _ (gf_lfU (gf_lfU hs (by omega)) (by omega))))⟩)⟩) (fun z => absurd z (by omega)))
    (fun n i s hi hs hw => pk_le 7 i (fun z => absurd z (by omega)) (fun _ => ⟨pk_in (u * 7 + i) 49 (by omega) (gf_i7 u i), pk_in (u * 9 + i) 81 (by omega) (gf_i9 u i),
      nm_r (e' := upd s (u * 9 + i) (nI (gf_C a1 u i))) (by rw [gf_i9, gf_i7, nI_clamp (by omega), nI_clamp (by omega), ← (hcf.1 u i hu hi).1]) (nm_r (nI_1 i) (hw _ (gf_lfC (gf_lfU hs (by omega)) (fun a b _ _ => by
        by_cases e : a = u ∧ b = i
        · rw [e.1, e.2, gf_p2s, if_pos (by omega)]
        · rw [gf_p2n e]
          by_cases e' : a = u ∧ b < i
          · rw [if_pos e', if_pos (by omega)]
          · rw [if_neg e', if_neg (by omega)]))))⟩))
def gf_Lp (C : Nat → Nat → Nat) (p q : Nat → Nat) (k : Nat) : Nat → Nat → Nat := fun u v => if v < 7 then (if u < k then C u v else if u = 7 ∧ v < k then p v else 0) else if v = 8 ∧ u < k then q u else 0
theorem gf_LpS {C : Nat → Nat → Nat} {p q : Nat → Nat} {k : Nat} (hk : k < 7) (a b : Nat) (hb : b < 9) : gf_p2 (gf_p2 (fun a b => if a = k ∧ b < 7 then C k b else gf_Lp C p q k a b) 7 k (p k)) k 8 (q k) a b = gf_Lp C p q (k + 1) a b := by
  unfold gf_p2 gf_Lp
  by_cases h8 : b = 8
  · subst h8
    by_cases ha : a = k
    · subst ha
      simp [hk]
    · simp [ha, show ¬ (a = 7 ∧ 8 = k) by omega]
      by_cases h : a < k
      · simp [h, show a < k + 1 by omega]
      · simp [h, show ¬ a < k + 1 by omega]
  · by_cases h7 : b < 7
    · by_cases ha : a = k
      · subst ha
        simp [h8, h7, show ¬ (a = 7) by omega]
      · by_cases h77 : a = 7
        · subst h77
          by_cases hbk : b = k
          · subst hbk
            simp [h8, show ¬ 7 = b by omega, show ¬ 7 < b + 1 by omega, h7]
          · by_cases hlt : b < k
            · simp [h8, hbk, h7, show ¬ 7 = k by omega, show ¬ 7 < k by omega, show ¬ 7 < k + 1 by omega, hlt, show b < k + 1 by omega]
            · simp [h8, hbk, h7, show ¬ 7 = k by omega, show ¬ 7 < k by omega, show ¬ 7 < k + 1 by omega, hlt, show ¬ b < k + 1 by omega]
        · by_cases h : a < k
          · simp [ha, h77, h7, h, show a < k + 1 by omega]
          · simp [ha, h77, h7, h, show ¬ a < k + 1 by omega]
    · simp [h8, h7, show ¬ b = k by omega]
theorem gf_load23 {post : St1 → Prop} {x : Nat} (hx : x ≤ 50) (hcf : gf_cf a1 a2 a3 a4 a5) (h : gf_lf a6 (fun _ _ => 0))
    (H : ∀ s, gf_lf s (gf_L0 (gf_C a1) (gf_p a2 a3 x) (gf_p a4 a5 x)) → post (wf, fl, a1, a2, a3, a4, a5, s, a7, a8, a9, a10, a11, a12)) :
    ∃ n, wX_load_23 post (nI x) wf fl n 0 a1 a2 a3 a4 a5 a6 a7 a8 a9 a10 a11 a12 :=
  pk_loop (fun n i s => wX_load_23 post (nI x) wf fl n (nI i) a1 a2 a3 a4 a5 s a7 a8 a9 a10 a11 a12) (fun i s => gf_lf s (gf_Lp (gf_C a1) (gf_p a2 a3 x) (gf_p a4 a5 x) i)) 7 0 a6 (by omega)
    (gf_lfC h (fun a b _ _ => by unfold gf_Lp; simp))
    (fun n s hs => pk_le 7 7 (fun _ => H s (gf_lfC hs (fun a b _ _ => by
        unfold gf_Lp gf_L0
        by_cases h7 : b < 7
        · simp [h7]
        · simp [h7]))) (fun z => absurd z (by omega)))
    (fun n i s hi hs hw => pk_le 7 i (fun z => absurd z (by omega)) (fun _ => gf_load31 hi hx hcf hs (fun s' hs' => hw s' (gf_lfC hs' (fun a b _ hb => gf_LpS hi a b hb)))))
theorem gf_load {post : St1 → Prop} {x : Nat} (hx : x ≤ 50) (hcf : gf_cf a1 a2 a3 a4 a5)
    (H : ∀ s, gf_lf s (gf_L0 (gf_C a1) (gf_p a2 a3 x) (gf_p a4 a5 x)) → post (wf, fl, a1, a2, a3, a4, a5, s, a7, a8, a9, a10, a11, a12)) :
    wpX_load post (wf, fl, a1, a2, a3, a4, a5, a6, a7, a8, a9, a10, a11, a12) (nI x) :=
  pk_loop (fun n i s => wX_load_2 post (nI x) wf fl n (nI i) a1 a2 a3 a4 a5 s a7 a8 a9 a10 a11 a12) (fun i s => ∀ j, j < i → s j = 0) 81 0 a6 (by omega)
    (fun j hj => absurd hj (by omega))
    (fun n s hs => pk_le 81 81 (fun _ => gf_load23 hx hcf (fun u v hu hv => hs (u * 9 + v) (by omega)) H) (fun z => absurd z (by omega)))
    (fun n i s hi hs hw => pk_le 81 i (fun z => absurd z (by omega)) (fun _ => ⟨pk_in i 81 hi, nm_r (e' := upd s i 0) (by rw [nI_clamp (by omega)]) (nm_r (nI_1 i) (hw _ (fun j hj => by
      by_cases e : j = i
      · rw [e, pk_us]
      · rw [pk_un e]
        exact hs j (by omega))))⟩))
end
end
section
/-! findWay: breadth first -/
def gf_B (L : Nat → Nat → Nat) (i v en : Nat) (a7 a8 : Nat → Int32) (Q : Nat → Nat) (d : Nat) : Prop :=
  (1 ≤ en ∧ Q 0 = 7 ∧ a8 7 = nI 7) ∧
  (∀ j, j < en → Q j < 9 ∧ a7 j = nI (Q j)) ∧
  (∀ j, 1 ≤ j → j < en → ∃ k, k < j ∧ a8 (Q j) = nI (Q k) ∧ 0 < L (Q k) (Q j)) ∧
  (∀ u, u < 9 → a8 u = -1 ∨ ∃ j, j < en ∧ Q j = u) ∧
  (en = gf_sm (fun u => if a8 u = -1 then 0 else 1) 9) ∧
  (∀ j k, j < k → k < en → Q j ≠ Q k) ∧
  (∀ j u, j < i → u < 9 → 0 < L (Q j) u → a8 u ≠ -1) ∧
  (∀ u, u < v → 0 < L (Q i) u → a8 u ≠ -1) ∧
  (d ≤ en ∧ (i = 0 → d = en) ∧ (∀ j, 1 ≤ j → j < d → a8 (Q j) = nI 7) ∧ (1 ≤ i → ∀ w, w < 9 → 0 < L 7 w → ∃ j, j < d ∧ Q j = w))
def gf_F8 (L : Nat → Nat → Nat) (a8 : Nat → Int32) : Prop := (∃ w, w < 9 ∧ 0 < L 7 w ∧ 0 < L w 8) → ∃ c, c < 9 ∧ a8 8 = nI c ∧ a8 c = nI 7
/-- a way was found: a8 leads from 8 to 7 along what is left, in two steps where two do -/
def gf_W (L : Nat → Nat → Nat) (a8 : Nat → Int32) : Prop := ∃ (N : Nat) (ch : Nat → Nat), N ≤ 8 ∧ gf_pt L ch N ∧ (∀ i, i < N → a8 (ch i) = nI (ch (i + 1))) ∧ ((∃ w, w < 9 ∧ 0 < L 7 w ∧ 0 < L w 8) → N = 2)
section
variable {L : Nat → Nat → Nat} {i v en d : Nat} {a7 a8 : Nat → Int32} {Q : Nat → Nat}
theorem gf_Bq (hB : gf_B L i v en a7 a8 Q d) {j : Nat} (hj : j < en) : ∃ c, c < 9 ∧ a8 (Q j) = nI c := by
  obtain ⟨⟨b1, b2, b3⟩, bq, bp, _⟩ := hB
  by_cases e : j = 0
  · subst e
    exact ⟨7, by omega, by rw [b2, b3]⟩
  · obtain ⟨k, hk, h1, _⟩ := bp j (by omega) hj
    exact ⟨Q k, (bq k (by omega)).1, h1⟩
theorem gf_Bn (hB : gf_B L i v en a7 a8 Q d) {j : Nat} (hj : j < en) : a8 (Q j) ≠ -1 := by
  obtain ⟨c, hc, e⟩ := gf_Bq hB hj
  rw [e]
  exact gf_m1 (by omega)
theorem gf_Bs (hB : gf_B L i v en a7 a8 Q d) {u : Nat} (hu : u < 9) (h : a8 u ≠ -1) : ∃ c, c < 9 ∧ a8 u = nI c := by
  rcases hB.2.2.2.1 u hu with e | ⟨j, hj, e⟩
  · exact absurd e h
  · rw [← e]
    exact gf_Bq hB hj
theorem gf_Be (hB : gf_B L i v en a7 a8 Q d) : en ≤ 9 := by
  rw [hB.2.2.2.2.1]
  exact gf_smB (b := 1) (fun u _ => by by_cases e : a8 u = -1 <;> simp [e])
theorem gf_Bskip (hB : gf_B L i v en a7 a8 Q d) (h : 0 < L (Q i) v → a8 v ≠ -1) : gf_B L i (v + 1) en a7 a8 Q d := by
  obtain ⟨h1, h2, h3, h4, h5, h6, h7, h8, h9⟩ := hB
  refine ⟨h1, h2, h3, h4, h5, h6, h7, fun u hu hl => ?_, h9⟩
  by_cases e : u = v
  · rw [e] at hl ⊢
    exact h hl
  · exact h8 u (by omega) hl
theorem gf_Brow (hB : gf_B L i 9 en a7 a8 Q d) : gf_B L (i + 1) 0 en a7 a8 Q d := by
  obtain ⟨h1, h2, h3, h4, h5, h6, h7, h8, h9, h10, h11, h12⟩ := hB
  refine ⟨h1, h2, h3, h4, h5, h6, fun j u hj hu hl => ?_, fun u hu => absurd hu (by omega), h9, fun e => absurd e (by omega), h11, fun _ w hw hl => ?_⟩
  · by_cases e : j = i
    · rw [e] at hl
      exact h8 u hu hl
    · exact h7 j u (by omega) hu hl
  · by_cases e : i = 0
    · subst e
      rw [h10 rfl]
      rcases h4 w hw with z | z
      · exact absurd z (h8 w hw (by rw [h1.2.1]; exact hl))
      · exact z
    · exact h12 (by omega) w hw hl
theorem gf_Badd (hB : gf_B L i v en a7 a8 Q d) (hi : i < en) (hv : v < 9) (h0 : a8 v = -1) (hl : 0 < L (Q i) v) :
    en ≤ 8 ∧ gf_B L i (v + 1) (en + 1) (upd a7 en (nI v)) (upd a8 v (nI (Q i))) (fun j => if j = en then v else Q j) (if i = 0 then en + 1 else d) := by
  have hq : ∀ j, j < en → Q j ≠ v := fun j hj e => gf_Bn hB hj (by rw [e, h0])
  have hQi := (hB.2.1 i hi).1
  have hne : ¬ nI (Q i) = -1 := gf_m1 (by omega)
  have hBs := hB
  obtain ⟨⟨b1, b2, b3⟩, bq, bp, bs, be, bd, br, bc, w1, w2, w3, w4⟩ := hB
  have hst : ∀ u, a8 u ≠ -1 → upd a8 v (nI (Q i)) u ≠ -1 := by
    intro u hu
    by_cases e : u = v
    · rw [e, pk_us]
      exact hne
    · rw [pk_un e]
      exact hu
  have hen : en ≤ 8 := by
    have := gf_smLt (f := fun u => if a8 u = -1 then 0 else 1) (n := 9) (a := v) (fun u _ => by by_cases e : a8 u = -1 <;> simp [e]) hv (by simp [h0])
    omega
  have n7 : v ≠ 7 := fun e => by
    have := gf_m1 (n := 7) (by omega)
    rw [← b3, ← e] at this
    exact this h0
  refine ⟨hen, ⟨by omega, ?_, ?_⟩, ?_, ?_, ?_, ?_, ?_, ?_, ?_, ?_, ?_, ?_, ?_⟩
  · dsimp only
    rw [if_neg (by omega)]
    exact b2
  · rw [pk_un (fun e => n7 e.symm)]
    exact b3
  · intro j hj
    by_cases e : j = en
    · subst e
      dsimp only
      rw [if_pos rfl, pk_us]
      exact ⟨hv, rfl⟩
    · dsimp only
      rw [if_neg e, pk_un e]
      exact bq j (by omega)
  · intro j h1 hj
    by_cases e : j = en
    · subst e
      refine ⟨i, hi, ?_, ?_⟩
      · dsimp only
        rw [if_pos rfl, if_neg (by omega), pk_us]
      · dsimp only
        rw [if_pos rfl, if_neg (by omega)]
        exact hl
    · obtain ⟨k, hk, e1, e2⟩ := bp j h1 (by omega)
      refine ⟨k, hk, ?_, ?_⟩
      · dsimp only
        rw [if_neg e, if_neg (by omega), pk_un (hq j (by omega))]
        exact e1
      · dsimp only
        rw [if_neg e, if_neg (by omega)]
        exact e2
  · intro u hu
    by_cases e : u = v
    · exact Or.inr ⟨en, by omega, by dsimp only; rw [if_pos rfl, e]⟩
    · rw [pk_un e]
      rcases bs u hu with z | ⟨j, hj, z⟩
      · exact Or.inl z
      · exact Or.inr ⟨j, by omega, by dsimp only; rw [if_neg (by omega), z]⟩
  · have := gf_smU (f := fun u => if upd a8 v (nI (Q i)) u = -1 then 0 else 1) (g := fun u => if a8 u = -1 then 0 else 1) (n := 9) (a := v) hv (fun u _ hn => by rw [pk_un hn])
    rw [pk_us, if_pos h0, if_neg hne] at this
    omega
  · intro j k hjk hk
    dsimp only
    rw [if_neg (by omega)]
    by_cases e : k = en
    · rw [if_pos e]
      exact hq j (by omega)
    · rw [if_neg e]
      exact bd j k hjk (by omega)
  · intro j u hj hu hl'
    dsimp only at hl'
    rw [if_neg (by omega)] at hl'
    exact hst u (br j u hj hu hl')
  · intro u hu hl'
    dsimp only at hl'
    rw [if_neg (by omega)] at hl'
    by_cases e : u = v
    · rw [e, pk_us]
      exact hne
    · exact hst u (bc u (by omega) hl')
  · split <;> omega
  · intro e
    rw [if_pos e]
  · intro j h1 hj
    dsimp only
    by_cases e : j = en
    · subst e
      have hi0 : i = 0 := by
        by_cases z : i = 0
        · exact z
        · rw [if_neg z] at hj
          omega
      rw [if_pos rfl, pk_us, hi0, b2]
    · rw [if_neg e]
      have hj' : j < d := by
        by_cases z : i = 0
        · rw [if_pos z] at hj
          have := w2 z
          omega
        · rw [if_neg z] at hj
          exact hj
      rw [pk_un (hq j (by omega))]
      exact w3 j h1 hj'
  · intro h1 w hw hl'
    obtain ⟨j, hj, e⟩ := w4 h1 w hw hl'
    rw [if_neg (by omega)]
    exact ⟨j, hj, by dsimp only; rw [if_neg (by omega), e]⟩
theorem gf_BF (hB : gf_B L i v en a7 a8 Q d) (hi : i < en) (h78 : L 7 8 = 0) (h0 : a8 8 = -1) (hl : 0 < L (Q i) 8) : gf_F8 L (upd a8 8 (nI (Q i))) := by
  have hq8 : Q i ≠ 8 := fun e => gf_Bn hB hi (by rw [e, h0])
  obtain ⟨⟨b1, b2, b3⟩, bq, bp, bs, be, bd, br, bc, w1, w2, w3, w4⟩ := hB
  rintro ⟨w, hw, l1, l2⟩
  refine ⟨Q i, (bq i hi).1, pk_us, ?_⟩
  rw [pk_un hq8]
  by_cases e : i = 0
  · rw [e, b2, h78] at hl
    omega
  · obtain ⟨j, hj, ej⟩ := w4 (by omega) w hw l1
    by_cases hd : i < d
    · exact w3 i (by omega) hd
    · exact absurd h0 (br j 8 (by omega) (by omega) (by rw [ej]; exact l2))
theorem gf_chain (hB : gf_B L i v en a7 a8 Q d) (p : Nat) (hp : p < en) : ∃ (N : Nat) (ps : Nat → Nat), N ≤ p ∧ ps 0 = p ∧ ps N = 0 ∧ ∀ k, k < N → ps (k + 1) < ps k ∧ a8 (Q (ps k)) = nI (Q (ps (k + 1))) ∧ 0 < L (Q (ps (k + 1))) (Q (ps k)) := by
  induction p using Nat.strongRecOn with
  | _ p ih =>
    by_cases e : p = 0
    · exact ⟨0, fun _ => 0, by omega, e.symm, rfl, fun k hk => absurd hk (by omega)⟩
    · obtain ⟨k, hk, e1, e2⟩ := hB.2.2.1 p (by omega) hp
      obtain ⟨N, ps, hN, p0, pN, hs⟩ := ih k hk (by omega)
      refine ⟨N + 1, fun j => match j with | 0 => p | j + 1 => ps j, by omega, rfl, pN, fun j hj => ?_⟩
      match j, hj with
      | 0, _ =>
        show ps 0 < p ∧ a8 (Q p) = nI (Q (ps 0)) ∧ 0 < L (Q (ps 0)) (Q p)
        rw [p0]
        exact ⟨hk, e1, e2⟩
      | j + 1, hj => exact hs j (by omega)
theorem gf_way (hB : gf_B L i v en a7 a8 Q d) (h78 : L 7 8 = 0) (h8 : a8 8 ≠ -1) (hF : gf_F8 L a8) : gf_W L a8 := by
  have hen := gf_Be hB
  have hQ := hB.2.1
  have hd := hB.2.2.2.2.2.1
  have h7 := hB.1.2.1
  rcases hB.2.2.2.1 8 (by omega) with z | ⟨p, hp, ep⟩
  · exact absurd z h8
  · obtain ⟨N, ps, hN, p0, pN, hs⟩ := gf_chain hB p hp
    have hdec : ∀ j k, j < k → k ≤ N → ps k < ps j := by
      intro j k hjk hk
      induction k with
      | zero => omega
      | succ k ih =>
        have h1 := (hs k (by omega)).1
        by_cases e : j = k
        · rw [e]
          exact h1
        · have := ih (by omega) (by omega)
          omega
    have hle : ∀ j, j ≤ N → ps j < en := by
      intro j hj
      by_cases e : j = 0
      · rw [e, p0]
        exact hp
      · have := hdec 0 j (by omega) hj
        omega
    have hdis : ∀ j k, j < k → k ≤ N → Q (ps j) ≠ Q (ps k) := fun j k hjk hk e => hd (ps k) (ps j) (hdec j k hjk hk) (hle j (by omega)) e.symm
    have c0 : Q (ps 0) = 8 := by rw [p0, ep]
    have cN : Q (ps N) = 7 := by rw [pN, h7]
    have hpt : gf_pt L (fun k => Q (ps k)) N := ⟨c0, cN, fun j hj => (hQ _ (hle j hj)).1, hdis, fun j hj => (hs j hj).2.2⟩
    refine ⟨N, fun k => Q (ps k), by omega, hpt, fun j hj => (hs j hj).2.1, fun hw => ?_⟩
    obtain ⟨c, hc, e1, e2⟩ := hF hw
    have hN0 : N ≠ 0 := fun e => by
      rw [e, c0] at cN
      omega
    have s0 := hs 0 (by omega)
    rw [c0, e1] at s0
    have hb1 := (hQ _ (hle 1 (by omega))).1
    have ec : c = Q (ps 1) := (nI_eq (by omega) (by omega)).mp s0.2.1
    have hN1 : N ≠ 1 := fun e => by
      subst e
      have l := s0.2.2
      rw [show Q (ps (0 + 1)) = 7 from cN, h78] at l
      omega
    have s1 := hs 1 (by omega)
    rw [← ec, e2] at s1
    have hb2 := (hQ _ (hle 2 (by omega))).1
    have e7 : 7 = Q (ps 2) := (nI_eq (by omega) (by omega)).mp s1.2.1
    by_cases eN : N = 2
    · exact eN
    · exact absurd (e7.symm.trans cN.symm) (hdis 2 N (by omega) (Nat.le_refl N))
theorem gf_noway (hB : gf_B L i v en a7 a8 Q d) (hi : en ≤ i) (h8 : a8 8 = -1) : ∃ S : Nat → Bool, S 7 = true ∧ S 8 = false ∧ gf_rs L S = 0 := by
  refine ⟨fun u => !decide (a8 u = -1), ?_, ?_, gf_rs0.mpr (fun u w hu hw hs hl => ?_)⟩
  · dsimp only
    rw [hB.1.2.2, decide_eq_false (gf_m1 (by omega))]
    rfl
  · dsimp only
    rw [decide_eq_true h8]
    rfl
  · have hu' : a8 u ≠ -1 := fun e => by
      rw [decide_eq_true e] at hs
      exact absurd hs (by decide)
    rcases hB.2.2.2.1 u hu with z | ⟨j, hj, ej⟩
    · exact absurd z hu'
    · have := hB.2.2.2.2.2.2.1 j w (by omega) hw (by rw [ej]; exact hl)
      rw [decide_eq_false this]
      rfl
end
section
variable {wf fl : Int32} {a1 a2 a3 a4 a5 a6 a9 a10 a11 a12 : Nat → Int32} {L : Nat → Nat → Nat}
theorem gf_f59 {post : Int32 → St1 → Prop} {J : Int32 → Int32 → (Nat → Int32) → (Nat → Int32) → (Nat → Int32) → (Nat → Int32) → (Nat → Int32) → (Nat → Int32) → (Nat → Int32) → (Nat → Int32) → (Nat → Int32) → (Nat → Int32) → (Nat → Int32) → (Nat → Int32) → Prop} {i : Nat}
    (hl : gf_lf a6 L) (hb : ∀ u v, u < 9 → v < 9 → L u v < 2 ^ 31) (h78 : L 7 8 = 0)
    (HJ : ∀ en a7 a8 Q d, gf_B L (i + 1) 0 en a7 a8 Q d → i + 1 ≤ en → (a8 8 = -1 ∨ gf_F8 L a8) → J (nI en) (nI (i + 1)) a1 a2 a3 a4 a5 a6 a7 a8 a9 a10 a11 a12) :
    ∀ n v en a7 a8 Q d, gf_B L i v en a7 a8 Q d → i < en → v ≤ 9 → (a8 8 = -1 ∨ (v = 9 ∧ gf_F8 L a8)) → 10 ≤ n + v → wX_findWay_59 post J (nI i) wf fl n (nI en) (nI v) a1 a2 a3 a4 a5 a6 a7 a8 a9 a10 a11 a12 := by
  intro n
  induction n with
  | zero => intro v en a7 a8 Q d _ _ h1 _ h2; omega
  | succ n ih =>
    intro v en a7 a8 Q d hB hi hv h8 hn
    have hen := gf_Be hB
    have hQi := hB.2.1 i hi
    refine pk_le 9 v (fun z => nm_r (nI_1 i) ?_) (fun z => ⟨pk_in v 9 z, ?_⟩)
    · have e : v = 9 := by omega
      subst e
      exact HJ en a7 a8 Q d (gf_Brow hB) hi (h8.imp id (fun t => t.2))
    · have h8' : a8 8 = -1 := by
        rcases h8 with t | t
        · exact t
        · exact absurd t.1 (by omega)
      have hb' := hb (Q i) v hQi.1 z
      rw [nI_clamp (show v < 2 ^ 31 by omega), nI_clamp (show i < 2 ^ 31 by omega), hQi.2]
      by_cases hv1 : a8 v = -1
      · refine br_f (by rw [hv1]; decide) ⟨pk_in i 9 (by omega), pk_in (Q i * 9 + v) 81 (by omega) (gf_i9 _ _), ?_⟩
        rw [gf_i9, nI_clamp (show Q i * 9 + v < 2 ^ 31 by omega), hl (Q i) v hQi.1 z]
        refine pk_le (L (Q i) v) 0 (fun y => nm_r (nI_1 v) (ih (v + 1) en a7 a8 Q d (gf_Bskip hB (fun t => absurd t (by omega))) hi (by omega) (Or.inl h8') (by omega))) (fun y => ?_)
        obtain ⟨he8, hB2⟩ := gf_Badd hB hi z hv1 y
        refine ⟨pk_in i 9 (by omega), pk_in v 9 z, nm_e ⟨pk_in en 9 (by omega), nm_r (e' := upd a7 en (nI v)) (by rw [nI_clamp (by omega)]) (nm_r (nI_1 en) (nm_r (nI_1 v) (ih (v + 1) (en + 1) _ _ _ _ hB2 (by omega) (by omega) ?_ (by omega))))⟩⟩
        by_cases e : v = 8
        · subst e
          exact Or.inr ⟨rfl, gf_BF hB hi h78 h8' y⟩
        · rw [pk_un (fun t => e t.symm)]
          exact Or.inl h8'
      · obtain ⟨c, hc, e⟩ := gf_Bs hB z hv1
        refine br_t (by rw [e]; exact nI_pos' (by omega)) (nm_r (nI_1 v) (ih (v + 1) en a7 a8 Q d (gf_Bskip hB (fun _ => hv1)) hi (by omega) (Or.inl h8') (by omega)))
theorem gf_f127 {post : Int32 → St1 → Prop} {i en d : Nat} {a7 a8 : Nat → Int32} {Q : Nat → Nat} (h78 : L 7 8 = 0)
    (H0 : ∀ a7 a8, (∃ S : Nat → Bool, S 7 = true ∧ S 8 = false ∧ gf_rs L S = 0) → post 0 (wf, fl, a1, a2, a3, a4, a5, a6, a7, a8, a9, a10, a11, a12))
    (H1 : ∀ a7 a8, gf_W L a8 → post 1 (wf, fl, a1, a2, a3, a4, a5, a6, a7, a8, a9, a10, a11, a12))
    (hB : gf_B L i 0 en a7 a8 Q d) (hx : en ≤ i ∨ a8 8 ≠ -1) (h8 : a8 8 = -1 ∨ gf_F8 L a8) : wX_findWay_127 post wf fl a1 a2 a3 a4 a5 a6 a7 a8 a9 a10 a11 a12 := by
  by_cases e : a8 8 = -1
  · refine br_t (by rw [e]; decide) (H0 a7 a8 (gf_noway hB (hx.resolve_right (fun t => t e)) e))
  · obtain ⟨c, hc, ec⟩ := gf_Bs hB (by omega) e
    exact br_f (by rw [ec]; exact nI_pos (by omega)) (H1 a7 a8 (gf_way hB h78 e (h8.resolve_left e)))
theorem gf_f42 {post : Int32 → St1 → Prop} (hl : gf_lf a6 L) (hb : ∀ u v, u < 9 → v < 9 → L u v < 2 ^ 31) (h78 : L 7 8 = 0)
    (H0 : ∀ a7 a8, (∃ S : Nat → Bool, S 7 = true ∧ S 8 = false ∧ gf_rs L S = 0) → post 0 (wf, fl, a1, a2, a3, a4, a5, a6, a7, a8, a9, a10, a11, a12))
    (H1 : ∀ a7 a8, gf_W L a8 → post 1 (wf, fl, a1, a2, a3, a4, a5, a6, a7, a8, a9, a10, a11, a12)) :
    ∀ n i en a7 a8 Q d, gf_B L i 0 en a7 a8 Q d → i ≤ en → (a8 8 = -1 ∨ gf_F8 L a8) → 10 ≤ n + i → wX_findWay_42 post wf fl n (nI en) (nI i) a1 a2 a3 a4 a5 a6 a7 a8 a9 a10 a11 a12 := by
  intro n
  induction n with
  | zero =>
    intro i en a7 a8 Q d hB h1 _ h2
    have := gf_Be hB
    omega
  | succ n ih =>
    intro i en a7 a8 Q d hB hi h8 hn
    have hen := gf_Be hB
    refine pk_le en i (fun z => gf_f127 h78 H0 H1 hB (Or.inl z) h8) (fun z => ?_)
    by_cases e : a8 8 = -1
    · refine br_f (by rw [e]; decide) ⟨10, gf_f59 hl hb h78 (fun en a7 a8 Q d hB' hi' h8' => ih (i + 1) en a7 a8 Q d hB' hi' h8' (by omega)) 10 0 en a7 a8 Q d hB z (by omega) (Or.inl e) (by omega)⟩
    · obtain ⟨c, hc, ec⟩ := gf_Bs hB (by omega) e
      exact br_t (by rw [ec]; exact nI_pos' (by omega)) (gf_f127 h78 H0 H1 hB (Or.inr e) h8)
theorem gf_findWay {post : Int32 → St1 → Prop} {a7 a8 : Nat → Int32} (hl : gf_lf a6 L) (hb : ∀ u v, u < 9 → v < 9 → L u v < 2 ^ 31) (h78 : L 7 8 = 0)
    (H0 : ∀ a7 a8, (∃ S : Nat → Bool, S 7 = true ∧ S 8 = false ∧ gf_rs L S = 0) → post 0 (wf, fl, a1, a2, a3, a4, a5, a6, a7, a8, a9, a10, a11, a12))
    (H1 : ∀ a7 a8, gf_W L a8 → post 1 (wf, fl, a1, a2, a3, a4, a5, a6, a7, a8, a9, a10, a11, a12)) :
    wpX_findWay post (wf, fl, a1, a2, a3, a4, a5, a6, a7, a8, a9, a10, a11, a12) :=
  pk_loop (fun n i s => wX_findWay_2 post wf fl n (nI i) a1 a2 a3 a4 a5 a6 a7 s a9 a10 a11 a12) (fun i s => ∀ j, j < i → s j = -1) 9 0 a8 (by omega)
    (fun j hj => absurd hj (by omega))
    (fun n s hs => pk_le 9 9 (fun _ => nm_e (nm_e ⟨10, gf_f42 hl hb h78 H0 H1 10 0 1 (upd a7 0 7) (upd s 7 7) (fun _ => 7) 1 (by
        have e7 : upd s 7 7 7 = nI 7 := pk_us
        have eo : ∀ u, u < 9 → u ≠ 7 → upd s 7 7 u = -1 := fun u hu hn => by rw [pk_un hn]; exact hs u hu
        refine ⟨⟨by omega, rfl, e7⟩, fun j hj => ?_, fun j h1 h2 => absurd h2 (by omega), fun u hu => ?_, ?_, fun j k h1 h2 => absurd h2 (by omega), fun j u h1 => absurd h1 (by omega), fun u h1 => absurd h1 (by omega), by omega, fun _ => rfl, fun j h1 h2 => absurd h2 (by omega), fun h1 => absurd h1 (by omega)⟩
        · have : j = 0 := by omega
          subst this
          exact ⟨show 7 < 9 by omega, pk_us⟩
        · by_cases e : u = 7
          · exact Or.inr ⟨0, by omega, e.symm⟩
          · exact Or.inl (eo u hu e)
        · have h7 : ¬ upd s 7 7 7 = -1 := by
            rw [e7]
            exact gf_m1 (by omega)
          have := gf_smU (f := fun u => if upd s 7 7 u = -1 then 0 else 1) (g := fun _ => 0) (n := 9) (a := 7) (by omega) (fun u hu hn => by rw [if_pos (eo u hu hn)])
          rw [gf_sm0 (f := fun _ => 0) (fun _ _ => rfl), if_neg h7] at this
          omega) (by omega) (Or.inl (by rw [pk_un (by omega)]; exact hs 8 (by omega))) (by omega)⟩)) (fun z => absurd z (by omega)))
    (fun n i s hi hs hw => pk_le 9 i (fun z => absurd z (by omega)) (fun _ => ⟨pk_in i 9 hi, nm_r (e' := upd s i (-1)) (by rw [nI_clamp (by omega)]) (nm_r (nI_1 i) (hw _ (fun j hj => by
      by_cases e : j = i
      · rw [e, pk_us]
      · rw [pk_un e]
        exact hs j (by omega))))⟩))
end
end
section
/-! narrowest, push, grow -/
theorem gf_psG {L : Nat → Nat → Nat} {ch : Nat → Nat} {N m : Nat} (hp : gf_pt L ch N) : ∀ i, i ≤ N → ∀ a, gf_ps L ch m i a a = L a a := by
  intro i
  induction i with
  | zero => intro _ a; rfl
  | succ i ih =>
    intro hi a
    have h3 : ch (i + 1) ≠ ch i := fun e => hp.2.2.2.1 i (i + 1) (by omega) hi e.symm
    rw [gf_psS, gf_stn (fun h => h3 (h.1.symm.trans h.2)) (fun h => h3 (h.2.symm.trans h.1))]
    exact ih (by omega) a
/-- bounds that a push keeps -/
def gf_bd (L : Nat → Nat → Nat) : Prop := (∀ u v, u < 9 → v < 9 → u ≠ v → L u v + L v u < 400000) ∧ (∀ u, u < 9 → L u u < 400000) ∧ (∀ w, w < 9 → L 7 w < 200000) ∧ L 7 8 = 0
theorem gf_bdB {L : Nat → Nat → Nat} (h : gf_bd L) : ∀ u v, u < 9 → v < 9 → L u v < 2 ^ 31 := by
  intro u v hu hv
  by_cases e : u = v
  · subst e
    have := h.2.1 u hu
    omega
  · have := h.1 u v hu hv e
    omega
theorem gf_bdP {L : Nat → Nat → Nat} {ch : Nat → Nat} {N m : Nat} (h : gf_bd L) (hp : gf_pt L ch N) (hm : ∀ i, i < N → m ≤ L (ch (i + 1)) (ch i)) : gf_bd (gf_ps L ch m N) := by
  refine ⟨fun u v hu hv hn => ?_, fun u hu => ?_, fun w hw => ?_, ?_⟩
  · rw [gf_psP hp hm N (Nat.le_refl N) u v hn]
    exact h.1 u v hu hv hn
  · rw [gf_psG hp N (Nat.le_refl N) u]
    exact h.2.1 u hu
  · have h1 := (gf_psE (m := m) hp N (Nat.le_refl N) w).1
    have h2 := h.2.2.1 w hw
    omega
  · have h1 := (gf_psE (m := m) hp N (Nat.le_refl N) 8).1
    have h2 := h.2.2.2
    omega
section
variable {wf fl : Int32} {a1 a2 a3 a4 a5 a6 a7 a8 a9 a10 a11 a12 : Nat → Int32} {L : Nat → Nat → Nat} {ch : Nat → Nat} {N : Nat}
theorem gf_narrow {post : Int32 → Prop} (hl : gf_lf a6 L) (hb : ∀ u v, u < 9 → v < 9 → L u v < 2 ^ 31) (hN : N ≤ 8) (hp : gf_pt L ch N) (hc : ∀ i, i < N → a8 (ch i) = nI (ch (i + 1)))
    (H : ∀ m, 1 ≤ m → (∀ i, i < N → m ≤ L (ch (i + 1)) (ch i)) → (m = 200000 ∨ ∃ i, i < N ∧ m = L (ch (i + 1)) (ch i)) → post (nI m)) :
    wpX_narrowest post (wf, fl, a1, a2, a3, a4, a5, a6, a7, a8, a9, a10, a11, a12) := by
  refine Exists.elim (pk_loop (fun n i s => wX_narrowest_8 post wf fl a1 a2 a3 a4 a5 a6 a7 a8 a9 a10 a11 a12 n s (nI (ch i)) (nI i)) (fun i s => ∃ m, s = nI m ∧ 1 ≤ m ∧ m ≤ 200000 ∧ (∀ j, j < i → m ≤ L (ch (j + 1)) (ch j)) ∧ (m = 200000 ∨ ∃ j, j < i ∧ m = L (ch (j + 1)) (ch j))) N 0 (200000 : Int32) (by omega) ⟨200000, rfl, by omega, by omega, fun j hj => absurd hj (by omega), Or.inl rfl⟩ ?_ ?_) (fun n hn => ?_)
  · rintro n s ⟨m, rfl, m1, m2, m3, m4⟩
    refine pk_le 9 N (fun z => absurd z (by omega)) (fun _ => br_t (by rw [hp.2.1]; rfl) (H m m1 m3 m4))
  · rintro n i s hi ⟨m, rfl, m1, m2, m3, m4⟩ hw
    have hv := hp.2.2.1 i (by omega)
    have hv' := hp.2.2.1 (i + 1) (by omega)
    have n7 : ch i ≠ 7 := fun e => hp.2.2.2.1 i N hi (Nat.le_refl N) (by rw [e, hp.2.1])
    have hpos := hp.2.2.2.2 i hi
    have hbb := hb _ _ hv' hv
    refine pk_le 9 i (fun z => absurd z (by omega)) (fun _ => pk_eq (ch i) 7 (fun z => absurd z n7) (fun _ => ⟨pk_in (ch i) 9 hv, ?_⟩))
    rw [nI_clamp (show ch i < 2 ^ 31 by omega), hc i hi, gf_i9, nI_clamp (show ch (i + 1) * 9 + ch i < 2 ^ 31 by omega), hl _ _ hv' hv]
    refine ⟨pk_in (ch (i + 1) * 9 + ch i) 81 (by omega), nm_e (pk_le m (L (ch (i + 1)) (ch i)) (fun z => ⟨pk_in (ch i) 9 hv, nm_e (nm_r (nI_1 i) (hw _ ⟨m, rfl, m1, m2, fun j hj => ?_, ?_⟩))⟩) (fun z => ⟨pk_in (ch i) 9 hv, nm_e (nm_r (nI_1 i) (hw _ ⟨L (ch (i + 1)) (ch i), rfl, by omega, by omega, fun j hj => ?_, Or.inr ⟨i, by omega, rfl⟩⟩))⟩))⟩
    · by_cases e : j = i
      · rw [e]
        exact z
      · exact m3 j (by omega)
    · rcases m4 with t | ⟨j, hj, t⟩
      · exact Or.inl t
      · exact Or.inr ⟨j, by omega, t⟩
    · by_cases e : j = i
      · rw [e]
        omega
      · have := m3 j (by omega)
        omega
  · have hn' : wX_narrowest_8 post wf fl a1 a2 a3 a4 a5 a6 a7 a8 a9 a10 a11 a12 n 200000 (nI (ch 0)) (nI 0) := hn
    rw [hp.1] at hn'
    exact ⟨n, hn'⟩
theorem gf_push {post : St1 → Prop} {m : Nat} (hl : gf_lf a6 L) (hN : N ≤ 8) (hp : gf_pt L ch N) (hc : ∀ i, i < N → a8 (ch i) = nI (ch (i + 1))) (hm : ∀ i, i < N → m ≤ L (ch (i + 1)) (ch i))
    (H : ∀ s, gf_lf s (gf_ps L ch m N) → post (wf, fl, a1, a2, a3, a4, a5, s, a7, a8, a9, a10, a11, a12)) :
    wpX_push post (wf, fl, a1, a2, a3, a4, a5, a6, a7, a8, a9, a10, a11, a12) (nI m) := by
  refine Exists.elim (pk_loop (fun n i s => wX_push_5 post (nI m) wf fl n (nI (ch i)) (nI i) a1 a2 a3 a4 a5 s a7 a8 a9 a10 a11 a12) (fun i s => gf_lf s (gf_ps L ch m i)) N 0 a6 (by omega) hl ?_ ?_) (fun n hn => ?_)
  · intro n s hs
    exact pk_le 9 N (fun z => absurd z (by omega)) (fun _ => br_t (by rw [hp.2.1]; rfl) (H s hs))
  · intro n i s hi hs hw
    have hv := hp.2.2.1 i (by omega)
    have hv' := hp.2.2.1 (i + 1) (by omega)
    have n7 : ch i ≠ 7 := fun e => hp.2.2.2.1 i N hi (Nat.le_refl N) (by rw [e, hp.2.1])
    have hne : ch (i + 1) ≠ ch i := fun e => hp.2.2.2.1 i (i + 1) (by omega) hi e.symm
    have hmi : m ≤ gf_ps L ch m i (ch (i + 1)) (ch i) := by
      rw [(gf_psB hp hi).1]
      exact hm i hi
    refine pk_le 9 i (fun z => absurd z (by omega)) (fun _ => pk_eq (ch i) 7 (fun z => absurd z n7) (fun _ => ⟨pk_in (ch i) 9 hv, ?_⟩))
    rw [nI_clamp (show ch i < 2 ^ 31 by omega), hc i hi, gf_i9, nI_clamp (show ch (i + 1) * 9 + ch i < 2 ^ 31 by omega), hs _ _ hv' hv, pk_sub hmi, gf_i9, nI_clamp (show ch i * 9 + ch (i + 1) < 2 ^ 31 by omega)]
    have h1 : gf_lf (upd s (ch (i + 1) * 9 + ch i) (nI (gf_ps L ch m i (ch (i + 1)) (ch i) - m))) _ := gf_lfU hs hv
    refine ⟨pk_in (ch (i + 1) * 9 + ch i) 81 (by omega), pk_in (ch (i + 1) * 9 + ch i) 81 (by omega), nm_e ?_⟩
    rw [h1 _ _ hv hv', gf_p2n (fun h => hne h.2), nI_add]
    exact ⟨pk_in (ch i) 9 hv, pk_in (ch i * 9 + ch (i + 1)) 81 (by omega), pk_in (ch i * 9 + ch (i + 1)) 81 (by omega), nm_e ⟨pk_in (ch i) 9 hv, nm_e (nm_r (nI_1 i) (hw _ (gf_lfU h1 hv')))⟩⟩
  · have hn' : wX_push_5 post (nI m) wf fl n (nI (ch 0)) (nI 0) a1 a2 a3 a4 a5 a6 a7 a8 a9 a10 a11 a12 := hn
    rw [hp.1] at hn'
    exact ⟨n, hn'⟩
end
section
variable {wf : Int32} {a1 a2 a3 a4 a5 a9 a10 a11 a12 : Nat → Int32} {L0 : Nat → Nat → Nat}
theorem gf_grow12 {post : St1 → Prop} {S : Nat → Bool} (h7 : S 7 = true) (h8 : S 8 = false)
    (H : ∀ f L a6 a7 a8, gf_lf a6 L → gf_bd L → (∀ S : Nat → Bool, S 7 = true → S 8 = false → gf_rs L S + f = gf_rs L0 S) → (∃ S : Nat → Bool, S 7 = true ∧ S 8 = false ∧ gf_rs L S = 0) → post (wf, nI f, a1, a2, a3, a4, a5, a6, a7, a8, a9, a10, a11, a12)) :
    ∀ n k f L r a6 a7 a8, gf_lf a6 L → gf_bd L → (∀ S : Nat → Bool, S 7 = true → S 8 = false → gf_rs L S + f = gf_rs L0 S) → ((r = 0 ∧ ∃ S : Nat → Bool, S 7 = true ∧ S 8 = false ∧ gf_rs L S = 0) ∨ (r = 1 ∧ gf_W L a8)) → gf_mu L S + k ≤ 999 → gf_mu L S < n →
      wX_grow_12 post n r (nI k) wf (nI f) a1 a2 a3 a4 a5 a6 a7 a8 a9 a10 a11 a12 := by
  intro n
  induction n with
  | zero => intro k f L r a6 a7 a8 _ _ _ _ _ h; omega
  | succ n ih =>
    intro k f L r a6 a7 a8 hl hbd hR hr hk hn
    refine pk_le 1000 k (fun z => absurd z (by omega)) (fun _ => ?_)
    rcases hr with ⟨rfl, hS⟩ | ⟨rfl, hW⟩
    · exact br_t rfl (H f L a6 a7 a8 hl hbd hR hS)
    · obtain ⟨N, ch, hN, hp, hc, h2⟩ := hW
      refine br_f (by decide) (gf_narrow hl (gf_bdB hbd) hN hp hc (fun m m1 m3 m4 => gf_push hl hN hp hc m3 (fun s hs => ?_)))
      have hbd' := gf_bdP hbd hp m3
      have hmu := gf_muD (S := S) h7 h8 hp m3 m1 m4 hbd.2.2.1 h2
      have hR' : ∀ S : Nat → Bool, S 7 = true → S 8 = false → gf_rs (gf_ps L ch m N) S + (f + m) = gf_rs L0 S := by
        intro T t7 t8
        have e1 := gf_psRN hp m3 t7 t8
        have e2 := hR T t7 t8
        omega
      exact nm_r (nI_add f m) (gf_findWay hs (gf_bdB hbd') hbd'.2.2.2
        (fun a7 a8 hS => nm_r (nI_1 k) (ih (k + 1) (f + m) _ 0 s a7 a8 hs hbd' hR' (Or.inl ⟨rfl, hS⟩) (by omega) (by omega)))
        (fun a7 a8 hW => nm_r (nI_1 k) (ih (k + 1) (f + m) _ 1 s a7 a8 hs hbd' hR' (Or.inr ⟨rfl, hW⟩) (by omega) (by omega))))
theorem gf_grow {post : St1 → Prop} {fl : Int32} {a6 a7 a8 : Nat → Int32} (hl : gf_lf a6 L0) (hbd : gf_bd L0) (hC : ∀ u v, u < 7 → v < 7 → L0 u v ≤ 20)
    (H : ∀ f L a6 a7 a8, gf_lf a6 L → gf_bd L → (∀ S : Nat → Bool, S 7 = true → S 8 = false → gf_rs L S + f = gf_rs L0 S) → (∃ S : Nat → Bool, S 7 = true ∧ S 8 = false ∧ gf_rs L S = 0) → post (wf, nI f, a1, a2, a3, a4, a5, a6, a7, a8, a9, a10, a11, a12)) :
    wpX_grow post (wf, fl, a1, a2, a3, a4, a5, a6, a7, a8, a9, a10, a11, a12) := by
  have hmu := gf_muI hC hbd.2.2.2
  have hR : ∀ S : Nat → Bool, S 7 = true → S 8 = false → gf_rs L0 S + 0 = gf_rs L0 S := fun S _ _ => rfl
  exact gf_findWay hl (gf_bdB hbd) hbd.2.2.2
    (fun a7 a8 hS => ⟨1000, gf_grow12 (gf_sS7 L0) (gf_sS8 L0) H 1000 0 0 L0 0 a6 a7 a8 hl hbd hR (Or.inl ⟨rfl, hS⟩) (by omega) (by omega)⟩)
    (fun a7 a8 hW => ⟨1000, gf_grow12 (gf_sS7 L0) (gf_sS8 L0) H 1000 0 0 L0 1 a6 a7 a8 hl hbd hR (Or.inr ⟨rfl, hW⟩) (by omega) (by omega)⟩)
end
end
section
/-! closeReach (Warshall), work -/
def gf_cl (L : Nat → Nat → Nat) (P : Nat → Nat → Prop) (k : Nat) : Prop :=
  (∀ a, a < 9 → P a a) ∧ (∀ a v, a < 9 → v < 9 → 0 < L a v → P a v) ∧
  (∀ S : Nat → Bool, (∀ u v, u < 9 → v < 9 → S u = true → 0 < L u v → S v = true) → ∀ u v, u < 9 → v < 9 → S u = true → P u v → S v = true) ∧
  (∀ j a v, j < k → a < 9 → v < 9 → P a j → P j v → P a v)
theorem gf_clS {L : Nat → Nat → Nat} {P : Nat → Nat → Prop} {k : Nat} (hk : k < 9) (h : gf_cl L P k) : gf_cl L (fun a v => P a v ∨ (P a k ∧ P k v)) (k + 1) := by
  obtain ⟨h1, h2, h3, h4⟩ := h
  refine ⟨fun a ha => Or.inl (h1 a ha), fun a v ha hv hl => Or.inl (h2 a v ha hv hl), fun S hS u v hu hv hs hP => ?_, fun j a v hj ha hv p1 p2 => ?_⟩
  · rcases hP with t | ⟨t1, t2⟩
    · exact h3 S hS u v hu hv hs t
    · exact h3 S hS k v hk hv (h3 S hS u k hu hk hs t1) t2
  · by_cases e : j = k
    · subst e
      have q1 : P a j := p1.elim id (fun t => t.1)
      have q2 : P j v := p2.elim id (fun t => t.2)
      exact Or.inr ⟨q1, q2⟩
    · have hj' : j < k := by omega
      rcases p1 with t | ⟨t1, t2⟩
      · rcases p2 with s | ⟨s1, s2⟩
        · exact Or.inl (h4 j a v hj' ha hv t s)
        · exact Or.inr ⟨h4 j a k hj' ha hk t s1, s2⟩
      · rcases p2 with s | ⟨s1, s2⟩
        · exact Or.inr ⟨t1, h4 j k v hj' hk hv t2 s⟩
        · exact Or.inr ⟨t1, s2⟩
section
variable {wf fl : Int32} {a1 a2 a3 a4 a5 a6 a7 a8 a9 a10 a11 a12 : Nat → Int32} {L : Nat → Nat → Nat}
theorem gf_r19 {post : St1 → Prop} {J : Int32 → (Nat → Int32) → (Nat → Int32) → (Nat → Int32) → (Nat → Int32) → (Nat → Int32) → (Nat → Int32) → (Nat → Int32) → (Nat → Int32) → (Nat → Int32) → (Nat → Int32) → (Nat → Int32) → (Nat → Int32) → Prop} {u : Nat} (hu : u < 9) (hl : gf_lf a6 L) (hb : ∀ u v, u < 9 → v < 9 → L u v < 2 ^ 31) (h0 : gf_bm 9 (a9 u) (fun v => v = u))
    (H : ∀ s, (∀ a, a ≠ u → s a = a9 a) → gf_bm 9 (s u) (fun v => v = u ∨ 0 < L u v) → J (nI (u + 1)) a1 a2 a3 a4 a5 a6 a7 a8 s a10 a11 a12) :
    ∃ n, wX_closeReach_19 post J (nI u) wf fl n 0 a1 a2 a3 a4 a5 a6 a7 a8 a9 a10 a11 a12 := by
  refine pk_loop (fun n i s => wX_closeReach_19 post J (nI u) wf fl n (nI i) a1 a2 a3 a4 a5 a6 a7 a8 s a10 a11 a12) (fun i s => (∀ a, a ≠ u → s a = a9 a) ∧ gf_bm 9 (s u) (fun v => v = u ∨ (v < i ∧ 0 < L u v))) 9 0 a9 (by omega) ⟨fun _ _ => rfl, gf_bmC h0 (fun v _ => ⟨Or.inl, fun t => t.elim id (fun t => absurd t.1 (by omega))⟩)⟩ ?_ ?_
  · intro n s hs
    exact pk_le 9 9 (fun _ => nm_r (nI_1 u) (H s hs.1 (gf_bmC hs.2 (fun v hv => ⟨fun t => t.imp id (fun t => t.2), fun t => t.imp id (fun t => ⟨hv, t⟩)⟩)))) (fun z => absurd z (by omega))
  · intro n i s hi hs hw
    have hbb := hb u i hu hi
    refine pk_le 9 i (fun z => absurd z (by omega)) (fun _ => ⟨pk_in (u * 9 + i) 81 (by omega) (gf_i9 u i), ?_⟩)
    rw [gf_i9, nI_clamp (show u * 9 + i < 2 ^ 31 by omega), hl u i hu hi]
    refine pk_le (L u i) 0 (fun z => nm_r (nI_1 i) (hw s ⟨hs.1, gf_bmC hs.2 (fun v _ => ⟨fun t => t.imp id (fun t => ⟨by omega, t.2⟩), fun t => t.imp id (fun t => ⟨?_, t.2⟩)⟩)⟩)) (fun z => ⟨pk_in u 9 hu, pk_in u 9 hu, nm_r (e' := upd s u (s u ||| ((1 : Int32) <<< (nI i &&& 31)))) (by rw [nI_clamp (by omega)]) (nm_r (nI_1 i) (hw _ ⟨fun a ha => ?_, ?_⟩))⟩)
    · by_cases e : v = i
      · rw [e] at t
        exact absurd t.2 (by omega)
      · omega
    · rw [pk_un ha]
      exact hs.1 a ha
    · rw [pk_us]
      refine gf_bmC (gf_bmO hs.2 (gf_bm1 hi (by omega))) (fun v _ => ⟨?_, ?_⟩)
      · rintro ((t | t) | t)
        · exact Or.inl t
        · exact Or.inr ⟨by omega, t.2⟩
        · rw [t]
          exact Or.inr ⟨by omega, z⟩
      · rintro (t | t)
        · exact Or.inl (Or.inl t)
        · by_cases e : v = i
          · exact Or.inr e
          · exact Or.inl (Or.inr ⟨by omega, t.2⟩)
theorem gf_r73 {post : St1 → Prop} {J : Int32 → (Nat → Int32) → (Nat → Int32) → (Nat → Int32) → (Nat → Int32) → (Nat → Int32) → (Nat → Int32) → (Nat → Int32) → (Nat → Int32) → (Nat → Int32) → (Nat → Int32) → (Nat → Int32) → (Nat → Int32) → Prop} {k : Nat} (hk : k < 9) {P : Nat → Nat → Prop} (h0 : ∀ a, a < 9 → gf_bm 9 (a9 a) (P a))
    (H : ∀ s, (∀ a, a < 9 → gf_bm 9 (s a) (fun v => P a v ∨ (P a k ∧ P k v))) → J (nI (k + 1)) a1 a2 a3 a4 a5 a6 a7 a8 s a10 a11 a12) :
    ∃ n, wX_closeReach_73 post J (nI k) wf fl n 0 a1 a2 a3 a4 a5 a6 a7 a8 a9 a10 a11 a12 := by
  refine pk_loop (fun n i s => wX_closeReach_73 post J (nI k) wf fl n (nI i) a1 a2 a3 a4 a5 a6 a7 a8 s a10 a11 a12) (fun i s => ∀ a, a < 9 → gf_bm 9 (s a) (fun v => P a v ∨ (a < i ∧ P a k ∧ P k v))) 9 0 a9 (by omega) (fun a ha => gf_bmC (h0 a ha) (fun v _ => ⟨Or.inl, fun t => t.elim id (fun t => absurd t.1 (by omega))⟩)) ?_ ?_
  · intro n s hs
    exact pk_le 9 9 (fun _ => nm_r (nI_1 k) (H s (fun a ha => gf_bmC (hs a ha) (fun v _ => ⟨fun t => t.imp id (fun t => t.2), fun t => t.imp id (fun t => ⟨ha, t⟩)⟩)))) (fun z => absurd z (by omega))
  · intro n i s hi hs hw
    refine pk_le 9 i (fun z => absurd z (by omega)) (fun _ => ⟨pk_in i 9 hi, ?_⟩)
    rw [nI_clamp (show i < 2 ^ 31 by omega), nI_clamp (show k < 2 ^ 31 by omega)]
    have hi' : gf_bm 9 (s i) (P i) := gf_bmC (hs i hi) (fun v _ => ⟨fun t => t.elim id (fun t => absurd t.1 (by omega)), Or.inl⟩)
    have hk' : gf_bm 9 (s k) (P k) := gf_bmC (hs k hk) (fun v _ => ⟨fun t => t.elim id (fun t => t.2.2), Or.inl⟩)
    refine gf_bmI hi' (by omega) hk rfl (fun hP => br_f (by decide) ⟨pk_in i 9 hi, pk_in k 9 hk, pk_in i 9 hi, nm_e (nm_r (nI_1 i) (hw _ (fun a ha => ?_)))⟩) (fun hP => br_t rfl (nm_r (nI_1 i) (hw _ (fun a ha => ?_))))
    · by_cases e : a = i
      · subst e
        rw [pk_us]
        refine gf_bmC (gf_bmO hi' hk') (fun v _ => ⟨?_, ?_⟩)
        · rintro (t | t)
          · exact Or.inl t
          · exact Or.inr ⟨by omega, hP, t⟩
        · rintro (t | t)
          · exact Or.inl t
          · exact Or.inr t.2.2
      · rw [pk_un e]
        exact gf_bmC (hs a ha) (fun v _ => ⟨fun t => t.imp id (fun t => ⟨by omega, t.2⟩), fun t => t.imp id (fun t => ⟨by omega, t.2⟩)⟩)
    · by_cases e : a = i
      · subst e
        exact gf_bmC hi' (fun v _ => ⟨Or.inl, fun t => t.elim id (fun t => absurd t.2.1 hP)⟩)
      · exact gf_bmC (hs a ha) (fun v _ => ⟨fun t => t.imp id (fun t => ⟨by omega, t.2⟩), fun t => t.imp id (fun t => ⟨by omega, t.2⟩)⟩)
theorem gf_r65 {post : St1 → Prop} {P : Nat → Nat → Prop} (h0 : ∀ a, a < 9 → gf_bm 9 (a9 a) (P a)) (hP : gf_cl L P 0)
    (H : ∀ s P, (∀ a, a < 9 → gf_bm 9 (s a) (P a)) → gf_cl L P 9 → post (wf, fl, a1, a2, a3, a4, a5, a6, a7, a8, s, a10, a11, a12)) :
    ∃ n, wX_closeReach_65 post wf fl n 0 a1 a2 a3 a4 a5 a6 a7 a8 a9 a10 a11 a12 := by
  refine pk_loop (fun n i s => wX_closeReach_65 post wf fl n (nI i) a1 a2 a3 a4 a5 a6 a7 a8 s a10 a11 a12) (fun i s => ∃ P : Nat → Nat → Prop, (∀ a, a < 9 → gf_bm 9 (s a) (P a)) ∧ gf_cl L P i) 9 0 a9 (by omega) ⟨P, h0, hP⟩ ?_ ?_
  · rintro n s ⟨P, h1, h2⟩
    exact pk_le 9 9 (fun _ => H s P h1 h2) (fun z => absurd z (by omega))
  · rintro n i s hi ⟨P, h1, h2⟩ hw
    exact pk_le 9 i (fun z => absurd z (by omega)) (fun _ => gf_r73 hi h1 (fun s' hs' => hw s' ⟨_, hs', gf_clS hi h2⟩))
theorem gf_closeReach {post : St1 → Prop} (hl : gf_lf a6 L) (hb : ∀ u v, u < 9 → v < 9 → L u v < 2 ^ 31)
    (H : ∀ s P, (∀ a, a < 9 → gf_bm 9 (s a) (P a)) → gf_cl L P 9 → post (wf, fl, a1, a2, a3, a4, a5, a6, a7, a8, s, a10, a11, a12)) :
    wpX_closeReach post (wf, fl, a1, a2, a3, a4, a5, a6, a7, a8, a9, a10, a11, a12) := by
  refine pk_loop (fun n i s => wX_closeReach_2 post wf fl n (nI i) a1 a2 a3 a4 a5 a6 a7 a8 s a10 a11 a12) (fun i s => ∀ a, a < i → gf_bm 9 (s a) (fun v => v = a ∨ 0 < L a v)) 9 0 a9 (by omega) (fun a ha => absurd ha (by omega)) ?_ ?_
  · intro n s hs
    refine pk_le 9 9 (fun _ => gf_r65 (P := fun a v => v = a ∨ 0 < L a v) hs ⟨fun a _ => Or.inl rfl, fun a v _ _ hl => Or.inr hl, fun S hS u v hu hv h1 h2 => ?_, fun j a v hj => absurd hj (by omega)⟩ H) (fun z => absurd z (by omega))
    rcases h2 with t | t
    · rw [t]
      exact h1
    · exact hS u v hu hv h1 t
  · intro n i s hi hs hw
    refine pk_le 9 i (fun z => absurd z (by omega)) (fun _ => ⟨pk_in i 9 hi, nm_r (e' := upd s i ((1 : Int32) <<< (nI i &&& 31))) (by rw [nI_clamp (by omega)]) (gf_r19 hi hl hb (by rw [pk_us]; exact gf_bm1 hi (by omega)) (fun s' h1 h2 => hw s' (fun a ha => ?_)))⟩)
    by_cases e : a = i
    · rw [e]
      exact h2
    · rw [h1 a e, pk_un e]
      exact hs a (by omega)
end
theorem gf_L0b {C : Nat → Nat → Nat} {p q : Nat → Nat} (hC : ∀ u v, u < 7 → v < 7 → C u v ≤ 20) (hp : ∀ v, v < 7 → p v ≤ 150000) (hq : ∀ v, v < 7 → q v ≤ 150000) (u v : Nat) : gf_L0 C p q u v ≤ 150000 := by
  unfold gf_L0
  by_cases hv : v < 7
  · rw [if_pos hv]
    by_cases hu : u < 7
    · rw [if_pos hu]
      have := hC u v hu hv
      omega
    · rw [if_neg hu]
      by_cases h7 : u = 7
      · rw [if_pos h7]
        exact hp v hv
      · rw [if_neg h7]
        omega
  · rw [if_neg hv]
    by_cases h8 : v = 8 ∧ u < 7
    · rw [if_pos h8]
      exact hq u h8.2
    · rw [if_neg h8]
      omega
theorem gf_L0d {C : Nat → Nat → Nat} {p q : Nat → Nat} (hC : ∀ u v, u < 7 → v < 7 → C u v ≤ 20) (hp : ∀ v, v < 7 → p v ≤ 150000) (hq : ∀ v, v < 7 → q v ≤ 150000) : gf_bd (gf_L0 C p q) := by
  have h := gf_L0b hC hp hq
  refine ⟨fun u v _ _ _ => ?_, fun u _ => ?_, fun w _ => ?_, gf_L078⟩
  · have h1 := h u v
    have h2 := h v u
    omega
  · have h1 := h u u
    omega
  · have h1 := h 7 w
    omega
/-- the cost of the mask s at x -/
def gf_c (a1 a2 a3 a4 a5 : Nat → Int32) (x : Nat) : Nat → Nat := fun s => gf_co (gf_C a1) (gf_p a2 a3 x) (gf_p a4 a5 x) (gf_S s)
/-- flow f and reach a9 are right for the costs c -/
def gf_gd (c : Nat → Nat) (f : Nat) (a9 : Nat → Int32) : Prop := gf_mn c f ∧ ∃ P : Nat → Nat → Prop, (∀ a, a < 9 → gf_bm 9 (a9 a) (P a)) ∧ (∀ a, a < 9 → P a a) ∧ (∀ j a v, j < 9 → a < 9 → v < 9 → P a j → P j v → P a v) ∧
  (∀ s, s < 128 → (c s = f ↔ ∀ u v, u < 9 → v < 9 → gf_S s u = true → P u v → gf_S s v = true))
def gf_wk (wf fl : Int32) (a1 a2 a3 a4 a5 a9 : Nat → Int32) : Prop := ∀ x, x ≤ 50 → wf = nI x → ∃ f, fl = nI f ∧ gf_gd (gf_c a1 a2 a3 a4 a5 x) f a9
theorem gf_gdI {C : Nat → Nat → Nat} {p q : Nat → Nat} {L : Nat → Nat → Nat} {P : Nat → Nat → Prop} {f : Nat} {a9 : Nat → Int32} (hs : ∀ u v, u < 7 → v < 7 → C u v = C v u)
    (hR : ∀ S : Nat → Bool, S 7 = true → S 8 = false → gf_rs L S + f = gf_rs (gf_L0 C p q) S) (hz : ∃ S : Nat → Bool, S 7 = true ∧ S 8 = false ∧ gf_rs L S = 0) (h9 : ∀ a, a < 9 → gf_bm 9 (a9 a) (P a)) (hP : gf_cl L P 9) : gf_gd (fun s => gf_co C p q (gf_S s)) f a9 := by
  have hR' : ∀ S : Nat → Bool, S 7 = true → S 8 = false → gf_rs L S + f = gf_co C p q S := fun S h7 h8 => by rw [hR S h7 h8, gf_rsL0 hs h7 h8]
  obtain ⟨p1, p2, p3, p4⟩ := hP
  refine ⟨gf_mf hR' hz, P, h9, p1, p4, fun s _ => ?_⟩
  have h := hR' (gf_S s) rfl rfl
  have e : gf_co C p q (gf_S s) = f ↔ gf_rs L (gf_S s) = 0 := by omega
  show gf_co C p q (gf_S s) = f ↔ _
  rw [e, gf_rs0]
  exact ⟨fun t => p3 (gf_S s) t, fun t u v hu hv h1 h2 => t u v hu hv h1 (p2 u v hu hv h2)⟩
section
variable {wf fl : Int32} {a1 a2 a3 a4 a5 a6 a7 a8 a9 a10 a11 a12 : Nat → Int32}
theorem gf_work {post : St1 → Prop} {x : Nat} (hcf : gf_cf a1 a2 a3 a4 a5) (hwk : gf_wk wf fl a1 a2 a3 a4 a5 a9) (hx : x ≤ 50)
    (H : ∀ f a6 a7 a8 a9, gf_gd (gf_c a1 a2 a3 a4 a5 x) f a9 → post (nI x, nI f, a1, a2, a3, a4, a5, a6, a7, a8, a9, a10, a11, a12)) :
    wpX_work post (wf, fl, a1, a2, a3, a4, a5, a6, a7, a8, a9, a10, a11, a12) (nI x) := by
  refine br_c (fun z => ?_) (fun _ => gf_load hx hcf (fun s hs => ?_))
  · obtain ⟨f, e, hg⟩ := hwk x hx z
    subst z
    subst e
    exact H f a6 a7 a8 a9 hg
  · have hC : ∀ u v, u < 7 → v < 7 → gf_C a1 u v ≤ 20 := fun u v hu hv => (hcf.1 u v hu hv).2.1
    have hb := gf_L0d (p := gf_p a2 a3 x) (q := gf_p a4 a5 x) hC (fun v hv => Nat.le_trans (gf_plB (hcf.2 v hv).1 hx) (by omega)) (fun v hv => Nat.le_trans (gf_plB (hcf.2 v hv).2 hx) (by omega))
    refine gf_grow hs hb (fun u v hu hv => by rw [gf_L0i hu hv]; exact hC u v hu hv) (fun f L a6 a7 a8 hl hbd hR hz => gf_closeReach hl (gf_bdB hbd) (fun s P h9 hP => H f a6 a7 a8 s (gf_gdI (fun u v hu hv => (hcf.1 u v hu hv).2.2) hR hz h9 hP)))
end
end
section
/-! the state as a whole; least, always, ever, cost -/
def gf_iv (u : St1) : Prop := match u with
  | (wf, fl, a1, a2, a3, a4, a5, a6, a7, a8, a9, a10, a11, a12) => gf_cf a1 a2 a3 a4 a5 ∧ gf_wk wf fl a1 a2 a3 a4 a5 a9
def gf_cu (u : St1) : Nat → Nat → Nat := match u with
  | (wf, fl, a1, a2, a3, a4, a5, a6, a7, a8, a9, a10, a11, a12) => gf_c a1 a2 a3 a4 a5
def gf_cp (u : St1) : Nat → Nat → Nat := match u with
  | (wf, fl, a1, a2, a3, a4, a5, a6, a7, a8, a9, a10, a11, a12) => gf_C a1
theorem gf_wkI {a1 a2 a3 a4 a5 a9 : Nat → Int32} {x f : Nat} (hx : x ≤ 50) (hg : gf_gd (gf_c a1 a2 a3 a4 a5 x) f a9) : gf_wk (nI x) (nI f) a1 a2 a3 a4 a5 a9 := by
  intro y hy e
  have : x = y := (nI_eq (by omega) (by omega)).mp e
  subst this
  exact ⟨f, rfl, hg⟩
theorem gf_wkN {fl : Int32} {a1 a2 a3 a4 a5 a9 : Nat → Int32} : gf_wk (-1) fl a1 a2 a3 a4 a5 a9 := fun y hy e => absurd e.symm (gf_m1 (by omega))
theorem gf_badX {post : Int32 → Prop} {x : Nat} (hx : x ≤ 50) (h : post 0) : wpX_badX post () (nI x) := br_f (nI_pos (by omega)) (pk_le x 50 (fun _ => h) (fun z => absurd z (by omega)))
theorem gf_bad {post : Int32 → Prop} {v : Nat} (hv : v < 7) (h : post 0) : wpX_bad post () (nI v) := br_f (nI_pos (by omega)) (pk_lt v 7 (fun _ => h) (fun z => absurd z (by omega)))
theorem gf_least {post : Int32 → St1 → Prop} {u : St1} {x : Nat} (hI : gf_iv u) (hx : x ≤ 50) (H : ∀ l u', gf_iv u' → gf_cu u' = gf_cu u → gf_cp u' = gf_cp u → gf_mn (gf_cu u x) l → post (nI l) u') : wpX_least post u (nI x) := by
  obtain ⟨wf, fl, a1, a2, a3, a4, a5, a6, a7, a8, a9, a10, a11, a12⟩ := u
  obtain ⟨hcf, hwk⟩ := hI
  unfold wpX_least
  refine gf_badX hx ?_
  exact (br_t rfl (gf_work hcf hwk hx (fun f a6 a7 a8 a9 hg => H f _ ⟨hcf, gf_wkI hx hg⟩ rfl rfl hg.1)))
theorem gf_Sc {s u : Nat} (hu : u < 9) (h : gf_S s u = true) : u = 7 ∨ (u < 7 ∧ s.testBit u = true) := by
  by_cases e : u = 7
  · exact Or.inl e
  · by_cases e8 : u = 8
    · rw [e8] at h
      exact absurd h (by rw [gf_S8]; decide)
    · refine Or.inr ⟨by omega, ?_⟩
      rw [gf_Sv (by omega)] at h
      exact h
/-- a: the smallest of the least cuts; e: the greatest -/
def gf_al (c : Nat → Nat) (a : Nat) : Prop := a < 128 ∧ gf_mn c (c a) ∧ ∀ s, s < 128 → c s = c a → ∀ v, v < 7 → a.testBit v = true → s.testBit v = true
def gf_ev (c : Nat → Nat) (e : Nat) : Prop := e < 128 ∧ gf_mn c (c e) ∧ ∀ s, s < 128 → c s = c e → ∀ v, v < 7 → s.testBit v = true → e.testBit v = true
section
variable {c : Nat → Nat} {f : Nat} {P : Nat → Nat → Prop}
theorem gf_no78 (hm : gf_mn c f) (hc : ∀ s, s < 128 → (c s = f ↔ ∀ u v, u < 9 → v < 9 → gf_S s u = true → P u v → gf_S s v = true)) : ¬ P 7 8 := by
  intro h
  obtain ⟨⟨s, hs, e⟩, _⟩ := hm
  have := (hc s hs).mp e 7 8 (by omega) (by omega) (gf_S7 s) h
  rw [gf_S8] at this
  exact absurd this (by decide)
theorem gf_gdA (hm : gf_mn c f) (hr : ∀ a, a < 9 → P a a) (ht : ∀ j a v, j < 9 → a < 9 → v < 9 → P a j → P j v → P a v) (hc : ∀ s, s < 128 → (c s = f ↔ ∀ u v, u < 9 → v < 9 → gf_S s u = true → P u v → gf_S s v = true)) {y : Int32} (hb : gf_bm 7 y (P 7)) : ∃ a, y = nI a ∧ c a = f ∧ gf_al c a ∧ ∀ v, v < 7 → (a.testBit v = true ↔ P 7 v) := by
  have h78 := gf_no78 hm hc
  obtain ⟨a, ha, rfl, hb⟩ := hb
  have hcl : c a = f := by
    refine (hc a ha).mpr (fun u v hu hv hs hp => ?_)
    have h7u : P 7 u := by
      rcases gf_Sc hu hs with t | ⟨t1, t2⟩
      · rw [t]
        exact hr 7 (by omega)
      · exact (hb u t1).mp t2
    have h7v := ht u 7 v hu (by omega) hv h7u hp
    by_cases e7 : v = 7
    · rw [e7]
      exact gf_S7 a
    · by_cases e8 : v = 8
      · rw [e8] at h7v
        exact absurd h7v h78
      · rw [gf_Sv (by omega)]
        exact (hb v (by omega)).mpr h7v
  refine ⟨a, rfl, hcl, ⟨ha, by rw [hcl]; exact hm, fun s hs e v hv hbit => ?_⟩, hb⟩
  have := (hc s hs).mp (e.trans hcl) 7 v (by omega) (by omega) (gf_S7 s) ((hb v hv).mp hbit)
  rw [gf_Sv hv] at this
  exact this
theorem gf_gdE (hm : gf_mn c f) (hr : ∀ a, a < 9 → P a a) (ht : ∀ j a v, j < 9 → a < 9 → v < 9 → P a j → P j v → P a v) (hc : ∀ s, s < 128 → (c s = f ↔ ∀ u v, u < 9 → v < 9 → gf_S s u = true → P u v → gf_S s v = true)) {y : Int32} (hb : gf_bm 7 y (fun v => ¬ P v 8)) : ∃ e, y = nI e ∧ c e = f ∧ gf_ev c e ∧ ∀ v, v < 7 → (e.testBit v = true ↔ ¬ P v 8) := by
  have h78 := gf_no78 hm hc
  obtain ⟨a, ha, rfl, hb⟩ := hb
  have hcl : c a = f := by
    refine (hc a ha).mpr (fun u v hu hv hs hp => ?_)
    have hu8 : ¬ P u 8 := by
      rcases gf_Sc hu hs with t | ⟨t1, t2⟩
      · rw [t]
        exact h78
      · exact (hb u t1).mp t2
    have hv8 : ¬ P v 8 := fun t => hu8 (ht v u 8 hv hu (by omega) hp t)
    by_cases e7 : v = 7
    · rw [e7]
      exact gf_S7 a
    · by_cases e8 : v = 8
      · rw [e8] at hv8
        exact absurd (hr 8 (by omega)) hv8
      · rw [gf_Sv (by omega)]
        exact (hb v (by omega)).mpr hv8
  refine ⟨a, rfl, hcl, ⟨ha, by rw [hcl]; exact hm, fun s hs e v hv hbit => ?_⟩, hb⟩
  refine (hb v hv).mpr (fun t => ?_)
  have := (hc s hs).mp (e.trans hcl) v 8 (by omega) (by omega) (by rw [gf_Sv hv]; exact hbit) t
  rw [gf_S8] at this
  exact absurd this (by decide)
end
section
variable {wf fl : Int32} {a1 a2 a3 a4 a5 a6 a7 a8 a9 a10 a11 a12 : Nat → Int32}
theorem gf_great {post : Int32 → Prop} {P : Nat → Nat → Prop} (h9 : ∀ a, a < 9 → gf_bm 9 (a9 a) (P a)) (H : ∀ r, gf_bm 7 r (fun v => ¬ P v 8) → post r) : wpX_greatestSide post (wf, fl, a1, a2, a3, a4, a5, a6, a7, a8, a9, a10, a11, a12) := by
  refine pk_loop (fun n i s => wX_greatestSide_4 post wf fl a1 a2 a3 a4 a5 a6 a7 a8 a9 a10 a11 a12 n s (nI i)) (fun i s => gf_bm 7 s (fun v => v < i ∧ ¬ P v 8)) 7 0 (0 : Int32) (by omega) (gf_bmC gf_bm0 (fun v _ => ⟨fun t => t.elim, fun t => absurd t.1 (by omega)⟩)) ?_ ?_
  · intro n s hs
    exact pk_le 7 7 (fun _ => H s (gf_bmC hs (fun v hv => ⟨fun t => t.2, fun t => ⟨hv, t⟩⟩))) (fun z => absurd z (by omega))
  · intro n i s hi hs hw
    refine pk_le 7 i (fun z => absurd z (by omega)) (fun _ => ⟨pk_in i 9 (by omega), ?_⟩)
    rw [nI_clamp (show i < 2 ^ 31 by omega)]
    refine gf_bmI (v := 8) (h9 i (by omega)) (by omega) (by omega) rfl (fun hP => br_f (by decide) (nm_r (nI_1 i) (hw s (gf_bmC hs (fun v _ => ⟨fun t => ⟨by omega, t.2⟩, fun t => ⟨?_, t.2⟩⟩))))) (fun hP => br_t rfl (nm_e (nm_r (nI_1 i) (hw _ (gf_bmC (gf_bmO hs (gf_bm1 hi (by omega))) (fun v _ => ⟨?_, ?_⟩))))))
    · by_cases e : v = i
      · rw [e] at t
        exact absurd hP t.2
      · omega
    · rintro (t | t)
      · exact ⟨by omega, t.2⟩
      · rw [t]
        exact ⟨by omega, hP⟩
    · intro t
      by_cases e : v = i
      · exact Or.inr e
      · exact Or.inl ⟨by omega, t.2⟩
theorem gf_c48 {post : Int32 → Prop} {J : Int32 → Int32 → Prop} {m x v t : Nat} {h x3 : Int32} (hm : m < 2 ^ 31) (hv : v < 7) (hcf : gf_cf a1 a2 a3 a4 a5) (hh : h = cond (m.testBit v) 1 0) (hx3 : x3 = nI t)
    (H : J (nI (t + gf_sm (fun u => cond (gf_S m u == gf_S m v) 0 (gf_C a1 u v)) v)) (nI (v + 1))) :
    ∃ n, wX_costOf_48 post J (nI m) (nI x) (nI v) h wf fl a1 a2 a3 a4 a5 a6 a7 a8 a9 a10 a11 a12 n x3 0 := by
  subst hx3
  subst hh
  refine pk_loop (fun n i s => wX_costOf_48 post J (nI m) (nI x) (nI v) (cond (m.testBit v) 1 0) wf fl a1 a2 a3 a4 a5 a6 a7 a8 a9 a10 a11 a12 n s (nI i)) (fun i s => s = nI (t + gf_sm (fun u => cond (gf_S m u == gf_S m v) 0 (gf_C a1 u v)) i)) v 0 (nI t) (by omega) rfl ?_ ?_
  · rintro n s rfl
    exact pk_le v v (fun _ => nm_r (nI_1 v) H) (fun z => absurd z (by omega))
  · rintro n i s hi rfl hw
    refine pk_le v i (fun z => absurd z (by omega)) (fun _ => gf_inT hm (by omega) rfl rfl ?_)
    have hw' := hw _ rfl
    have eS : (gf_S m i == gf_S m v) = (m.testBit i == m.testBit v) := by rw [gf_Sv (show i < 7 by omega), gf_Sv hv]
    rw [gf_smS, eS] at hw'
    refine br_c (fun z => nm_r (nI_1 i) ?_) (fun z => ⟨pk_in (i * 7 + v) 49 (by omega) (gf_i7 i v), nm_r (e' := nI (t + (gf_sm (fun u => cond (gf_S m u == gf_S m v) 0 (gf_C a1 u v)) i + gf_C a1 i v))) ?_ (nm_r (nI_1 i) ?_)⟩)
    · have e : m.testBit i = m.testBit v := by
        revert z
        cases m.testBit i <;> cases m.testBit v <;> decide
      rw [e, beq_self_eq_true] at hw'
      exact hw'
    · rw [gf_i7, nI_clamp (by omega), (hcf.1 i v (by omega) hv).1, nI_add]
      exact congrArg nI (by omega)
    · have e : (m.testBit i == m.testBit v) = false := by
        revert z
        cases m.testBit i <;> cases m.testBit v <;> decide
      rw [e] at hw'
      exact hw'
theorem gf_cost5 {post : Int32 → Prop} {m x : Nat} (hm : m < 2 ^ 31) (hx : x ≤ 50) (hcf : gf_cf a1 a2 a3 a4 a5) (H : post (nI (gf_c a1 a2 a3 a4 a5 x m))) : wpX_costOf post (wf, fl, a1, a2, a3, a4, a5, a6, a7, a8, a9, a10, a11, a12) (nI m) (nI x) := by
  refine pk_loop (fun n i s => wX_costOf_5 post (nI m) (nI x) wf fl a1 a2 a3 a4 a5 a6 a7 a8 a9 a10 a11 a12 n s (nI i)) (fun i s => s = nI (gf_sm (fun v => cond (gf_S m v) (gf_p a4 a5 x v) (gf_p a2 a3 x v) + gf_sm (fun u => cond (gf_S m u == gf_S m v) 0 (gf_C a1 u v)) v) i)) 7 0 (0 : Int32) (by omega) rfl ?_ ?_
  · rintro n s rfl
    exact pk_le 7 7 (fun _ => H) (fun z => absurd z (by omega))
  · rintro n i s hi rfl hw
    refine pk_le 7 i (fun z => absurd z (by omega)) (fun _ => gf_inT hm (by omega) rfl rfl ?_)
    have hw' := hw _ rfl
    rw [gf_smS, gf_Sv hi] at hw'
    cases e : m.testBit i
    · rw [e] at hw'
      refine br_t rfl (gf_srcP hi hx (hcf.2 i hi).1 (nm_r (nI_add _ _) (gf_c48 hm hi hcf (by rw [e]) rfl ?_)))
      rw [gf_Sv hi, e]
      rw [cond_false, ← Nat.add_assoc] at hw'
      exact hw'
    · rw [e] at hw'
      refine br_f (by decide) (gf_snkP hi hx (hcf.2 i hi).2 (nm_r (nI_add _ _) (gf_c48 hm hi hcf (by rw [e]) rfl ?_)))
      rw [gf_Sv hi, e]
      rw [cond_true, ← Nat.add_assoc] at hw'
      exact hw'
end
theorem gf_always {post : Int32 → St1 → Prop} {u : St1} {x : Nat} (hI : gf_iv u) (hx : x ≤ 50) (H : ∀ a u', gf_iv u' → gf_cu u' = gf_cu u → gf_cp u' = gf_cp u → gf_al (gf_cu u x) a → post (nI a) u') : wpX_always post u (nI x) := by
  obtain ⟨wf, fl, a1, a2, a3, a4, a5, a6, a7, a8, a9, a10, a11, a12⟩ := u
  obtain ⟨hcf, hwk⟩ := hI
  unfold wpX_always
  refine gf_badX hx ?_
  refine br_t rfl (gf_work hcf hwk hx (fun f a6 a7 a8 a9 hg => ?_))
  have hg' := hg
  obtain ⟨hm, P, h9, hr, ht, hc⟩ := hg
  obtain ⟨a, ea, _, hal, _⟩ := gf_gdA hm hr ht hc (gf_bm7 (h9 7 (by omega)))
  have h := H a (nI x, nI f, a1, a2, a3, a4, a5, a6, a7, a8, a9, a10, a11, a12) ⟨hcf, gf_wkI hx hg'⟩ rfl rfl hal
  rw [← ea] at h
  exact h
theorem gf_ever {post : Int32 → St1 → Prop} {u : St1} {x : Nat} (hI : gf_iv u) (hx : x ≤ 50) (H : ∀ e u', gf_iv u' → gf_cu u' = gf_cu u → gf_cp u' = gf_cp u → gf_ev (gf_cu u x) e → post (nI e) u') : wpX_ever post u (nI x) := by
  obtain ⟨wf, fl, a1, a2, a3, a4, a5, a6, a7, a8, a9, a10, a11, a12⟩ := u
  obtain ⟨hcf, hwk⟩ := hI
  unfold wpX_ever
  refine gf_badX hx ?_
  refine br_t rfl (gf_work hcf hwk hx (fun f a6 a7 a8 a9 hg => ?_))
  have hg' := hg
  obtain ⟨hm, P, h9, hr, ht, hc⟩ := hg
  refine gf_great h9 (fun r hr' => ?_)
  obtain ⟨e, ee, _, hev, _⟩ := gf_gdE hm hr ht hc hr'
  have h := H e (nI x, nI f, a1, a2, a3, a4, a5, a6, a7, a8, a9, a10, a11, a12) ⟨hcf, gf_wkI hx hg'⟩ rfl rfl hev
  rw [← ee] at h
  exact h
theorem gf_cost {post : Int32 → Prop} {u : St1} {m x : Nat} (hI : gf_iv u) (hm : m < 2 ^ 31) (hx : x ≤ 50) (H : post (nI (gf_cu u x m))) : wpX_cost post u (nI m) (nI x) := by
  obtain ⟨wf, fl, a1, a2, a3, a4, a5, a6, a7, a8, a9, a10, a11, a12⟩ := u
  unfold wpX_cost
  refine gf_badX hx ?_
  exact br_t rfl (gf_cost5 hm hx hI.1 H)
theorem gf_cuM {u : St1} {x m : Nat} : gf_cu u x m = gf_cu u x (m % 128) := by
  obtain ⟨wf, fl, a1, a2, a3, a4, a5, a6, a7, a8, a9, a10, a11, a12⟩ := u
  refine gf_coC (fun _ _ _ _ => rfl) (fun _ _ => rfl) (fun _ _ => rfl) (fun v hv => ?_)
  rw [gf_Sv hv, gf_Sv hv, show (128 : Nat) = 2 ^ 7 from rfl, Nat.testBit_mod_two_pow, decide_eq_true hv, Bool.true_and]
theorem gf_cuB {u : St1} {x m : Nat} (hI : gf_iv u) (hx : x ≤ 50) : gf_cu u x m ≤ 1960 := by
  obtain ⟨wf, fl, a1, a2, a3, a4, a5, a6, a7, a8, a9, a10, a11, a12⟩ := u
  exact gf_coB (fun i j hi hj => (hI.1.1 i j hi hj).2.1) (fun v hv => gf_plB (hI.1.2 v hv).1 hx) (fun v hv => gf_plB (hI.1.2 v hv).2 hx)
end
section
/-! counting; closed sets between two -/
noncomputable def gf_ct (P : Nat → Prop) : Nat → Nat
  | 0 => 0
  | n + 1 => gf_ct P n + @ite Nat (P n) (Classical.propDecidable (P n)) 1 0
theorem gf_ctY {P : Nat → Prop} {n : Nat} (h : P n) : gf_ct P (n + 1) = gf_ct P n + 1 := by
  show gf_ct P n + _ = _
  rw [if_pos h]
theorem gf_ctN {P : Nat → Prop} {n : Nat} (h : ¬ P n) : gf_ct P (n + 1) = gf_ct P n := by
  show gf_ct P n + _ = _
  rw [if_neg h]
  rfl
theorem gf_ctC {P Q : Nat → Prop} {n : Nat} (h : ∀ i, i < n → (P i ↔ Q i)) : gf_ct P n = gf_ct Q n := by
  induction n with
  | zero => rfl
  | succ n ih =>
    have e := ih (fun i hi => h i (by omega))
    by_cases hp : P n
    · rw [gf_ctY hp, gf_ctY ((h n (by omega)).mp hp), e]
    · rw [gf_ctN hp, gf_ctN (fun t => hp ((h n (by omega)).mpr t)), e]
theorem gf_ctA {P Q R : Nat → Prop} {n : Nat} (h : ∀ i, i < n → (P i ↔ Q i ∨ R i)) (hd : ∀ i, i < n → Q i → R i → False) : gf_ct P n = gf_ct Q n + gf_ct R n := by
  induction n with
  | zero => rfl
  | succ n ih =>
    have e := ih (fun i hi => h i (by omega)) (fun i hi => hd i (by omega))
    have hn := h n (by omega)
    have hdn := hd n (by omega)
    by_cases hq : Q n
    · rw [gf_ctY (hn.mpr (Or.inl hq)), gf_ctY hq, gf_ctN (fun t => hdn hq t), e]
      omega
    · by_cases hr : R n
      · rw [gf_ctY (hn.mpr (Or.inr hr)), gf_ctN hq, gf_ctY hr, e]
        omega
      · rw [gf_ctN (fun t => (hn.mp t).elim hq hr), gf_ctN hq, gf_ctN hr, e]
theorem gf_ct0 {P : Nat → Prop} {n : Nat} (h : ∀ i, i < n → ¬ P i) : gf_ct P n = 0 := by
  induction n with
  | zero => rfl
  | succ n ih => rw [gf_ctN (h n (by omega)), ih (fun i hi => h i (by omega))]
theorem gf_ctL (P : Nat → Prop) (n : Nat) : gf_ct P n ≤ n := by
  induction n with
  | zero => exact Nat.le_refl 0
  | succ n ih =>
    by_cases hp : P n
    · rw [gf_ctY hp]; omega
    · rw [gf_ctN hp]; omega
theorem gf_ctM {P Q : Nat → Prop} {n : Nat} (h : ∀ i, i < n → Q i → P i) : gf_ct Q n ≤ gf_ct P n := by
  induction n with
  | zero => exact Nat.le_refl 0
  | succ n ih =>
    have e := ih (fun i hi => h i (by omega))
    by_cases hq : Q n
    · rw [gf_ctY hq, gf_ctY (h n (by omega) hq)]; omega
    · rw [gf_ctN hq]
      by_cases hp : P n
      · rw [gf_ctY hp]; omega
      · rw [gf_ctN hp]; exact e
theorem gf_ctlt {P Q : Nat → Prop} {n a : Nat} (h : ∀ i, i < n → Q i → P i) (ha : a < n) (hp : P a) (hq : ¬ Q a) : gf_ct Q n < gf_ct P n := by
  induction n with
  | zero => omega
  | succ n ih =>
    by_cases e : a = n
    · subst e
      rw [gf_ctY hp, gf_ctN hq]
      have := gf_ctM (n := a) (fun i hi => h i (by omega))
      omega
    · have := ih (fun i hi => h i (by omega)) (by omega)
      by_cases hq' : Q n
      · rw [gf_ctY hq', gf_ctY (h n (by omega) hq')]; omega
      · rw [gf_ctN hq']
        by_cases hp' : P n
        · rw [gf_ctY hp']; omega
        · rw [gf_ctN hp']; exact this
theorem gf_ctP {P : Nat → Prop} {n a : Nat} (ha : a < n) (hp : P a) : 1 ≤ gf_ct P n := by
  have h1 : gf_ct (fun _ => False) n = 0 := gf_ct0 (fun _ _ t => t)
  have h2 := gf_ctlt (P := P) (Q := fun _ => False) (n := n) (a := a) (fun _ _ t => t.elim) ha hp (fun t => t)
  omega
theorem gf_ct1 {P : Nat → Prop} {n a : Nat} (ha : a < n) (hp : P a) (hu : ∀ i, i < n → P i → i = a) : gf_ct P n = 1 := by
  induction n with
  | zero => omega
  | succ n ih =>
    by_cases e : a = n
    · subst e
      rw [gf_ctY hp, gf_ct0 (fun i hi t => by have := hu i (by omega) t; omega)]
    · rw [gf_ctN (fun t => e (hu n (by omega) t).symm)]
      exact ih (by omega) (fun i hi => hu i (by omega))
theorem gf_ct2 {P : Nat → Prop} {n a b : Nat} (ha : a < n) (hb : b < n) (hn : a ≠ b) (h1 : P a) (h2 : P b) : 2 ≤ gf_ct P n := by
  have e1 : 1 ≤ gf_ct (fun i => P i ∧ i ≠ a) n := gf_ctP hb ⟨h2, fun t => hn t.symm⟩
  have e2 := gf_ctlt (P := P) (Q := fun i => P i ∧ i ≠ a) (n := n) (a := a) (fun i _ t => t.1) ha h1 (fun t => t.2 rfl)
  omega
theorem gf_ctF (P : Nat → Prop) (n : Nat) : gf_ct P (n + 1) = gf_ct (fun i => P (i + 1)) n + gf_ct P 1 := by
  induction n with
  | zero => exact (Nat.zero_add _).symm
  | succ n ih =>
    by_cases hp : P (n + 1)
    · rw [gf_ctY hp, ih, gf_ctY (P := fun i => P (i + 1)) hp]; omega
    · rw [gf_ctN hp, ih, gf_ctN (P := fun i => P (i + 1)) hp]
theorem gf_ctR (P : Nat → Prop) (n : Nat) : gf_ct (fun i => P (n - 1 - i)) n = gf_ct P n := by
  induction n generalizing P with
  | zero => rfl
  | succ n ih =>
    have e : gf_ct (fun i => P (n + 1 - 1 - i)) n = gf_ct (fun i => P (i + 1)) n := by
      rw [← ih (fun i => P (i + 1))]
      refine gf_ctC (fun i hi => ?_)
      have : n + 1 - 1 - i = n - 1 - i + 1 := by omega
      rw [this]
    rw [gf_ctF P n]
    by_cases hp : P 0
    · have h' : P (n + 1 - 1 - n) := by rw [show n + 1 - 1 - n = 0 by omega]; exact hp
      rw [gf_ctY (P := fun i => P (n + 1 - 1 - i)) h', e, gf_ctY hp]
      rfl
    · have h' : ¬ P (n + 1 - 1 - n) := by rw [show n + 1 - 1 - n = 0 by omega]; exact hp
      rw [gf_ctN (P := fun i => P (n + 1 - 1 - i)) h', e, gf_ctN hp]
      rfl
/-- s is closed, holds T, holds none of U -/
def gf_cs (P : Nat → Nat → Prop) (T U : Nat → Prop) (s : Nat) : Prop := (∀ u v, u < 7 → v < 7 → s.testBit u = true → P u v → s.testBit v = true) ∧ (∀ v, v < 7 → T v → s.testBit v = true) ∧ (∀ v, v < 7 → U v → s.testBit v = false)
def gf_tu (P : Nat → Nat → Prop) (T U : Nat → Prop) : Prop := (∀ u v, u < 7 → v < 7 → T u → P u v → T v) ∧ (∀ u v, u < 7 → v < 7 → U v → P u v → U u) ∧ (∀ v, v < 7 → T v → U v → False)
noncomputable def gf_cn (P : Nat → Nat → Prop) (T U : Nat → Prop) : Nat := gf_ct (gf_cs P T U) 128
section
variable {P : Nat → Nat → Prop} {T U : Nat → Prop}
theorem gf_mkP (T : Nat → Prop) : ∃ s, s < 128 ∧ ∀ v, v < 7 → (s.testBit v = true ↔ T v) := by
  obtain ⟨s, hs, h⟩ := gf_mk (fun v => @decide (T v) (Classical.propDecidable (T v))) 7
  refine ⟨s, hs, fun v hv => ?_⟩
  rw [h v hv]
  exact @decide_eq_true_iff (T v) (Classical.propDecidable (T v))
theorem gf_csT (h : gf_tu P T U) : ∃ s, s < 128 ∧ (∀ v, v < 7 → (s.testBit v = true ↔ T v)) ∧ gf_cs P T U s := by
  obtain ⟨s, hs, hb⟩ := gf_mkP T
  refine ⟨s, hs, hb, fun u v hu hv h1 h2 => (hb v hv).mpr (h.1 u v hu hv ((hb u hu).mp h1) h2), fun v hv t => (hb v hv).mpr t, fun v hv t => ?_⟩
  cases e : s.testBit v
  · rfl
  · exact (h.2.2 v hv ((hb v hv).mp e) t).elim
theorem gf_cnP (h : gf_tu P T U) : 1 ≤ gf_cn P T U := by
  obtain ⟨s, hs, _, hc⟩ := gf_csT h
  exact gf_ctP hs hc
theorem gf_cn1 (h : gf_tu P T U) (ha : ∀ v, v < 7 → T v ∨ U v) : gf_cn P T U = 1 := by
  obtain ⟨s, hs, hb, hc⟩ := gf_csT h
  refine gf_ct1 hs hc (fun i hi ti => gf_mext hi hs (fun v hv => ?_))
  rcases ha v hv with t | t
  · rw [ti.2.1 v hv t, hc.2.1 v hv t]
  · rw [ti.2.2 v hv t, hc.2.2 v hv t]
theorem gf_cn2 (hr : ∀ a, a < 9 → P a a) {v : Nat} (hv : v < 7) : gf_cn P T U = gf_cn P (fun w => T w ∨ P v w) U + gf_cn P T (fun w => U w ∨ P w v) := by
  refine gf_ctA (fun s _ => ⟨fun t => ?_, fun t => ?_⟩) (fun s _ t1 t2 => ?_)
  · cases e : s.testBit v
    · refine Or.inr ⟨t.1, t.2.1, fun w hw h => ?_⟩
      rcases h with h | h
      · exact t.2.2 w hw h
      · cases e' : s.testBit w
        · rfl
        · rw [t.1 w v hw hv e' h] at e
          exact absurd e (by decide)
    · refine Or.inl ⟨t.1, fun w hw h => ?_, t.2.2⟩
      rcases h with h | h
      · exact t.2.1 w hw h
      · exact t.1 v w hv hw e h
  · rcases t with t | t
    · exact ⟨t.1, fun w hw h => t.2.1 w hw (Or.inl h), t.2.2⟩
    · exact ⟨t.1, t.2.1, fun w hw h => t.2.2 w hw (Or.inl h)⟩
  · have e1 := t1.2.1 v hv (Or.inr (hr v (by omega)))
    have e2 := t2.2.2 v hv (Or.inr (hr v (by omega)))
    rw [e1] at e2
    exact absurd e2 (by decide)
theorem gf_tuT (ht : ∀ j a v, j < 9 → a < 9 → v < 9 → P a j → P j v → P a v) (h : gf_tu P T U) {v : Nat} (hv : v < 7) (hU : ¬ U v) : gf_tu P (fun w => T w ∨ P v w) U := by
  refine ⟨fun a b ha hb t1 t2 => ?_, h.2.1, fun w hw t1 t2 => ?_⟩
  · rcases t1 with t | t
    · exact Or.inl (h.1 a b ha hb t t2)
    · exact Or.inr (ht a v b (by omega) (by omega) (by omega) t t2)
  · rcases t1 with t | t
    · exact h.2.2 w hw t t2
    · exact hU (h.2.1 v w hv hw t2 t)
theorem gf_tuU (ht : ∀ j a v, j < 9 → a < 9 → v < 9 → P a j → P j v → P a v) (h : gf_tu P T U) {v : Nat} (hv : v < 7) (hT : ¬ T v) : gf_tu P T (fun w => U w ∨ P w v) := by
  refine ⟨h.1, fun a b ha hb t1 t2 => ?_, fun w hw t1 t2 => ?_⟩
  · rcases t1 with t | t
    · exact Or.inl (h.2.1 a b ha hb t t2)
    · exact Or.inr (ht b a v (by omega) (by omega) (by omega) t2 t)
  · rcases t2 with t | t
    · exact h.2.2 w hw t1 t
    · exact hT (h.1 w v hw hv t1 t)
end
end
section
/-! unsettled, reaching, branch, countClosed, ties -/
section
variable {wf fl : Int32} {a1 a2 a3 a4 a5 a6 a7 a8 a9 a10 a11 a12 : Nat → Int32} {P : Nat → Nat → Prop} {T U : Nat → Prop}
theorem gf_uns {post : Int32 → Prop} {lv : Nat} (hlv : lv < 9) (hT : gf_bm 7 (a10 lv) T) (hU : gf_bm 7 (a11 lv) U) (H7 : (∀ v, v < 7 → T v ∨ U v) → post 7) (Hv : ∀ v, v < 7 → ¬ T v → ¬ U v → (∀ w, w < v → T w ∨ U w) → post (nI v)) : wpX_unsettled post (wf, fl, a1, a2, a3, a4, a5, a6, a7, a8, a9, a10, a11, a12) (nI lv) := by
  have main : ∀ n i, i ≤ 7 → (∀ v, v < i → T v ∨ U v) → 8 ≤ n + i → wX_unsettled_2 post (nI lv) wf fl a1 a2 a3 a4 a5 a6 a7 a8 a9 a10 a11 a12 n (nI i) := by
    intro n
    induction n with
    | zero => intro i h1 _ h2; omega
    | succ n ih =>
      intro i hi hs hn
      refine pk_le 7 i (fun z => ?_) (fun z => ⟨pk_in lv 9 hlv, pk_in lv 9 hlv, ?_⟩)
      · have : i = 7 := by omega
        subst this
        exact H7 hs
      · rw [nI_clamp (show lv < 2 ^ 31 by omega)]
        refine gf_bmI (gf_bmO hT hU) (by omega) z rfl (fun t => br_f (by decide) (nm_r (nI_1 i) (ih (i + 1) (by omega) (fun v hv => ?_) (by omega)))) (fun t => br_t rfl (Hv i z (fun s => t (Or.inl s)) (fun s => t (Or.inr s)) hs))
        by_cases e : v = i
        · rw [e]
          exact t
        · exact hs v (by omega)
  exact ⟨8, main 8 0 (by omega) (fun v hv => absurd hv (by omega)) (by omega)⟩
theorem gf_reaching {post : Int32 → Prop} {v : Nat} (hv : v < 7) (h9 : ∀ a, a < 9 → gf_bm 9 (a9 a) (P a)) (H : ∀ r, gf_bm 7 r (fun w => P w v) → post r) : wpX_reaching post (wf, fl, a1, a2, a3, a4, a5, a6, a7, a8, a9, a10, a11, a12) ((1 : Int32) <<< (nI v &&& 31)) := by
  refine pk_loop (fun n i s => wX_reaching_4 post ((1 : Int32) <<< (nI v &&& 31)) wf fl a1 a2 a3 a4 a5 a6 a7 a8 a9 a10 a11 a12 n s (nI i)) (fun i s => gf_bm 7 s (fun w => w < i ∧ P w v)) 7 0 (0 : Int32) (by omega) (gf_bmC gf_bm0 (fun w _ => ⟨fun t => t.elim, fun t => absurd t.1 (by omega)⟩)) ?_ ?_
  · intro n s hs
    exact pk_le 7 7 (fun _ => H s (gf_bmC hs (fun w hw => ⟨fun t => t.2, fun t => ⟨hw, t⟩⟩))) (fun z => absurd z (by omega))
  · intro n i s hi hs hw
    refine pk_le 7 i (fun z => absurd z (by omega)) (fun _ => ⟨pk_in i 9 (by omega), ?_⟩)
    rw [nI_clamp (show i < 2 ^ 31 by omega)]
    have hz := gf_bmZ (gf_bmA (h9 i (by omega)) (gf_bm1 (n := 9) (v := v) (by omega) (by omega))) (by omega)
    refine br_c (fun z => nm_r (nI_1 i) (hw s (gf_bmC hs (fun w _ => ⟨fun t => ⟨by omega, t.2⟩, fun t => ⟨?_, t.2⟩⟩)))) (fun z => nm_e (nm_r (nI_1 i) (hw _ (gf_bmC (gf_bmO hs (gf_bm1 hi (by omega))) (fun w _ => ⟨?_, ?_⟩)))))
    · by_cases e : w = i
      · rw [e] at t
        exact absurd ⟨t.2, rfl⟩ (hz.mp z v (by omega))
      · omega
    · have hP : P i v := Classical.byContradiction (fun t => z (hz.mpr (fun w _ h => t (by rw [← h.2]; exact h.1))))
      rintro (t | t)
      · exact ⟨by omega, t.2⟩
      · rw [t]
        exact ⟨by omega, hP⟩
    · intro t
      by_cases e : w = i
      · exact Or.inr e
      · exact Or.inl ⟨by omega, t.2⟩
theorem gf_branch0 {post : St1 → Prop} {lv v : Nat} (hlv : lv + 1 < 9) (hv : v < 7) (h0 : a12 lv = 0)
    (H : post (wf, fl, a1, a2, a3, a4, a5, a6, a7, a8, a9, upd a10 (lv + 1) (a10 lv ||| (a9 v &&& 127)), upd a11 (lv + 1) (a11 lv), upd (upd a12 lv 1) (lv + 1) 0)) :
    wpX_branch post (wf, fl, a1, a2, a3, a4, a5, a6, a7, a8, a9, a10, a11, a12) (nI lv) (nI v) := by
  have i1 : vp_in (nI lv) 9 := pk_in lv 9 (by omega)
  have i2 : vp_in (nI lv + 1) 9 := pk_in (lv + 1) 9 hlv (nI_1 lv)
  have c1 : (nI lv).toNatClampNeg = lv := nI_clamp (by omega)
  have c2 : (nI lv + 1).toNatClampNeg = lv + 1 := by rw [nI_1, nI_clamp (by omega)]
  have c3 : (nI v).toNatClampNeg = v := nI_clamp (by omega)
  refine ⟨i1, br_t (by rw [c1, h0]) ⟨i1, i1, nm_r (e' := upd a12 lv 1) (by rw [c1, h0]; rfl) (br_f (by decide) ⟨pk_in v 9 (by omega), br_f (by decide) ⟨i1, i2, nm_r (e' := upd a10 (lv + 1) (a10 lv ||| (a9 v &&& 127))) (by rw [c1, c2, c3]) (br_f (by decide) ⟨i1, i2, nm_r (e' := upd a11 (lv + 1) (a11 lv)) (by rw [c1, c2]) ⟨i2, nm_r (e' := upd (upd a12 lv 1) (lv + 1) 0) (by rw [c2]) H⟩⟩)⟩⟩)⟩⟩
theorem gf_branch1 {post : St1 → Prop} {lv v : Nat} (hlv : lv + 1 < 9) (hv : v < 7) (h0 : a12 lv = 1) (h9 : ∀ a, a < 9 → gf_bm 9 (a9 a) (P a))
    (H : ∀ r, gf_bm 7 r (fun w => P w v) → post (wf, fl, a1, a2, a3, a4, a5, a6, a7, a8, a9, upd a10 (lv + 1) (a10 lv), upd a11 (lv + 1) (a11 lv ||| r), upd (upd a12 lv 2) (lv + 1) 0)) :
    wpX_branch post (wf, fl, a1, a2, a3, a4, a5, a6, a7, a8, a9, a10, a11, a12) (nI lv) (nI v) := by
  have i1 : vp_in (nI lv) 9 := pk_in lv 9 (by omega)
  have i2 : vp_in (nI lv + 1) 9 := pk_in (lv + 1) 9 hlv (nI_1 lv)
  have c1 : (nI lv).toNatClampNeg = lv := nI_clamp (by omega)
  have c2 : (nI lv + 1).toNatClampNeg = lv + 1 := by rw [nI_1, nI_clamp (by omega)]
  have c3 : (nI v).toNatClampNeg = v := nI_clamp (by omega)
  refine ⟨i1, br_f (by rw [c1, h0]; decide) ⟨i1, i1, nm_r (e' := upd a12 lv 2) (by rw [c1, h0]; rfl) (br_t rfl (gf_reaching hv h9 (fun r hr => br_t rfl ⟨i1, i2, nm_r (e' := upd a10 (lv + 1) (a10 lv)) (by rw [c1, c2]) (br_t rfl ⟨i1, i2, nm_r (e' := upd a11 (lv + 1) (a11 lv ||| r)) (by rw [c1, c2]) ⟨i2, nm_r (e' := upd (upd a12 lv 2) (lv + 1) 0) (by rw [c2]) (H r hr)⟩⟩)⟩)))⟩⟩
end
section
variable {wf fl : Int32} {a1 a2 a3 a4 a5 a6 a7 a8 a9 : Nat → Int32} {P : Nat → Nat → Prop}
theorem gf_run {post : Int32 → St1 → Prop} (h9 : ∀ a, a < 9 → gf_bm 9 (a9 a) (P a)) (hr : ∀ a, a < 9 → P a a) (ht : ∀ j a v, j < 9 → a < 9 → v < 9 → P a j → P j v → P a v) :
    ∀ d (T U : Nat → Prop) (k n lv st : Nat) (a10 a11 a12 : Nat → Int32), gf_ct (fun v => ¬ T v ∧ ¬ U v) 7 ≤ d → lv + d ≤ 7 → gf_tu P T U → gf_bm 7 (a10 lv) T → gf_bm 7 (a11 lv) U → a12 lv = 0 → st + 4 * gf_cn P T U ≤ 4000 →
      (∀ b10 b11 b12 : Nat → Int32, (∀ j, j < lv → b10 j = a10 j ∧ b11 j = a11 j ∧ b12 j = a12 j) → wX_countClosed_38 post k (nI (n + gf_cn P T U)) (nI lv + (-1)) (nI (st + (4 * gf_cn P T U - 3))) wf fl a1 a2 a3 a4 a5 a6 a7 a8 a9 b10 b11 b12) →
      wX_countClosed_38 post (k + (4 * gf_cn P T U - 3)) (nI n) (nI lv) (nI st) wf fl a1 a2 a3 a4 a5 a6 a7 a8 a9 a10 a11 a12 := by
  intro d
  induction d with
  | zero =>
    intro T U k n lv st a10 a11 a12 hd hlv htu hT hU hst hle H
    have hall : ∀ v, v < 7 → T v ∨ U v := by
      intro v hv
      refine Classical.byContradiction (fun t => ?_)
      have := gf_ctP (P := fun v => ¬ T v ∧ ¬ U v) hv ⟨fun s => t (Or.inl s), fun s => t (Or.inr s)⟩
      omega
    have e1 := gf_cn1 htu hall
    rw [e1] at hle H ⊢
    refine pk_le 4000 st (fun z => absurd z (by omega)) (fun _ => br_f (nI_pos (by omega)) (gf_uns (by omega) hT hU (fun _ => br_t rfl (nm_r (nI_1 n) (nm_e (nm_r (nI_1 st) (H a10 a11 a12 (fun j _ => ⟨rfl, rfl, rfl⟩)))))) (fun v hv h1 h2 _ => ?_)))
    exact absurd (hall v hv) (fun t => t.elim h1 h2)
  | succ d ih =>
    intro T U k n lv st a10 a11 a12 hd hlv htu hT hU hst hle H
    have hpos := gf_cnP htu
    have hfu : k + (4 * gf_cn P T U - 3) = (k + (4 * gf_cn P T U - 4)) + 1 := by omega
    rw [hfu]
    refine pk_le 4000 st (fun z => absurd z (by omega)) (fun _ => br_f (nI_pos (by omega)) (gf_uns (by omega) hT hU (fun hall => br_t rfl (nm_r (nI_1 n) (nm_e (nm_r (nI_1 st) ?_)))) (fun v hv h1 h2 hfirst => ?_)))
    · have e1 := gf_cn1 htu hall
      rw [e1] at H ⊢
      exact H a10 a11 a12 (fun j _ => ⟨rfl, rfl, rfl⟩)
    · have hsp := gf_cn2 (T := T) (U := U) hr hv
      have htT := gf_tuT ht htu hv h2
      have htU := gf_tuU ht htu hv h1
      have p1 := gf_cnP htT
      have p2 := gf_cnP htU
      have hd1 : gf_ct (fun w => ¬ (T w ∨ P v w) ∧ ¬ U w) 7 ≤ d := by
        have := gf_ctlt (P := fun v => ¬ T v ∧ ¬ U v) (Q := fun w => ¬ (T w ∨ P v w) ∧ ¬ U w) (n := 7) (a := v) (fun i _ t => ⟨fun s => t.1 (Or.inl s), t.2⟩) hv ⟨h1, h2⟩ (fun t => t.1 (Or.inr (hr v (by omega))))
        omega
      have hd2 : gf_ct (fun w => ¬ T w ∧ ¬ (U w ∨ P w v)) 7 ≤ d := by
        have := gf_ctlt (P := fun v => ¬ T v ∧ ¬ U v) (Q := fun w => ¬ T w ∧ ¬ (U w ∨ P w v)) (n := 7) (a := v) (fun i _ t => ⟨t.1, fun s => t.2 (Or.inl s)⟩) hv ⟨h1, h2⟩ (fun t => t.2 (Or.inr (hr v (by omega))))
        omega
      have hn7 : ¬ nI v = 7 := fun e => by
        have := (nI_eq (a := v) (b := 7) (by omega) (by omega)).mp e
        omega
      have clv : (nI lv).toNatClampNeg = lv := nI_clamp (by omega)
      have uniq : ∀ w, w < 7 → ¬ T w → ¬ U w → (∀ y, y < w → T y ∨ U y) → w = v := by
        intro w hw g1 g2 g3
        rcases Nat.lt_trichotomy w v with t | t | t
        · exact absurd (hfirst w t) (fun s => s.elim g1 g2)
        · exact t
        · exact absurd (g3 v t) (fun s => s.elim h1 h2)
      have hfu2 : k + (4 * gf_cn P T U - 4) = (k + 1 + (4 * gf_cn P T (fun w => U w ∨ P w v) - 3) + 1) + (4 * gf_cn P (fun w => T w ∨ P v w) U - 3) := by omega
      rw [hfu2]
      refine br_f hn7 ⟨pk_in lv 9 (by omega), br_f (by rw [clv, hst]; decide) (gf_branch0 (by omega) hv hst (nm_r (nI_1 lv) (nm_r (nI_1 st) (ih (fun w => T w ∨ P v w) U _ n (lv + 1) (st + 1) _ _ _ hd1 (by omega) htT ?_ ?_ pk_us (by omega) (fun b10 b11 b12 hb => ?_)))))⟩
      · rw [pk_us]
        exact gf_bmO hT (gf_bm7 (h9 v (by omega)))
      · rw [pk_us]
        exact hU
      · have b0 := hb lv (by omega)
        rw [pk_un (by omega), pk_un (by omega), pk_un (by omega), pk_us] at b0
        obtain ⟨b0, b1, b2⟩ := b0
        rw [pk_m1]
        refine pk_le 4000 (st + 1 + (4 * gf_cn P (fun w => T w ∨ P v w) U - 3)) (fun z => absurd z (by omega)) (fun _ => br_f (nI_pos (by omega)) (gf_uns (T := T) (U := U) (by omega) (by rw [b0]; exact hT) (by rw [b1]; exact hU) (fun hall => absurd (hall v hv) (fun t => t.elim h1 h2)) (fun w hw g1 g2 g3 => ?_)))
        have ew := uniq w hw g1 g2 g3
        subst ew
        refine br_f hn7 ⟨pk_in lv 9 (by omega), br_f (by rw [clv, b2]; decide) (gf_branch1 (by omega) hw b2 h9 (fun r hrr => nm_r (nI_1 lv) (nm_r (nI_1 _) (ih T (fun y => U y ∨ P y w) (k + 1) _ (lv + 1) _ _ _ _ hd2 (by omega) htU ?_ ?_ pk_us (by omega) (fun d10 d11 d12 hd' => ?_)))))⟩
        · rw [pk_us, b0]
          exact hT
        · rw [pk_us, b1]
          exact gf_bmO hU hrr
        · have d0 := hd' lv (by omega)
          rw [pk_un (by omega), pk_un (by omega), pk_un (by omega), pk_us] at d0
          obtain ⟨d0, d1, d2⟩ := d0
          rw [pk_m1]
          refine pk_le 4000 _ (fun z => absurd z (by omega)) (fun _ => br_f (nI_pos (by omega)) (gf_uns (T := T) (U := U) (by omega) (by rw [d0, b0]; exact hT) (by rw [d1, b1]; exact hU) (fun hall => absurd (hall w hv) (fun t => t.elim h1 h2)) (fun y hy g1' g2' g3' => ?_))) rfl rfl (by omega) (by omega)
          have ey := uniq y hy g1' g2' g3'
          subst ey
          refine br_f hn7 ⟨pk_in lv 9 (by omega), br_t (by rw [clv, d2]) (nm_e (nm_r (nI_1 _) ?_))⟩
          have hH := H d10 d11 d12 (fun j hj => ?_)
          · rw [show n + gf_cn P T U = n + gf_cn P (fun w => T w ∨ P y w) U + gf_cn P T (fun z => U z ∨ P z y) by omega, show st + (4 * gf_cn P T U - 3) = st + 1 + (4 * gf_cn P (fun w => T w ∨ P y w) U - 3) + 1 + (4 * gf_cn P T (fun z => U z ∨ P z y) - 3) + 1 by omega] at hH
            exact hH
          · have q1 := hd' j (by omega)
            have q2 := hb j (by omega)
            rw [pk_un (by omega), pk_un (by omega), pk_un (by omega), pk_un (by omega)] at q1 q2
            exact ⟨q1.1.trans q2.1, q1.2.1.trans q2.2.1, q1.2.2.trans q2.2.2⟩
end
def gf_ti (c : Nat → Nat) (t : Nat) : Prop := ∃ l, gf_mn c l ∧ t = gf_ct (fun s => c s = l) 128
theorem gf_countClosed {post : Int32 → St1 → Prop} {wf fl : Int32} {a1 a2 a3 a4 a5 a6 a7 a8 a9 a10 a11 a12 : Nat → Int32} {c : Nat → Nat} {f : Nat} (hg : gf_gd c f a9)
    (H : ∀ b10 b11 b12, post (nI (gf_ct (fun s => c s = f) 128)) (wf, fl, a1, a2, a3, a4, a5, a6, a7, a8, a9, b10, b11, b12)) :
    wpX_countClosed post (wf, fl, a1, a2, a3, a4, a5, a6, a7, a8, a9, a10, a11, a12) := by
  obtain ⟨hm, P, h9, hr, ht, hc⟩ := hg
  have h78 := gf_no78 hm hc
  have hcn : gf_cn P (P 7) (fun v => P v 8) = gf_ct (fun s => c s = f) 128 := by
    refine gf_ctC (fun s hs => ?_)
    rw [hc s hs]
    constructor
    · intro h u v hu hv hS hP
      by_cases e7 : v = 7
      · rw [e7]
        exact gf_S7 s
      · rcases gf_Sc hu hS with t | ⟨t1, t2⟩
        · rw [t] at hP
          by_cases e8 : v = 8
          · rw [e8] at hP
            exact absurd hP h78
          · rw [gf_Sv (by omega)]
            exact h.2.1 v (by omega) hP
        · by_cases e8 : v = 8
          · rw [e8] at hP
            have := h.2.2 u t1 hP
            rw [t2] at this
            exact absurd this (by decide)
          · rw [gf_Sv (by omega)]
            exact h.1 u v t1 (by omega) t2 hP
    · intro h
      refine ⟨fun u v hu hv h1 h2 => ?_, fun v hv h1 => ?_, fun v hv h1 => ?_⟩
      · have := h u v (by omega) (by omega) (by rw [gf_Sv hu]; exact h1) h2
        rw [gf_Sv hv] at this
        exact this
      · have := h 7 v (by omega) (by omega) (gf_S7 s) h1
        rw [gf_Sv hv] at this
        exact this
      · cases e : s.testBit v
        · rfl
        · have := h v 8 (by omega) (by omega) (by rw [gf_Sv hv]; exact e) h1
          rw [gf_S8] at this
          exact absurd this (by decide)
  have htu : gf_tu P (P 7) (fun v => P v 8) := ⟨fun u v hu hv t1 t2 => ht u 7 v (by omega) (by omega) (by omega) t1 t2, fun u v hu hv t1 t2 => ht v u 8 (by omega) (by omega) (by omega) t2 t1, fun v hv t1 t2 => h78 (ht v 7 8 (by omega) (by omega) (by omega) t1 t2)⟩
  have hle : gf_cn P (P 7) (fun v => P v 8) ≤ 128 := gf_ctL _ _
  refine nm_e (gf_great h9 (fun r hrr => nm_e (nm_e ⟨1 + (4 * gf_cn P (P 7) (fun v => P v 8) - 3), gf_run h9 hr ht 7 (P 7) (fun v => P v 8) 1 0 0 0 _ _ _ (gf_ctL _ _) (by omega) htu ?_ ?_ pk_us (by omega) (fun b10 b11 b12 _ => ?_)⟩)))
  · rw [pk_us]
    exact gf_bm7 (h9 7 (by omega))
  · rw [pk_us]
    exact gf_bmC (gf_bmN hrr) (fun v _ => ⟨fun t => Classical.byContradiction t, fun t s => s t⟩)
  · rw [Nat.zero_add, hcn]
    refine pk_le 4000 _ (fun z => absurd z (by omega)) (fun _ => br_t (by decide) (H b10 b11 b12)) rfl rfl (by omega) (by omega)
theorem gf_ties {post : Int32 → St1 → Prop} {u : St1} {x : Nat} (hI : gf_iv u) (hx : x ≤ 50) (H : ∀ t u', gf_iv u' → gf_cu u' = gf_cu u → gf_cp u' = gf_cp u → gf_ti (gf_cu u x) t → post (nI t) u') : wpX_ties post u (nI x) := by
  obtain ⟨wf, fl, a1, a2, a3, a4, a5, a6, a7, a8, a9, a10, a11, a12⟩ := u
  obtain ⟨hcf, hwk⟩ := hI
  unfold wpX_ties
  refine gf_badX hx ?_
  exact br_t rfl (gf_work hcf hwk hx (fun f a6 a7 a8 a9 hg => gf_countClosed hg (fun b10 b11 b12 => H _ (nI x, nI f, a1, a2, a3, a4, a5, a6, a7, a8, a9, b10, b11, b12) ⟨hcf, gf_wkI hx hg⟩ rfl rfl ⟨f, hg.1, rfl⟩)))
end
section
/-! flip, link, toSource, toSink, leastApart, spare -/
theorem gf_127 {s v : Nat} (hs : s < 128) (hv : v < 7) : (127 - s).testBit v = !s.testBit v := by
  have := Nat.testBit_two_pow_sub_succ (x := s) (n := 7) hs v
  rw [decide_eq_true hv, Bool.true_and] at this
  rw [← this]
  exact congrArg (fun t => Nat.testBit t v) (by omega)
theorem gf_flip {post : St1 → Prop} {u : St1} (hI : gf_iv u) (H : ∀ u', gf_iv u' → (∀ x s, s < 128 → gf_cu u' x s = gf_cu u x (127 - s)) → gf_cp u' = gf_cp u → post u') : wpX_flip post u := by
  obtain ⟨wf, fl, a1, a2, a3, a4, a5, a6, a7, a8, a9, a10, a11, a12⟩ := u
  refine pk_loop (fun n i (s : (Nat → Int32) × (Nat → Int32) × (Nat → Int32) × (Nat → Int32)) => wX_flip_2 post wf fl n (nI i) a1 s.1 s.2.1 s.2.2.1 s.2.2.2 a6 a7 a8 a9 a10 a11 a12)
    (fun i s => (∀ v, v < i → s.1 v = a4 v ∧ s.2.1 v = a5 v ∧ s.2.2.1 v = a2 v ∧ s.2.2.2 v = a3 v) ∧ (∀ v, i ≤ v → s.1 v = a2 v ∧ s.2.1 v = a3 v ∧ s.2.2.1 v = a4 v ∧ s.2.2.2 v = a5 v)) 7 0 (a2, a3, a4, a5) (by omega)
    ⟨fun v hv => absurd hv (by omega), fun v _ => ⟨rfl, rfl, rfl, rfl⟩⟩ ?_ ?_
  · rintro n ⟨b2, b3, b4, b5⟩ ⟨hs, _⟩
    dsimp only at hs
    refine pk_le 7 7 (fun _ => H _ ⟨⟨hI.1.1, fun v hv => ?_⟩, gf_wkN⟩ (fun x s h128 => ?_) rfl) (fun z => absurd z (by omega))
    · obtain ⟨e1, e2, e3, e4⟩ := hs v hv
      show gf_rg (b2 v) (b3 v) ∧ gf_rg (b4 v) (b5 v)
      rw [e1, e2, e3, e4]
      exact ⟨(hI.1.2 v hv).2, (hI.1.2 v hv).1⟩
    · show gf_co (gf_C a1) (gf_p b2 b3 x) (gf_p b4 b5 x) (gf_S s) = gf_co (gf_C a1) (gf_p a2 a3 x) (gf_p a4 a5 x) (gf_S (127 - s))
      rw [gf_coF (S := gf_S s) (T := gf_S (127 - s)) (fun v hv => by rw [gf_Sv hv, gf_Sv hv]; exact gf_127 h128 hv)]
      refine gf_coC (fun _ _ _ _ => rfl) (fun v hv => ?_) (fun v hv => ?_) (fun _ _ => rfl)
      · obtain ⟨e1, e2, e3, e4⟩ := hs v hv
        show gf_pl (b2 v) (b3 v) x = gf_pl (a4 v) (a5 v) x
        rw [e1, e2]
      · obtain ⟨e1, e2, e3, e4⟩ := hs v hv
        show gf_pl (b4 v) (b5 v) x = gf_pl (a2 v) (a3 v) x
        rw [e3, e4]
  · rintro n i ⟨b2, b3, b4, b5⟩ hi ⟨h1, h2⟩ hw
    dsimp only at h1 h2
    have p := pk_in (x := nI i) i 7 hi
    refine pk_le 7 i (fun z => absurd z (by omega)) (fun _ => ⟨p, ?_⟩)
    dsimp only
    rw [nI_clamp (show i < 2 ^ 31 by omega)]
    refine nm_e ⟨p, nm_e ⟨p, p, nm_e ⟨p, p, nm_e ⟨p, nm_e ⟨p, nm_e (nm_r (nI_1 i) (hw (upd b2 i (b4 i), upd b3 i (b5 i), upd b4 i (b2 i), upd b5 i (b3 i)) ⟨fun v hv => ?_, fun v hv => ?_⟩))⟩⟩⟩⟩⟩
    · dsimp only
      by_cases e : v = i
      · subst e
        obtain ⟨e1, e2, e3, e4⟩ := h2 v (by omega)
        rw [pk_us, pk_us, pk_us, pk_us]
        exact ⟨e3, e4, e1, e2⟩
      · rw [pk_un e, pk_un e, pk_un e, pk_un e]
        exact h1 v (by omega)
    · dsimp only
      have e : v ≠ i := by omega
      rw [pk_un e, pk_un e, pk_un e, pk_un e]
      exact h2 v (by omega)
theorem gf_cpB {u : St1} (hI : gf_iv u) {i j : Nat} (hi : i < 7) (hj : j < 7) : gf_cp u i j ≤ 20 ∧ gf_cp u i j = gf_cp u j i := by
  obtain ⟨wf, fl, a1, a2, a3, a4, a5, a6, a7, a8, a9, a10, a11, a12⟩ := u
  exact (hI.1.1 i j hi hj).2
theorem gf_C2 {a1 : Nat → Int32} {i j k : Nat} (h : ∀ u v, u < 7 → v < 7 → a1 (u * 7 + v) = nI (gf_C a1 u v)) (hi : i < 7) (hj : j < 7) (hn : i ≠ j) (hk : k ≤ 20) (hb : ∀ u v, u < 7 → v < 7 → gf_C a1 u v ≤ 20) :
    ∀ u v, u < 7 → v < 7 → upd (upd a1 (i * 7 + j) (nI k)) (j * 7 + i) (nI k) (u * 7 + v) = nI (gf_p2 (gf_p2 (gf_C a1) i j k) j i k u v) ∧ gf_C (upd (upd a1 (i * 7 + j) (nI k)) (j * 7 + i) (nI k)) u v = gf_p2 (gf_p2 (gf_C a1) i j k) j i k u v ∧ gf_p2 (gf_p2 (gf_C a1) i j k) j i k u v ≤ 20 := by
  intro u v hu hv
  have e : upd (upd a1 (i * 7 + j) (nI k)) (j * 7 + i) (nI k) (u * 7 + v) = nI (gf_p2 (gf_p2 (gf_C a1) i j k) j i k u v) := by
    by_cases e1 : u = j ∧ v = i
    · rw [e1.1, e1.2, pk_us, gf_p2s]
    · rw [pk_un (by omega), gf_p2n e1]
      by_cases e2 : u = i ∧ v = j
      · rw [e2.1, e2.2, pk_us, gf_p2s]
      · rw [pk_un (by omega), gf_p2n e2]
        exact h u v hu hv
  have b : gf_p2 (gf_p2 (gf_C a1) i j k) j i k u v ≤ 20 := by
    by_cases e1 : u = j ∧ v = i
    · rw [e1.1, e1.2, gf_p2s]
      exact hk
    · rw [gf_p2n e1]
      by_cases e2 : u = i ∧ v = j
      · rw [e2.1, e2.2, gf_p2s]
        exact hk
      · rw [gf_p2n e2]
        exact hb u v hu hv
  refine ⟨e, ?_, b⟩
  show (upd (upd a1 (i * 7 + j) (nI k)) (j * 7 + i) (nI k) (u * 7 + v)).toNatClampNeg = _
  rw [e, nI_clamp (by omega)]
theorem gf_link {post : Int32 → St1 → Prop} {u : St1} {i j k : Nat} (hI : gf_iv u) (hi : i < 7) (hj : j < 7) (hn : i ≠ j) (hk : k ≤ 20)
    (H : ∀ u', gf_iv u' → gf_cp u' i j = k → gf_cp u' j i = k → (∀ x s, gf_cu u' x s + cond (gf_S s i == gf_S s j) 0 (gf_cp u i j) = gf_cu u x s + cond (gf_S s i == gf_S s j) 0 k) → post (nI (gf_cp u i j)) u') : wpX_link post u (nI i) (nI j) (nI k) := by
  obtain ⟨wf, fl, a1, a2, a3, a4, a5, a6, a7, a8, a9, a10, a11, a12⟩ := u
  have h1 : ∀ u v, u < 7 → v < 7 → a1 (u * 7 + v) = nI (gf_C a1 u v) := fun u v hu hv => (hI.1.1 u v hu hv).1
  have hb : ∀ u v, u < 7 → v < 7 → gf_C a1 u v ≤ 20 := fun u v hu hv => (hI.1.1 u v hu hv).2.1
  have hs : ∀ u v, u < 7 → v < 7 → gf_C a1 u v = gf_C a1 v u := fun u v hu hv => (hI.1.1 u v hu hv).2.2
  have h2 := gf_C2 h1 hi hj hn hk hb
  unfold wpX_link
  refine gf_bad hi ?_
  refine br_t rfl (gf_bad hj ?_)
  refine br_t rfl (pk_eq i j (fun z => absurd z hn) (fun _ => br_f (nI_pos (by omega)) (pk_le k 20 (fun _ => ⟨pk_in (i * 7 + j) 49 (by omega) (gf_i7 i j), ?_⟩) (fun z => absurd z (by omega)))))
  rw [gf_i7, gf_i7, nI_clamp (show i * 7 + j < 2 ^ 31 by omega), nI_clamp (show j * 7 + i < 2 ^ 31 by omega)]
  refine nm_r (h1 i j hi hj) ⟨pk_in (i * 7 + j) 49 (by omega), nm_e ⟨pk_in (j * 7 + i) 49 (by omega), nm_e (H _ ⟨⟨fun u v hu hv => ?_, hI.1.2⟩, gf_wkN⟩ ?_ ?_ (fun x s => ?_))⟩⟩
  · obtain ⟨g1, g2, g3⟩ := h2 u v hu hv
    obtain ⟨g1', g2', g3'⟩ := h2 v u hv hu
    rw [g2, g2']
    refine ⟨g1, g3, ?_⟩
    by_cases e1 : u = i ∧ v = j
    · rw [e1.1, e1.2, gf_p2s, gf_p2n (by omega), gf_p2s]
    · by_cases e2 : u = j ∧ v = i
      · rw [e2.1, e2.2, gf_p2s, gf_p2n (by omega), gf_p2s]
      · rw [gf_p2n e2, gf_p2n e1, gf_p2n (fun h => e1 ⟨h.2, h.1⟩), gf_p2n (fun h => e2 ⟨h.2, h.1⟩)]
        exact hs u v hu hv
  · refine (h2 i j hi hj).2.1.trans ?_
    rw [gf_p2n (by omega), gf_p2s]
  · refine (h2 j i hj hi).2.1.trans ?_
    rw [gf_p2s]
  · show gf_co (gf_C (upd (upd a1 (i * 7 + j) (nI k)) (j * 7 + i) (nI k))) (gf_p a2 a3 x) (gf_p a4 a5 x) (gf_S s) + cond (gf_S s i == gf_S s j) 0 (gf_C a1 i j) = gf_co (gf_C a1) (gf_p a2 a3 x) (gf_p a4 a5 x) (gf_S s) + cond (gf_S s i == gf_S s j) 0 k
    rw [gf_coC (C' := gf_p2 (gf_p2 (gf_C a1) i j k) j i k) (p' := gf_p a2 a3 x) (q' := gf_p a4 a5 x) (T := gf_S s) (fun u v hu hv => (h2 u v hu hv).2.1) (fun _ _ => rfl) (fun _ _ => rfl) (fun _ _ => rfl)]
    exact gf_coL hs hi hj hn (gf_S7 s) (gf_S8 s)
theorem gf_badPull {post : Int32 → Prop} {b s : Int32} (h : gf_rg b s) (hp : post 0) : wpX_badPull post () b s := by
  obtain ⟨h1, h2, h3, h4⟩ := h
  have z0 : (0 : Int32).toInt = 0 := by decide
  have z1 : (40 : Int32).toInt = 40 := by decide
  have z2 : (-2 : Int32).toInt = -2 := by decide
  have z3 : (2 : Int32).toInt = 2 := by decide
  refine br_f (fun t => ?_) (br_f (fun t => ?_) (br_f (fun t => ?_) (br_t ?_ hp)))
  · have := Int32.lt_iff_toInt_lt.mp t
    omega
  · have := Int32.lt_iff_toInt_lt.mp t
    omega
  · have := Int32.lt_iff_toInt_lt.mp t
    omega
  · refine Int32.le_iff_toInt_le.mpr ?_
    omega
theorem gf_toSource {post : Int32 → St1 → Prop} {u : St1} {v : Nat} {b s : Int32} (hI : gf_iv u) (hv : v < 7) (hr : gf_rg b s) (H : ∀ u', gf_iv u' → post 0 u') : wpX_toSource post u (nI v) b s := by
  obtain ⟨wf, fl, a1, a2, a3, a4, a5, a6, a7, a8, a9, a10, a11, a12⟩ := u
  unfold wpX_toSource
  refine gf_bad hv ?_
  refine br_t rfl (gf_badPull hr ?_)
  refine br_t rfl ⟨pk_in v 7 hv, ?_⟩
  rw [nI_clamp (show v < 2 ^ 31 by omega)]
  refine nm_e ⟨pk_in v 7 hv, nm_e (H _ ⟨⟨hI.1.1, fun w hw => ?_⟩, gf_wkN⟩)⟩
  by_cases e : w = v
  · subst e
    rw [pk_us, pk_us]
    exact ⟨hr, (hI.1.2 w hw).2⟩
  · rw [pk_un e, pk_un e]
    exact hI.1.2 w hw
theorem gf_toSink {post : Int32 → St1 → Prop} {u : St1} {v : Nat} {b s : Int32} (hI : gf_iv u) (hv : v < 7) (hr : gf_rg b s) (H : ∀ u', gf_iv u' → post 0 u') : wpX_toSink post u (nI v) b s := by
  obtain ⟨wf, fl, a1, a2, a3, a4, a5, a6, a7, a8, a9, a10, a11, a12⟩ := u
  unfold wpX_toSink
  refine gf_bad hv ?_
  refine br_t rfl (gf_badPull hr ?_)
  refine br_t rfl ⟨pk_in v 7 hv, ?_⟩
  rw [nI_clamp (show v < 2 ^ 31 by omega)]
  refine nm_e ⟨pk_in v 7 hv, nm_e (H _ ⟨⟨hI.1.1, fun w hw => ?_⟩, gf_wkN⟩)⟩
  by_cases e : w = v
  · subst e
    rw [pk_us, pk_us]
    exact ⟨(hI.1.2 w hw).1, hr⟩
  · rw [pk_un e, pk_un e]
    exact hI.1.2 w hw
theorem gf_apart {post : Int32 → St1 → Prop} {u : St1} {i j x : Nat} (hI : gf_iv u) (hi : i < 7) (hj : j < 7) (hx : x ≤ 50)
    (H : ∀ f u', gf_iv u' → gf_cu u' = gf_cu u → gf_cp u' = gf_cp u → gf_mn (fun s => gf_cu u x s + cond (gf_S s i) 0 100000 + cond (gf_S s j) 100000 0) f → post (nI f) u') : wpX_leastApart post u (nI i) (nI j) (nI x) := by
  obtain ⟨wf, fl, a1, a2, a3, a4, a5, a6, a7, a8, a9, a10, a11, a12⟩ := u
  obtain ⟨hcf, hwk⟩ := hI
  have hC : ∀ u v, u < 7 → v < 7 → gf_C a1 u v ≤ 20 := fun u v hu hv => (hcf.1 u v hu hv).2.1
  have hS : ∀ u v, u < 7 → v < 7 → gf_C a1 u v = gf_C a1 v u := fun u v hu hv => (hcf.1 u v hu hv).2.2
  refine gf_load hx hcf (fun s hs => ⟨pk_in (63 + i) 81 (by omega) (nI_add 63 i), ?_⟩)
  rw [show (63 : Int32) + nI i = nI (7 * 9 + i) from nI_add 63 i, show nI j * 9 + 8 = nI (j * 9 + 8) from gf_i9 j 8, nI_clamp (show 7 * 9 + i < 2 ^ 31 by omega), nI_clamp (show j * 9 + 8 < 2 ^ 31 by omega), hs 7 i (by omega) (by omega), gf_L07 hi, show nI (gf_p a2 a3 x i) + 100000 = nI (gf_p a2 a3 x i + 100000) from nI_add _ 100000]
  have g1 := gf_lfU (a := 7) (b := i) (x := gf_p a2 a3 x i + 100000) hs (by omega)
  refine ⟨pk_in (7 * 9 + i) 81 (by omega), nm_e ⟨pk_in (j * 9 + 8) 81 (by omega), ?_⟩⟩
  rw [g1 j 8 (by omega) (by omega), gf_p2n (by omega), gf_L08 hj, show nI (gf_p a4 a5 x j) + 100000 = nI (gf_p a4 a5 x j + 100000) from nI_add _ 100000]
  have g2 := gf_lfU (a := j) (b := 8) (x := gf_p a4 a5 x j + 100000) g1 (by omega)
  have g3 := gf_lfC (M := gf_L0 (gf_C a1) (fun v => if v = i then gf_p a2 a3 x v + 100000 else gf_p a2 a3 x v) (fun v => if v = j then gf_p a4 a5 x v + 100000 else gf_p a4 a5 x v)) g2 (fun a b ha hb => by
    by_cases e1 : a = j ∧ b = 8
    · rw [e1.1, e1.2, gf_p2s, gf_L08 hj, if_pos rfl]
    · rw [gf_p2n e1]
      by_cases e2 : a = 7 ∧ b = i
      · rw [e2.1, e2.2, gf_p2s, gf_L07 hi, if_pos rfl]
      · rw [gf_p2n e2]
        unfold gf_L0
        by_cases hb7 : b < 7
        · rw [if_pos hb7, if_pos hb7]
          by_cases ha7 : a < 7
          · rw [if_pos ha7, if_pos ha7]
          · rw [if_neg ha7, if_neg ha7]
            by_cases h7 : a = 7
            · rw [if_pos h7, if_pos h7]
              exact (if_neg (show ¬ b = i by omega)).symm
            · rw [if_neg h7, if_neg h7]
        · rw [if_neg hb7, if_neg hb7]
          by_cases h8 : b = 8 ∧ a < 7
          · rw [if_pos h8, if_pos h8]
            exact (if_neg (show ¬ a = j by omega)).symm
          · rw [if_neg h8, if_neg h8])
  have hbp : ∀ v, v < 7 → (if v = i then gf_p a2 a3 x v + 100000 else gf_p a2 a3 x v) ≤ 150000 := fun v hv => by
    have : gf_p a2 a3 x v ≤ 140 := gf_plB (hcf.2 v hv).1 hx
    split <;> omega
  have hbq : ∀ v, v < 7 → (if v = j then gf_p a4 a5 x v + 100000 else gf_p a4 a5 x v) ≤ 150000 := fun v hv => by
    have : gf_p a4 a5 x v ≤ 140 := gf_plB (hcf.2 v hv).2 hx
    split <;> omega
  refine ⟨pk_in (j * 9 + 8) 81 (by omega), nm_e (gf_grow g3 (gf_L0d hC hbp hbq) (fun u v hu hv => by rw [gf_L0i hu hv]; exact hC u v hu hv) (fun f L b6 b7 b8 _ _ hR hz => H f _ ⟨hcf, gf_wkN⟩ rfl rfl ?_))⟩
  have hm := gf_mf (C := gf_C a1) (p := fun v => if v = i then gf_p a2 a3 x v + 100000 else gf_p a2 a3 x v) (q := fun v => if v = j then gf_p a4 a5 x v + 100000 else gf_p a4 a5 x v) (fun S h7 h8 => by rw [hR S h7 h8, gf_rsL0 hS h7 h8]) hz
  have e : (fun s => gf_co (gf_C a1) (fun v => if v = i then gf_p a2 a3 x v + 100000 else gf_p a2 a3 x v) (fun v => if v = j then gf_p a4 a5 x v + 100000 else gf_p a4 a5 x v) (gf_S s)) = (fun s => gf_co (gf_C a1) (gf_p a2 a3 x) (gf_p a4 a5 x) (gf_S s) + cond (gf_S s i) 0 100000 + cond (gf_S s j) 100000 0) := funext (fun s => gf_coH hi hj)
  rw [e] at hm
  exact hm
/-- the least cost of a cut that parts i from j -/
def gf_sa (c : Nat → Nat) (i j A : Nat) : Prop := (∃ s, s < 128 ∧ gf_S s i ≠ gf_S s j ∧ c s = A) ∧ ∀ s, s < 128 → gf_S s i ≠ gf_S s j → A ≤ c s
def gf_sp (c : Nat → Nat) (i j own s : Nat) : Prop := ∃ l A, gf_mn c l ∧ gf_sa c i j A ∧ s = min own (A - l)
theorem gf_one {c : Nat → Nat} {i j f : Nat} (hi : i < 7) (hj : j < 7) (hn : i ≠ j) (hc : ∀ s, c s ≤ 1960) (h : gf_mn (fun s => c s + cond (gf_S s i) 0 100000 + cond (gf_S s j) 100000 0) f) : (∃ s, s < 128 ∧ gf_S s i = true ∧ gf_S s j = false ∧ c s = f) ∧ ∀ s, s < 128 → gf_S s i = true → gf_S s j = false → f ≤ c s := by
  obtain ⟨⟨s, hs, e⟩, hl⟩ := h
  have h2 : ∀ s, s < 128 → gf_S s i = true → gf_S s j = false → f ≤ c s := by
    intro t ht e1 e2
    have := hl t ht
    dsimp only at this
    rw [e1, e2] at this
    exact this
  refine ⟨⟨s, hs, ?_⟩, h2⟩
  obtain ⟨t, ht, eb⟩ := gf_mk (fun v => v == i) 7
  have b1 := h2 t ht (by rw [gf_Sv hi, eb i hi]; exact beq_self_eq_true i) (by rw [gf_Sv hj, eb j hj]; exact beq_false_of_ne (fun z => hn z.symm))
  have b2 := hc t
  dsimp only at e
  revert e
  cases gf_S s i <;> cases gf_S s j <;> simp only [cond_true, cond_false] <;> intro e
  · omega
  · omega
  · exact ⟨by trivial, by trivial, by omega⟩
  · omega
theorem gf_saI {c : Nat → Nat} {i j f g : Nat} (hi : i < 7) (hj : j < 7) (hn : i ≠ j) (hc : ∀ s, c s ≤ 1960) (h : gf_mn (fun s => c s + cond (gf_S s i) 0 100000 + cond (gf_S s j) 100000 0) f) (h' : gf_mn (fun s => c s + cond (gf_S s j) 0 100000 + cond (gf_S s i) 100000 0) g) : gf_sa c i j (min f g) := by
  obtain ⟨⟨s, hs, s1, s2, s3⟩, hl⟩ := gf_one hi hj hn hc h
  obtain ⟨⟨t, ht, t1, t2, t3⟩, hl'⟩ := gf_one hj hi (fun z => hn z.symm) hc h'
  constructor
  · by_cases e : f ≤ g
    · exact ⟨s, hs, by rw [s1, s2]; decide, by omega⟩
    · exact ⟨t, ht, by rw [t1, t2]; decide, by omega⟩
  · intro y hy hne
    cases e1 : gf_S y i
    · cases e2 : gf_S y j
      · rw [e1, e2] at hne
        exact absurd rfl hne
      · have := hl' y hy e2 e1
        omega
    · cases e2 : gf_S y j
      · have := hl y hy e1 e2
        omega
      · rw [e1, e2] at hne
        exact absurd rfl hne
theorem gf_spare {post : Int32 → St1 → Prop} {u : St1} {i j x : Nat} (hI : gf_iv u) (hi : i < 7) (hj : j < 7) (hn : i ≠ j) (hx : x ≤ 50)
    (H : ∀ s u', gf_iv u' → gf_cu u' = gf_cu u → gf_cp u' = gf_cp u → gf_sp (gf_cu u x) i j (gf_cp u i j) s → post (nI s) u') : wpX_spare post u (nI i) (nI j) (nI x) := by
  have hcB : ∀ s, gf_cu u x s ≤ 1960 := fun s => gf_cuB hI hx
  have hown := (gf_cpB hI hi hj).1
  obtain ⟨wf, fl, a1, a2, a3, a4, a5, a6, a7, a8, a9, a10, a11, a12⟩ := u
  unfold wpX_spare
  refine gf_bad hi ?_
  refine br_t rfl (gf_bad hj ?_)
  refine br_t rfl (pk_eq i j (fun z => absurd z hn) (fun _ => gf_badX hx ?_))
  refine br_t rfl (gf_apart hI hi hj hx (fun f u1 hI1 c1 p1 m1 => ?_))
  obtain ⟨wf1, fl1, b1, b2, b3, b4, b5, b6, b7, b8, b9, b10, b11, b12⟩ := u1
  refine gf_apart hI1 hj hi hx (fun g u2 hI2 c2 p2 m2 => ?_)
  rw [c1] at c2 m2
  rw [p1] at p2
  obtain ⟨wf2, fl2, d1, d2, d3, d4, d5, d6, d7, d8, d9, d10, d11, d12⟩ := u2
  refine gf_work hI2.1 hI2.2 hx (fun l e6 e7 e8 e9 hg => ?_)
  have hIe : gf_iv (nI x, nI l, d1, d2, d3, d4, d5, e6, e7, e8, e9, d10, d11, d12) := ⟨hI2.1, gf_wkI hx hg⟩
  have hce : gf_cu (nI x, nI l, d1, d2, d3, d4, d5, e6, e7, e8, e9, d10, d11, d12) = gf_cu (wf, fl, a1, a2, a3, a4, a5, a6, a7, a8, a9, a10, a11, a12) := c2
  have hpe : gf_cp (nI x, nI l, d1, d2, d3, d4, d5, e6, e7, e8, e9, d10, d11, d12) = gf_cp (wf, fl, a1, a2, a3, a4, a5, a6, a7, a8, a9, a10, a11, a12) := p2
  have hml : gf_mn (gf_cu (wf, fl, a1, a2, a3, a4, a5, a6, a7, a8, a9, a10, a11, a12) x) l := by
    rw [← c2]
    exact hg.1
  have hsa := gf_saI hi hj hn hcB m1 m2
  have hA := (gf_one hi hj hn hcB m1).1
  have hB := (gf_one hj hi (fun z => hn z.symm) hcB m2).1
  obtain ⟨s1, _, _, _, hs1⟩ := hA
  obtain ⟨s2, _, _, _, hs2⟩ := hB
  have bA := hcB s1
  have bB := hcB s2
  have hlA : l ≤ min f g := by
    obtain ⟨⟨s, hs, _, e⟩, _⟩ := hsa
    have := hml.2 s hs
    omega
  have hd1 : d1 (i * 7 + j) = nI (gf_cp (wf, fl, a1, a2, a3, a4, a5, a6, a7, a8, a9, a10, a11, a12) i j) := by
    rw [← p2]
    exact (hI2.1.1 i j hi hj).1
  have main : wX_spare_68 post (nI i) (nI j) (nI (min f g)) (nI x) (nI l) d1 d2 d3 d4 d5 e6 e7 e8 e9 d10 d11 d12 := by
    refine nm_r (pk_sub hlA) ⟨pk_in (i * 7 + j) 49 (by omega) (gf_i7 i j), ?_⟩
    rw [gf_i7, nI_clamp (show i * 7 + j < 2 ^ 31 by omega)]
    refine nm_r hd1 (pk_le _ (min f g - l) (fun z => H _ _ hIe hce hpe ⟨l, min f g, hml, hsa, ?_⟩) (fun z => H _ _ hIe hce hpe ⟨l, min f g, hml, hsa, ?_⟩) rfl rfl (by omega) (by omega))
    · omega
    · omega
  refine pk_le g f (fun z => ?_) (fun z => ?_)
  · rw [show min f g = g by omega] at main
    exact main
  · rw [show min f g = f by omega] at main
    exact main
end
section
/-! the law's leasts and flips -/
section
variable {c c' : Nat → Nat}
theorem gf_alU {a a' : Nat} (h : gf_al c a) (h' : gf_al c a') : a = a' := by
  have e := gf_mnU h.2.1 h'.2.1
  refine gf_mext h.1 h'.1 (fun v hv => ?_)
  have h1 := h.2.2 a' h'.1 e.symm v hv
  have h2 := h'.2.2 a h.1 e v hv
  cases e1 : a.testBit v
  · cases e2 : a'.testBit v
    · rfl
    · rw [h2 e2] at e1
      exact e1.symm
  · exact (h1 e1).symm
theorem gf_evU {a a' : Nat} (h : gf_ev c a) (h' : gf_ev c a') : a = a' := by
  have e := gf_mnU h.2.1 h'.2.1
  refine gf_mext h.1 h'.1 (fun v hv => ?_)
  have h1 := h.2.2 a' h'.1 e.symm v hv
  have h2 := h'.2.2 a h.1 e v hv
  cases e1 : a.testBit v
  · cases e2 : a'.testBit v
    · rfl
    · rw [h1 e2] at e1
      exact e1.symm
  · exact (h2 e1).symm
theorem gf_tiU {t t' : Nat} (h : gf_ti c t) (h' : gf_ti c t') : t = t' := by
  obtain ⟨l, h1, rfl⟩ := h
  obtain ⟨l', h1', rfl⟩ := h'
  rw [gf_mnU h1 h1']
theorem gf_t1 {t a e : Nat} (ht : gf_ti c t) (ha : gf_al c a) (he : gf_ev c e) : t = 1 ↔ a = e := by
  obtain ⟨l, hm, rfl⟩ := ht
  have ea : c a = l := gf_mnU ha.2.1 hm
  have ee : c e = l := gf_mnU he.2.1 hm
  constructor
  · intro h1
    refine Classical.byContradiction (fun hn => ?_)
    have := gf_ct2 (P := fun s => c s = l) ha.1 he.1 hn ea ee
    omega
  · intro h1
    subst h1
    refine gf_ct1 ha.1 ea (fun s hs hc => gf_mext hs ha.1 (fun v hv => ?_))
    have h1 := ha.2.2 s hs (hc.trans ea.symm) v hv
    have h2 := he.2.2 s hs (hc.trans ea.symm) v hv
    cases e1 : s.testBit v
    · cases e2 : a.testBit v
      · rfl
      · rw [h1 e2] at e1
        exact e1.symm
    · exact (h2 e1).symm
theorem gf_mnF {l : Nat} (hf : ∀ s, s < 128 → c' s = c (127 - s)) (h : gf_mn c l) : gf_mn c' l := by
  obtain ⟨⟨s, hs, e⟩, hl⟩ := h
  refine ⟨⟨127 - s, by omega, ?_⟩, fun t ht => ?_⟩
  · rw [hf _ (by omega), show 127 - (127 - s) = s by omega, e]
  · rw [hf t ht]
    exact hl _ (by omega)
theorem gf_tiF {t : Nat} (hf : ∀ s, s < 128 → c' s = c (127 - s)) (h : gf_ti c t) : gf_ti c' t := by
  obtain ⟨l, hm, rfl⟩ := h
  refine ⟨l, gf_mnF hf hm, ?_⟩
  rw [← gf_ctR (fun s => c s = l) 128]
  refine gf_ctC (fun s hs => ?_)
  rw [hf s hs]
theorem gf_alF {e : Nat} (hf : ∀ s, s < 128 → c' s = c (127 - s)) (h : gf_ev c e) : gf_al c' (127 - e) := by
  obtain ⟨he, hm, hl⟩ := h
  have ec : c' (127 - e) = c e := by rw [hf _ (by omega), show 127 - (127 - e) = e by omega]
  refine ⟨by omega, by rw [ec]; exact gf_mnF hf hm, fun s hs h1 v hv hb => ?_⟩
  rw [ec, hf s hs] at h1
  have := hl (127 - s) (by omega) h1 v hv
  rw [gf_127 hs hv] at this
  rw [gf_127 he hv] at hb
  cases e1 : s.testBit v
  · rw [e1] at this
    rw [this rfl] at hb
    exact absurd hb (by decide)
  · rfl
theorem gf_evF {a : Nat} (hf : ∀ s, s < 128 → c' s = c (127 - s)) (h : gf_al c a) : gf_ev c' (127 - a) := by
  obtain ⟨ha, hm, hl⟩ := h
  have ec : c' (127 - a) = c a := by rw [hf _ (by omega), show 127 - (127 - a) = a by omega]
  refine ⟨by omega, by rw [ec]; exact gf_mnF hf hm, fun s hs h1 v hv hb => ?_⟩
  rw [ec, hf s hs] at h1
  have := hl (127 - s) (by omega) h1 v hv
  rw [gf_127 hs hv] at this
  rw [gf_127 ha hv]
  cases e1 : a.testBit v
  · rfl
  · rw [hb] at this
    exact absurd (this e1) (by decide)
end
theorem gf_sub0 {a e : Nat} (ha : a < 128) (he : e < 128) (h : ∀ v, v < 7 → a.testBit v = true → e.testBit v = true) : nI a &&& (nI e ^^^ (-1)) = 0 := by
  have ba : gf_bm 7 (nI a) (fun v => a.testBit v = true) := ⟨a, ha, rfl, fun _ _ => Iff.rfl⟩
  have be : gf_bm 7 (nI e) (fun v => e.testBit v = true) := ⟨e, he, rfl, fun _ _ => Iff.rfl⟩
  have e1 : nI a &&& (127 : Int32) = nI a := by
    have := pk_andN (n := a) (m := 127) (by omega) 7 (by decide)
    rw [this, Nat.mod_eq_of_lt (show a < 2 ^ 7 by omega)]
  have e2 : nI a &&& (nI e ^^^ (-1)) = nI a &&& ((127 : Int32) &&& (nI e ^^^ (-1))) := by
    rw [← Int32.and_assoc, e1]
  rw [e2]
  exact (gf_bmZ (gf_bmA ba (gf_bmN be)) (by omega)).mpr (fun v hv t => t.2 (h v hv t.1))
theorem gf_leasts {post : Int32 → St1 → Prop} {u : St1} {x m : Nat} (hI : gf_iv u) (hx : x ≤ 50) (hm : m < 2 ^ 31) (H : ∀ u', gf_iv u' → post 1 u') : wpL_leasts post u (nI x) (nI m) := by
  have hcB : ∀ s, gf_cu u x s ≤ 1960 := fun s => gf_cuB hI hx
  have hcM : gf_cu u x m = gf_cu u x (m % 128) := gf_cuM
  generalize hc : gf_cu u x = c at hcB hcM
  have start : ∀ v : St1, gf_iv v → gf_cu v = gf_cu u → gf_cu v x = c := fun v _ e => by rw [e, hc]
  obtain ⟨wf, fl, a1, a2, a3, a4, a5, a6, a7, a8, a9, a10, a11, a12⟩ := u
  unfold wpL_leasts
  refine gf_least hI hx (fun l u1 hI1 c1 p1 hl => ?_)
  rw [hc] at hl
  have k1 := start u1 hI1 c1
  obtain ⟨wf1, fl1, b1, b2, b3, b4, b5, b6, b7, b8, b9, b10, b11, b12⟩ := u1
  refine gf_always hI1 hx (fun a u2 hI2 c2 p2 ha => ?_)
  rw [k1] at ha
  have k2 := start u2 hI2 (c2.trans c1)
  obtain ⟨wf2, fl2, d1, d2, d3, d4, d5, d6, d7, d8, d9, d10, d11, d12⟩ := u2
  refine gf_ever hI2 hx (fun e u3 hI3 c3 p3 he => ?_)
  rw [k2] at he
  have k3 := start u3 hI3 (c3.trans (c2.trans c1))
  obtain ⟨wf3, fl3, e1, e2, e3, e4, e5, e6, e7, e8, e9, e10, e11, e12⟩ := u3
  have ea : c a = l := gf_mnU ha.2.1 hl
  have ee : c e = l := gf_mnU he.2.1 hl
  have hlb : l ≤ 1960 := by rw [← ea]; exact hcB a
  have ham := ha.1
  have hem := he.1
  refine br_f (nI_pos (by omega)) (gf_cost hI3 (by omega) hx ?_)
  refine br_t (by rw [k3, ea]) (gf_cost hI3 (by omega) hx ?_)
  refine br_t (by rw [k3, ee]) (gf_cost hI3 hm hx ?_)
  have hlm : l ≤ c m := by
    rw [hcM]
    exact hl.2 _ (Nat.mod_lt _ (by decide))
  have hcm := hcB m
  rw [k3]
  refine pk_lt (c m) l (fun z => absurd z (by omega)) (fun _ => br_t (gf_sub0 ham hem (fun v hv => ha.2.2 e hem (ee.trans ea.symm) v hv)) (gf_ties hI3 hx (fun t u4 hI4 c4 p4 ht => ?_)))
  rw [k3] at ht
  have k4 := start u4 hI4 (c4.trans (c3.trans (c2.trans c1)))
  obtain ⟨wf4, fl4, f1, f2, f3, f4, f5, f6, f7, f8, f9, f10, f11, f12⟩ := u4
  have ht1 := gf_t1 ht ha he
  have htb : t ≤ 128 := by
    obtain ⟨_, _, rfl⟩ := ht
    exact gf_ctL _ _
  have fin : ∃ n, wL_leasts_100 post (nI x) (nI l) wf4 fl4 f1 f2 f3 f4 f5 f6 f7 f8 f9 f10 f11 f12 n 0 := by
    refine pk_loop (σ := Unit) (fun n i _ => wL_leasts_100 post (nI x) (nI l) wf4 fl4 f1 f2 f3 f4 f5 f6 f7 f8 f9 f10 f11 f12 n (nI i)) (fun _ _ => True) 128 0 () (by omega) trivial ?_ ?_
    · intro n _ _
      exact pk_le 128 128 (fun _ => H _ hI4) (fun z => absurd z (by omega))
    · intro n i _ hi _ hw
      refine pk_le 128 i (fun z => absurd z (by omega)) (fun _ => gf_cost hI4 (by omega) hx ?_)
      rw [k4]
      have hci := hcB i
      exact pk_le l (c i) (fun _ => nm_r (nI_1 i) (hw () trivial)) (fun z => absurd (hl.2 i hi) (by omega))
  refine pk_eq t 1 (fun z => ?_) (fun z => ?_)
  · exact br_t (by rw [ht1.mp z]) (br_t rfl fin)
  · exact pk_eq a e (fun y => absurd (ht1.mpr y) z) (fun _ => br_t rfl fin)
theorem gf_flips {post : Int32 → St1 → Prop} {u : St1} {x : Nat} (hI : gf_iv u) (hx : x ≤ 50) (H : ∀ u', gf_iv u' → post 1 u') : wpL_flips post u (nI x) := by
  obtain ⟨wf, fl, a1, a2, a3, a4, a5, a6, a7, a8, a9, a10, a11, a12⟩ := u
  unfold wpL_flips
  refine gf_least hI hx (fun l u1 hI1 c1 _ hl => ?_)
  generalize gf_cu (wf, fl, a1, a2, a3, a4, a5, a6, a7, a8, a9, a10, a11, a12) = C at c1 hl
  obtain ⟨wf1, fl1, b1, b2, b3, b4, b5, b6, b7, b8, b9, b10, b11, b12⟩ := u1
  refine gf_ties hI1 hx (fun t u2 hI2 c2 _ ht => ?_)
  rw [c1] at c2 ht
  obtain ⟨wf2, fl2, d1, d2, d3, d4, d5, d6, d7, d8, d9, d10, d11, d12⟩ := u2
  refine gf_always hI2 hx (fun a u3 hI3 c3 _ ha => ?_)
  rw [c2] at c3 ha
  obtain ⟨wf3, fl3, e1, e2, e3, e4, e5, e6, e7, e8, e9, e10, e11, e12⟩ := u3
  refine gf_ever hI3 hx (fun e u4 hI4 c4 _ he => ?_)
  rw [c3] at c4 he
  obtain ⟨wf4, fl4, f1, f2, f3, f4, f5, f6, f7, f8, f9, f10, f11, f12⟩ := u4
  refine gf_flip hI4 (fun u5 hI5 c5 _ => ?_)
  rw [c4] at c5
  obtain ⟨wf5, fl5, g1, g2, g3, g4, g5, g6, g7, g8, g9, g10, g11, g12⟩ := u5
  refine gf_least hI5 hx (fun l' u6 hI6 c6 _ hl' => ?_)
  generalize gf_cu (wf5, fl5, g1, g2, g3, g4, g5, g6, g7, g8, g9, g10, g11, g12) = D at c5 c6 hl'
  have el : l' = l := gf_mnU hl' (gf_mnF (c5 x) hl)
  obtain ⟨wf6, fl6, h1, h2, h3, h4, h5, h6, h7, h8, h9, h10, h11, h12⟩ := u6
  refine br_t (by rw [el]) (gf_ties hI6 hx (fun t' u7 hI7 c7 _ ht' => ?_))
  rw [c6] at c7 ht'
  have et : t' = t := gf_tiU ht' (gf_tiF (c5 x) ht)
  obtain ⟨wf7, fl7, i1, i2, i3, i4, i5, i6, i7, i8, i9, i10, i11, i12⟩ := u7
  refine br_t (by rw [et]) (gf_always hI7 hx (fun a' u8 hI8 c8 _ ha' => ?_))
  rw [c7] at c8 ha'
  have ea : a' = 127 - e := gf_alU ha' (gf_alF (c5 x) he)
  have hea := ha.1
  have hee := he.1
  obtain ⟨wf8, fl8, j1, j2, j3, j4, j5, j6, j7, j8, j9, j10, j11, j12⟩ := u8
  refine br_t (by rw [ea]; exact (pk_sub (a := 127) (by omega)).symm) (gf_ever hI8 hx (fun e' u9 hI9 c9 _ he' => ?_))
  rw [c8] at c9 he'
  have ee : e' = 127 - a := gf_evU he' (gf_evF (c5 x) ha)
  obtain ⟨wf9, fl9, k1, k2, k3, k4, k5, k6, k7, k8, k9, k10, k11, k12⟩ := u9
  refine br_t (by rw [ee]; exact (pk_sub (a := 127) (by omega)).symm) (gf_flip hI9 (fun v1 hJ1 q1 _ => ?_))
  rw [c9] at q1
  obtain ⟨wfa, fla, m1, m2, m3, m4, m5, m6, m7, m8, m9, m10, m11, m12⟩ := v1
  refine gf_least hJ1 hx (fun l2 v2 hJ2 q2 _ hl2 => ?_)
  generalize gf_cu (wfa, fla, m1, m2, m3, m4, m5, m6, m7, m8, m9, m10, m11, m12) = E at q1 q2 hl2
  have el2 : l2 = l := gf_mnU hl2 (gf_mnF (q1 x) (gf_mnF (c5 x) hl))
  obtain ⟨wfb, flb, n1, n2, n3, n4, n5, n6, n7, n8, n9, n10, n11, n12⟩ := v2
  refine br_t (by rw [el2]) (gf_always hJ2 hx (fun a2 v3 hJ3 q3 _ ha2 => ?_))
  rw [q2] at q3 ha2
  have ea2 : a2 = a := by
    have := gf_alU ha2 (gf_alF (q1 x) (gf_evF (c5 x) ha))
    omega
  obtain ⟨wfc, flc, o1, o2, o3, o4, o5, o6, o7, o8, o9, o10, o11, o12⟩ := v3
  refine br_t (by rw [ea2]) (gf_ever hJ3 hx (fun e2 v4 hJ4 q4 _ he2 => ?_))
  rw [q3] at he2
  have ee2 : e2 = e := by
    have := gf_evU he2 (gf_evF (q1 x) (gf_alF (c5 x) he))
    omega
  obtain ⟨wfd, fld, s1, s2, s3, s4, s5, s6, s7, s8, s9, s10, s11, s12⟩ := v4
  exact br_t (by rw [ee2]) (H _ hJ4)
end
section
/-! the law's spares -/
def gf_ck (b : Nat → Nat) (i j k : Nat) : Nat → Nat := fun s => b s + cond (gf_S s i == gf_S s j) 0 k
theorem gf_AB (b : Nat → Nat) {i j : Nat} (hi : i < 7) (hj : j < 7) (hn : i ≠ j) : ∃ A0 B0, ∀ k, (∀ l, gf_mn (gf_ck b i j k) l → l = min (A0 + k) B0) ∧ (∀ A, gf_sa (gf_ck b i j k) i j A → A = A0 + k) := by
  obtain ⟨t, ht, eb⟩ := gf_mk (fun v => v == i) 7
  have tsep : gf_S t i ≠ gf_S t j := by
    rw [gf_Sv hi, gf_Sv hj, eb i hi, eb j hj, beq_self_eq_true, beq_false_of_ne (fun z => hn z.symm)]
    decide
  have zsep : gf_S 0 i = gf_S 0 j := by
    rw [gf_Sv hi, gf_Sv hj, Nat.zero_testBit, Nat.zero_testBit]
  obtain ⟨A0, ⟨sA, hsA, nA, eA⟩, lA⟩ := pk_least (fun n => ∃ s, s < 128 ∧ gf_S s i ≠ gf_S s j ∧ b s = n) ⟨b t, t, ht, tsep, rfl⟩
  obtain ⟨B0, ⟨sB, hsB, nB, eB⟩, lB⟩ := pk_least (fun n => ∃ s, s < 128 ∧ gf_S s i = gf_S s j ∧ b s = n) ⟨b 0, 0, by omega, zsep, rfl⟩
  have vs : ∀ k s, gf_S s i ≠ gf_S s j → gf_ck b i j k s = b s + k := fun k s h => by
    unfold gf_ck
    rw [beq_false_of_ne h]
    rfl
  have vn : ∀ k s, gf_S s i = gf_S s j → gf_ck b i j k s = b s := fun k s h => by
    unfold gf_ck
    rw [h, beq_self_eq_true]
    rfl
  have gA : ∀ s, s < 128 → gf_S s i ≠ gf_S s j → A0 ≤ b s := fun s hs h => Nat.le_of_not_lt (fun z => lA (b s) z ⟨s, hs, h, rfl⟩)
  have gB : ∀ s, s < 128 → gf_S s i = gf_S s j → B0 ≤ b s := fun s hs h => Nat.le_of_not_lt (fun z => lB (b s) z ⟨s, hs, h, rfl⟩)
  refine ⟨A0, B0, fun k => ⟨fun l hl => ?_, fun A hA => ?_⟩⟩
  · obtain ⟨⟨s, hs, e⟩, hm⟩ := hl
    have m1 := hm sA hsA
    have m2 := hm sB hsB
    rw [vs k sA nA] at m1
    rw [vn k sB nB] at m2
    by_cases h : gf_S s i = gf_S s j
    · rw [vn k s h] at e
      have := gB s hs h
      omega
    · rw [vs k s h] at e
      have := gA s hs h
      omega
  · obtain ⟨⟨s, hs, h, e⟩, hm⟩ := hA
    have m1 := hm sA hsA nA
    rw [vs k sA nA] at m1
    rw [vs k s h] at e
    have := gA s hs h
    omega
theorem gf_saC {c : Nat → Nat} {i j A : Nat} (h : gf_sa c j i A) : gf_sa c i j A := by
  obtain ⟨⟨s, hs, h1, e⟩, h2⟩ := h
  exact ⟨⟨s, hs, fun z => h1 z.symm, e⟩, fun t ht z => h2 t ht (fun y => z y.symm)⟩
theorem gf_spV {b : Nat → Nat} {i j k s A0 B0 : Nat} (h : ∀ k, (∀ l, gf_mn (gf_ck b i j k) l → l = min (A0 + k) B0) ∧ (∀ A, gf_sa (gf_ck b i j k) i j A → A = A0 + k)) (hs : gf_sp (gf_ck b i j k) i j k s) : s = min k (A0 + k - min (A0 + k) B0) := by
  obtain ⟨l, A, hl, hA, e⟩ := hs
  rw [e, (h k).1 l hl, (h k).2 A hA]
theorem gf_spW {b : Nat → Nat} {i j k s A0 B0 : Nat} (h : ∀ k, (∀ l, gf_mn (gf_ck b i j k) l → l = min (A0 + k) B0) ∧ (∀ A, gf_sa (gf_ck b i j k) i j A → A = A0 + k)) (hs : gf_sp (gf_ck b i j k) j i k s) : s = min k (A0 + k - min (A0 + k) B0) := by
  obtain ⟨l, A, hl, hA, e⟩ := hs
  rw [e, (h k).1 l hl, (h k).2 A (gf_saC hA)]
theorem gf_beqC {a b : Bool} : (a == b) = (b == a) := by cases a <;> cases b <;> rfl
theorem gf_161 {post : Int32 → St1 → Prop} {wf fl : Int32} {a1 a2 a3 a4 a5 a6 a7 a8 a9 a10 a11 a12 : Nat → Int32} {x l r : Nat} {z0 : Int32} (hI : gf_iv (wf, fl, a1, a2, a3, a4, a5, a6, a7, a8, a9, a10, a11, a12)) (hx : x ≤ 50) (hr : z0 = nI r)
    (hl : ∀ l', gf_mn (gf_cu (wf, fl, a1, a2, a3, a4, a5, a6, a7, a8, a9, a10, a11, a12) x) l' → l' = l) (H : ∀ u', gf_iv u' → post 1 u') : wL_spares_161 post (nI x) (nI l) z0 (nI r) wf fl a1 a2 a3 a4 a5 a6 a7 a8 a9 a10 a11 a12 := by
  refine br_t hr.symm (gf_least hI hx (fun l' u' hI' _ _ hm => ?_))
  have e := hl l' hm
  obtain ⟨wf1, fl1, b1, b2, b3, b4, b5, b6, b7, b8, b9, b10, b11, b12⟩ := u'
  exact br_t (by rw [e]) (H _ hI')
theorem gf_131 {post : Int32 → St1 → Prop} {wf fl : Int32} {a1 a2 a3 a4 a5 a6 a7 a8 a9 a10 a11 a12 : Nat → Int32} {b : Nat → Nat → Nat} {i j x s l own k A0 B0 : Nat} (hI : gf_iv (wf, fl, a1, a2, a3, a4, a5, a6, a7, a8, a9, a10, a11, a12)) (hx : x ≤ 50) (hi : i < 7) (hj : j < 7) (hn : i ≠ j)
    (hk : gf_cp (wf, fl, a1, a2, a3, a4, a5, a6, a7, a8, a9, a10, a11, a12) i j = k) (hc : ∀ s, gf_cu (wf, fl, a1, a2, a3, a4, a5, a6, a7, a8, a9, a10, a11, a12) x s = gf_ck (b x) i j k s)
    (hAB : ∀ k, (∀ l, gf_mn (gf_ck (b x) i j k) l → l = min (A0 + k) B0) ∧ (∀ A, gf_sa (gf_ck (b x) i j k) i j A → A = A0 + k)) (hown : own ≤ 20) (hs : s ≤ own) (hks : k = if s < own then own - s - 1 else own - s) (hl : l = min (A0 + own) B0) (H : ∀ u', gf_iv u' → post 1 u') :
    wL_spares_131 post (nI i) (nI j) (nI x) (nI s) (nI l) (nI own) wf fl a1 a2 a3 a4 a5 a6 a7 a8 a9 a10 a11 a12 := by
  refine gf_link hI hi hj hn hown (fun u' hI' p1 p2 c' => ?_)
  rw [hk] at c' ⊢
  have hl' : ∀ l', gf_mn (gf_cu u' x) l' → l' = l := by
    intro l' hm
    have e : gf_cu u' x = gf_ck (b x) i j own := by
      funext t
      have h1 := c' x t
      rw [hc t] at h1
      unfold gf_ck at h1 ⊢
      omega
    rw [e] at hm
    rw [hl]
    exact (hAB own).1 l' hm
  obtain ⟨wf1, fl1, b1, b2, b3, b4, b5, b6, b7, b8, b9, b10, b11, b12⟩ := u'
  refine pk_le own s (fun z => gf_161 hI' hx ?_ hl' H) (fun z => gf_161 hI' hx ?_ hl' H)
  · rw [pk_sub (by omega), hks, if_neg (by omega)]
  · rw [hks, if_pos z, pk_sub (by omega)]
    exact pk_sub (b := 1) (by omega)
theorem gf_spares {post : Int32 → St1 → Prop} {u : St1} {i j x : Nat} (hI : gf_iv u) (hi : i < 7) (hj : j < 7) (hn : i ≠ j) (hx : x ≤ 50) (H : ∀ u', gf_iv u' → post 1 u') : wpL_spares post u (nI i) (nI j) (nI x) := by
  have hown := gf_cpB hI hi hj
  obtain ⟨wf, fl, a1, a2, a3, a4, a5, a6, a7, a8, a9, a10, a11, a12⟩ := u
  unfold wpL_spares
  refine gf_spare hI hi hj hn hx (fun s u1 hI1 c1 p1 hs => ?_)
  generalize gf_cu (wf, fl, a1, a2, a3, a4, a5, a6, a7, a8, a9, a10, a11, a12) = C at c1 hs
  generalize gf_cp (wf, fl, a1, a2, a3, a4, a5, a6, a7, a8, a9, a10, a11, a12) = K at p1 hs hown
  obtain ⟨wf1, fl1, b1, b2, b3, b4, b5, b6, b7, b8, b9, b10, b11, b12⟩ := u1
  refine gf_spare hI1 hj hi (fun z => hn z.symm) hx (fun t u2 hI2 c2 p2 ht => ?_)
  rw [c1] at c2 ht
  rw [p1] at p2 ht
  obtain ⟨wf2, fl2, d1, d2, d3, d4, d5, d6, d7, d8, d9, d10, d11, d12⟩ := u2
  refine gf_least hI2 hx (fun l u3 hI3 c3 p3 hl => ?_)
  rw [c2] at c3 hl
  rw [p2] at p3
  obtain ⟨wf3, fl3, e1, e2, e3, e4, e5, e6, e7, e8, e9, e10, e11, e12⟩ := u3
  refine gf_link (k := 0) hI3 hi hj hn (by omega) (fun u4 hI4 p4 p4' c4 => ?_)
  rw [c3, p3] at c4
  rw [p3]
  rw [← hown.2] at ht
  obtain ⟨hown, _⟩ := hown
  generalize K i j = own at hs ht c4 hown
  have hb : ∀ y s, C y s = gf_ck (gf_cu u4 y) i j own s := fun y s => by
    have h := c4 y s
    unfold gf_ck
    revert h
    cases (gf_S s i == gf_S s j) <;> simp only [cond_true, cond_false] <;> intro h <;> omega
  have hb' : C x = gf_ck (gf_cu u4 x) i j own := funext (hb x)
  obtain ⟨A0, B0, hAB⟩ := gf_AB (gf_cu u4 x) hi hj hn
  generalize hB : gf_cu u4 = B at hb hb' hAB c4
  rw [hb'] at hs ht hl
  have vs := gf_spV hAB hs
  have vt := gf_spW hAB ht
  have vl := (hAB own).1 l hl
  have hlb : l ≤ 1960 := by
    obtain ⟨⟨y, _, ey⟩, _⟩ := hl
    rw [← ey, ← hb', ← c2]
    exact gf_cuB hI2 hx
  obtain ⟨wf4, fl4, f1, f2, f3, f4, f5, f6, f7, f8, f9, f10, f11, f12⟩ := u4
  have hso : s ≤ own := by omega
  refine br_f (nI_pos (by omega)) (pk_lt own s (fun z => absurd z (by omega)) (fun _ => br_t (by rw [vs, vt]) ?_))
  rw [pk_sub hso]
  refine gf_link hI4 hi hj hn (by omega) (fun u5 hI5 p5 p5' c5 => ?_)
  rw [p4] at c5 ⊢
  rw [hB] at c5
  have k5 : gf_cu u5 x = gf_ck (B x) i j (own - s) := by
    funext y
    have h := c5 x y
    unfold gf_ck
    revert h
    cases (gf_S y i == gf_S y j) <;> simp only [cond_true, cond_false] <;> intro h <;> omega
  obtain ⟨wf5, fl5, g1, g2, g3, g4, g5, g6, g7, g8, g9, g10, g11, g12⟩ := u5
  refine br_t rfl (gf_least hI5 hx (fun l6 u6 hI6 c6 p6 hl6 => ?_))
  rw [k5] at hl6
  have vl6 := (hAB (own - s)).1 l6 hl6
  have k6 : gf_cu u6 x = gf_ck (B x) i j (own - s) := by rw [c6, k5]
  rw [p5.symm] at k6
  have q6 : gf_cp u6 i j = own - s := by rw [p6, p5]
  obtain ⟨wf6, fl6, h1, h2, h3, h4, h5, h6, h7, h8, h9, h10, h11, h12⟩ := u6
  refine br_t (by rw [show l6 = l by omega]) (gf_spare hI6 hi hj hn hx (fun s7 u7 hI7 c7 p7 hs7 => ?_))
  rw [p5] at k6
  rw [k6, q6] at hs7
  have vs7 := gf_spV hAB hs7
  have k7 : gf_cu u7 x = gf_ck (B x) i j (own - s) := by rw [c7, k6]
  have q7 : gf_cp u7 i j = own - s := by rw [p7, q6]
  obtain ⟨wf7, fl7, i1, i2, i3, i4, i5, i6, i7, i8, i9, i10, i11, i12⟩ := u7
  refine br_t (by rw [show s7 = 0 by omega]; rfl) (pk_le own s (fun z => ?_) (fun z => ?_))
  · exact gf_131 (b := B) hI7 hx hi hj hn q7 (fun y => by rw [k7]) hAB hown hso (by rw [if_neg (by omega)]) vl H
  · rw [show nI (own - s) - 1 = nI (own - s - 1) from pk_sub (b := 1) (by omega)]
    refine gf_link hI7 hj hi (fun z => hn z.symm) (by omega) (fun u8 hI8 p8 p8' c8 => ?_)
    have q7' := (gf_cpB hI7 hi hj).2
    rw [← q7', q7] at c8 ⊢
    have k8 : gf_cu u8 x = gf_ck (B x) i j (own - s - 1) := by
      funext y
      have h := c8 x y
      rw [k7, gf_beqC] at h
      unfold gf_ck at h ⊢
      revert h
      cases (gf_S y i == gf_S y j) <;> simp only [cond_true, cond_false] <;> intro h <;> omega
    obtain ⟨wf8, fl8, j1, j2, j3, j4, j5, j6, j7, j8, j9, j10, j11, j12⟩ := u8
    refine br_t rfl (gf_least hI8 hx (fun l9 u9 hI9 c9 p9 hl9 => ?_))
    rw [k8] at hl9
    have vl9 := (hAB (own - s - 1)).1 l9 hl9
    have k9 : gf_cu u9 x = gf_ck (B x) i j (own - s - 1) := by rw [c9, k8]
    have q9 : gf_cp u9 i j = own - s - 1 := by rw [p9, p8']
    obtain ⟨wf9, fl9, m1, m2, m3, m4, m5, m6, m7, m8, m9, m10, m11, m12⟩ := u9
    refine pk_lt l9 l (fun _ => ?_) (fun y => absurd y (by omega))
    exact gf_131 (b := B) hI9 hx hi hj hn q9 (fun y => by rw [k9]) hAB hown hso (by rw [if_pos z]) vl H
end
section
/-! the law -/
theorem gf_206 {post : Int32 → Prop} {L : Nat} {xs : Nat → Int32} {J : Int32 → Int32 → Int32 → (Nat → Int32) → (Nat → Int32) → (Nat → Int32) → (Nat → Int32) → (Nat → Int32) → (Nat → Int32) → (Nat → Int32) → (Nat → Int32) → (Nat → Int32) → (Nat → Int32) → (Nat → Int32) → (Nat → Int32) → Prop} {i w a b x kc ks : Nat}
    {wf fl : Int32} {a1 a2 a3 a4 a5 a6 a7 a8 a9 a10 a11 a12 : Nat → Int32} (hI : gf_iv (wf, fl, a1, a2, a3, a4, a5, a6, a7, a8, a9, a10, a11, a12)) (hw : w < 2 ^ 31) (ha : a < 7) (hb : b < 7) (hn : a ≠ b) (hx : x ≤ 50)
    (H : ∀ wf fl a1 a2 a3 a4 a5 a6 a7 a8 a9 a10 a11 a12, gf_iv (wf, fl, a1, a2, a3, a4, a5, a6, a7, a8, a9, a10, a11, a12) → J (nI (i + 2)) wf fl a1 a2 a3 a4 a5 a6 a7 a8 a9 a10 a11 a12) :
    wL_law_206 post L xs J (nI i) (nI w) (nI a) (nI b) (nI x) kc ks wf fl a1 a2 a3 a4 a5 a6 a7 a8 a9 a10 a11 a12 := by
  unfold wL_law_206
  rw [pk_shrN hw ((12 : Int32) &&& 31) 12 (by decide)]
  refine gf_leasts hI hx (Nat.lt_of_le_of_lt (Nat.div_le_self _ _) hw) (fun u1 hI1 => ?_)
  obtain ⟨wf1, fl1, b1, b2, b3, b4, b5, b6, b7, b8, b9, b10, b11, b12⟩ := u1
  refine gf_flips hI1 hx (fun u2 hI2 => ?_)
  obtain ⟨wf2, fl2, d1, d2, d3, d4, d5, d6, d7, d8, d9, d10, d11, d12⟩ := u2
  refine gf_spares hI2 ha hb hn hx (fun u3 hI3 => ?_)
  obtain ⟨wf3, fl3, e1, e2, e3, e4, e5, e6, e7, e8, e9, e10, e11, e12⟩ := u3
  exact br_f (by decide) (br_f (by decide) (br_f (by decide) (nm_r (nI_add i 2) (H _ _ _ _ _ _ _ _ _ _ _ _ _ _ hI3))))
theorem gf_rgN {q r : Nat} : gf_rg (nI (q % 41)) (nI (r % 5) - 2) := by
  have h1 := Nat.mod_lt q (show 0 < 41 by omega)
  have h2 := Nat.mod_lt r (show 0 < 5 by omega)
  have e1 := nI_toInt (n := q % 41) (by omega)
  have e2 : (nI (r % 5) - 2).toInt = ((r % 5 : Nat) : Int) - ((2 : Nat) : Int) := pk_sub_toInt (b := 2) (by omega) (by omega)
  unfold gf_rg
  rw [e1, e2]
  omega
theorem gf_rg0 {q : Nat} : gf_rg (nI (q % 41)) 0 := by
  have h1 := Nat.mod_lt q (show 0 < 41 by omega)
  have e1 := nI_toInt (n := q % 41) (by omega)
  have e2 : (0 : Int32).toInt = 0 := by decide
  unfold gf_rg
  rw [e1, e2]
  omega
theorem gf_law10 {post : Int32 → Prop} {L : Nat} {xs : Nat → Int32} {kc ks : Nat} (hL : L ≤ 260) (hp : post 1) :
    ∀ n i wf fl a1 a2 a3 a4 a5 a6 a7 a8 a9 a10 a11 a12, gf_iv (wf, fl, a1, a2, a3, a4, a5, a6, a7, a8, a9, a10, a11, a12) → i ≤ 101 → 102 ≤ 2 * n + i → wL_law_10 post L xs kc ks n (nI i) wf fl a1 a2 a3 a4 a5 a6 a7 a8 a9 a10 a11 a12 := by
  intro n
  induction n with
  | zero => intro i wf fl a1 a2 a3 a4 a5 a6 a7 a8 a9 a10 a11 a12 _ h1 h2; omega
  | succ n ih =>
    intro i wf fl a1 a2 a3 a4 a5 a6 a7 a8 a9 a10 a11 a12 hI hi hn
    refine br_c (fun _ => hp) (fun z => pk_le 100 i (fun _ => hp) (fun z2 => ?_))
    have hiL : i + 2 ≤ L := by
      have e : (Int32.ofNat L - 2).toInt = (L : Int) - ((2 : Nat) : Int) := pk_sub_toInt (a := L) (b := 2) (by omega) (by omega)
      have e2 := nI_toInt (n := i) (by omega)
      have z' : ¬ (Int32.ofNat L - 2).toInt < (nI i).toInt := fun t => z (Int32.lt_iff_toInt_lt.mpr t)
      rw [e, e2] at z'
      omega
    have r7 : ∀ m, m < 2 ^ 31 → nI m - nI m / 7 * 7 = nI (m % 7) := fun m hm => pk_rem (d := 7) hm (by omega) (by omega)
    have r6 : ∀ m, m < 2 ^ 31 → nI m - nI m / 6 * 6 = nI (m % 6) := fun m hm => pk_rem (d := 6) hm (by omega) (by omega)
    have r51 : ∀ m, m < 2 ^ 31 → nI m - nI m / 51 * 51 = nI (m % 51) := fun m hm => pk_rem (d := 51) hm (by omega) (by omega)
    have r41 : ∀ m, m < 2 ^ 31 → nI m - nI m / 41 * 41 = nI (m % 41) := fun m hm => pk_rem (d := 41) hm (by omega) (by omega)
    have r5 : ∀ m, m < 2 ^ 31 → nI m - nI m / 5 * 5 = nI (m % 5) := fun m hm => pk_rem (d := 5) hm (by omega) (by omega)
    have r21 : ∀ m, m < 2 ^ 31 → nI m - nI m / 21 * 21 = nI (m % 21) := fun m hm => pk_rem (d := 21) hm (by omega) (by omega)
    obtain ⟨o, ho, eo⟩ := pk_andE (xs (nI i).toNatClampNeg) (m := 7) 3 (by decide)
    obtain ⟨w, hw, ew⟩ := pk_andE (xs (nI i + 1).toNatClampNeg) (m := 2147483647) 31 (by decide)
    have s3 : nI w >>> ((3 : Int32) &&& 31) = nI (w / 8) := pk_shrN hw _ 3 (by decide)
    have s6 : nI w >>> ((6 : Int32) &&& 31) = nI (w / 64) := pk_shrN hw _ 6 (by decide)
    have s12 : nI w >>> ((12 : Int32) &&& 31) = nI (w / 4096) := pk_shrN hw _ 12 (by decide)
    have s18 : nI w >>> ((18 : Int32) &&& 31) = nI (w / 262144) := pk_shrN hw _ 18 (by decide)
    have ha : w % 7 < 7 := Nat.mod_lt _ (by decide)
    have hb : (w % 7 + 1 + w / 8 % 6) % 7 < 7 := Nat.mod_lt _ (by decide)
    have h6 : w / 8 % 6 < 6 := Nat.mod_lt _ (by decide)
    have hab : w % 7 ≠ (w % 7 + 1 + w / 8 % 6) % 7 := by omega
    have hx : w / 64 % 51 ≤ 50 := by
      have := Nat.mod_lt (w / 64) (show 0 < 51 by decide)
      omega
    have d8 : w / 8 < 2 ^ 31 := by omega
    have d64 : w / 64 < 2 ^ 31 := by omega
    have d12 : w / 4096 < 2 ^ 31 := by omega
    have d18 : w / 262144 < 2 ^ 31 := by omega
    have fin : ∀ wf fl a1 a2 a3 a4 a5 a6 a7 a8 a9 a10 a11 a12, gf_iv (wf, fl, a1, a2, a3, a4, a5, a6, a7, a8, a9, a10, a11, a12) →
        wL_law_206 post L xs (wL_law_10 post L xs kc ks n) (nI i) (nI w) (nI (w % 7)) (nI ((w % 7 + 1 + w / 8 % 6) % 7)) (nI (w / 64 % 51)) kc ks wf fl a1 a2 a3 a4 a5 a6 a7 a8 a9 a10 a11 a12 := by
      intro wf fl a1 a2 a3 a4 a5 a6 a7 a8 a9 a10 a11 a12 hI
      exact gf_206 hI hw ha hb hab hx (fun wf fl a1 a2 a3 a4 a5 a6 a7 a8 a9 a10 a11 a12 hI => ih (i + 2) wf fl a1 a2 a3 a4 a5 a6 a7 a8 a9 a10 a11 a12 hI (by omega) (by omega))
    refine ⟨pk_in i L (by omega), nm_r eo ⟨pk_in (i + 1) L (by omega) (nI_1 i), nm_r ew ⟨by decide, nm_r (r7 w hw) ⟨by decide, by decide, nm_r (e' := nI ((w % 7 + 1 + w / 8 % 6) % 7)) ?_ ⟨by decide, nm_r (e' := nI (w / 64 % 51)) (by rw [s6, r51 _ d64]) ?_⟩⟩⟩⟩⟩
    · rw [s3, r6 _ d8, nI_1, nI_add, r7 _ (by omega)]
    · rw [s12, s18, r41 _ d12, r41 _ d18, r5 _ d18, r21 _ d12]
      refine pk_lt 3 o (fun _ => pk_lt 5 o (fun _ => pk_eq o 6 (fun _ => ⟨by decide, by decide, ?_⟩) (fun _ => ⟨by decide, ?_⟩)) (fun _ => ⟨by decide, by decide, ?_⟩)) (fun _ => ⟨by decide, ?_⟩)
      · refine gf_toSink hI ha gf_rgN (fun u' hI' => ?_)
        obtain ⟨wf1, fl1, b1, b2, b3, b4, b5, b6, b7, b8, b9, b10, b11, b12⟩ := u'
        exact br_t rfl (fin _ _ _ _ _ _ _ _ _ _ _ _ _ _ hI')
      · refine gf_toSink hI ha gf_rg0 (fun u' hI' => ?_)
        obtain ⟨wf1, fl1, b1, b2, b3, b4, b5, b6, b7, b8, b9, b10, b11, b12⟩ := u'
        refine br_t rfl ⟨by decide, gf_toSource hI' hb gf_rg0 (fun u2 hI2 => ?_)⟩
        obtain ⟨wf2, fl2, d1, d2, d3, d4, d5, d6, d7, d8, d9, d10, d11, d12⟩ := u2
        exact br_t rfl (fin _ _ _ _ _ _ _ _ _ _ _ _ _ _ hI2)
      · refine gf_toSource hI ha gf_rgN (fun u' hI' => ?_)
        obtain ⟨wf1, fl1, b1, b2, b3, b4, b5, b6, b7, b8, b9, b10, b11, b12⟩ := u'
        exact br_t rfl (fin _ _ _ _ _ _ _ _ _ _ _ _ _ _ hI')
      · have hcb := (gf_cpB hI ha hb).1
        refine gf_link hI ha hb hab (by omega) (fun u' hI' _ _ _ => ?_)
        obtain ⟨wf1, fl1, b1, b2, b3, b4, b5, b6, b7, b8, b9, b10, b11, b12⟩ := u'
        exact br_t (nI_pos' (by omega)) (fin _ _ _ _ _ _ _ _ _ _ _ _ _ _ hI')
end
section
/-! the owed statement -/
theorem gf_iv0 : gf_iv ((-1), 0, (fun _ => 0), (fun _ => 0), (fun _ => 0), (fun _ => 0), (fun _ => 0), (fun _ => 0), (fun _ => 0), (fun _ => 0), (fun _ => 0), (fun _ => 0), (fun _ => 0), (fun _ => 0)) := by
  refine ⟨⟨fun u v _ _ => ⟨rfl, Nat.zero_le _, rfl⟩, fun v _ => ?_⟩, gf_wkN⟩
  have h : gf_rg 0 0 := by
    have e2 : (0 : Int32).toInt = 0 := by decide
    unfold gf_rg
    rw [e2]
    omega
  exact ⟨h, h⟩
theorem gf_law0 (xs : Nat → Int32) (L : Nat) (hL : L ≤ 260) (kc ks : Nat) : ∃ n, wL_law_10 (fun r => r = 1) L xs kc ks n 0 (-1) 0 (fun _ => 0) (fun _ => 0) (fun _ => 0) (fun _ => 0) (fun _ => 0) (fun _ => 0) (fun _ => 0) (fun _ => 0) (fun _ => 0) (fun _ => 0) (fun _ => 0) (fun _ => 0) := by
  have h := gf_law10 (post := fun r => r = 1) (L := L) (xs := xs) (kc := kc) (ks := ks) hL rfl 51 0 (-1) 0 (fun _ => 0) (fun _ => 0) (fun _ => 0) (fun _ => 0) (fun _ => 0) (fun _ => 0) (fun _ => 0) (fun _ => 0) (fun _ => 0) (fun _ => 0) (fun _ => 0) (fun _ => 0) gf_iv0 (by omega) (by omega)
  rw [nI_0] at h
  exact ⟨51, h⟩
theorem i_vc (xs : Nat → Int32) (L : Nat) (hL : L ≤ 260) : wpL_law (fun r => r = 1) L xs := by
  unfold wpL_law
  refine ⟨12, 212, by omega, by omega, ?_⟩
  unfold wpX_init
  refine ⟨by omega, by omega, by omega, by omega, by omega, by omega, by omega, by omega, by omega, by omega, by omega, by omega, by omega, by omega, by omega, by omega, by omega, by omega, by omega, by omega, by omega, by omega, by omega, by omega, ?_⟩
  exact gf_law0 xs L hL _ _
end
