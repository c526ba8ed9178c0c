section
/-! PLAIN LAWS 1: finite sums of ints -/
def mq_sm (f : Nat → Int) : Nat → Int
  | 0 => 0
  | n + 1 => mq_sm f n + f n
theorem mq_sm_0 (f : Nat → Int) : mq_sm f 0 = 0 := rfl
theorem mq_sm_s (f : Nat → Int) (n : Nat) : mq_sm f (n + 1) = mq_sm f n + f n := rfl
theorem mq_sm_congr {f g : Nat → Int} {n : Nat} (h : ∀ j, j < n → f j = g j) : mq_sm f n = mq_sm g n := by
  induction n with
  | zero => rfl
  | succ n ih => rw [mq_sm_s, mq_sm_s, ih (fun j hj => h j (by omega)), h n (by omega)]
theorem mq_sm_le {f g : Nat → Int} {n : Nat} (h : ∀ j, j < n → f j ≤ g j) : mq_sm f n ≤ mq_sm g n := by
  induction n with
  | zero => exact Int.le_refl _
  | succ n ih =>
    have h1 := ih (fun j hj => h j (by omega))
    have h2 := h n (by omega)
    rw [mq_sm_s, mq_sm_s]
    omega
theorem mq_sm_zero {f : Nat → Int} {n : Nat} (h : ∀ j, j < n → f j = 0) : mq_sm f n = 0 := by
  induction n with
  | zero => rfl
  | succ n ih => rw [mq_sm_s, ih (fun j hj => h j (by omega)), h n (by omega)]; rfl
theorem mq_sm_nn {f : Nat → Int} {n : Nat} (h : ∀ j, j < n → 0 ≤ f j) : 0 ≤ mq_sm f n := by
  induction n with
  | zero => exact Int.le_refl _
  | succ n ih =>
    have h1 := ih (fun j hj => h j (by omega))
    have h2 := h n (by omega)
    rw [mq_sm_s]
    omega
theorem mq_sm_add (f g : Nat → Int) (n : Nat) : mq_sm (fun j => f j + g j) n = mq_sm f n + mq_sm g n := by
  induction n with
  | zero => rfl
  | succ n ih => rw [mq_sm_s, mq_sm_s, mq_sm_s, ih]; omega
theorem mq_sm_sub (f g : Nat → Int) (n : Nat) : mq_sm (fun j => f j - g j) n = mq_sm f n - mq_sm g n := by
  induction n with
  | zero => rfl
  | succ n ih => rw [mq_sm_s, mq_sm_s, mq_sm_s, ih]; omega
theorem mq_sm_mul (c : Int) (f : Nat → Int) (n : Nat) : mq_sm (fun j => c * f j) n = c * mq_sm f n := by
  induction n with
  | zero => rw [mq_sm_0, mq_sm_0, Int.mul_zero]
  | succ n ih => rw [mq_sm_s, mq_sm_s, ih, Int.mul_add]
theorem mq_sm_const (c : Int) (n : Nat) : mq_sm (fun _ => c) n = n * c := by
  induction n with
  | zero => rw [mq_sm_0]; simp
  | succ n ih => rw [mq_sm_s, ih, Int.natCast_add, Int.add_mul]; simp
theorem mq_sm_split (f : Nat → Int) (a b : Nat) : mq_sm f (a + b) = mq_sm f a + mq_sm (fun j => f (a + j)) b := by
  induction b with
  | zero => rw [Nat.add_zero, mq_sm_0, Int.add_zero]
  | succ b ih => rw [← Nat.add_assoc, mq_sm_s, mq_sm_s, ih]; omega
theorem mq_sm_pt {f : Nat → Int} {n k : Nat} (h : ∀ j, j < n → 0 ≤ f j) (hk : k < n) : f k ≤ mq_sm f n := by
  induction n with
  | zero => omega
  | succ n ih =>
    rw [mq_sm_s]
    have h1 : 0 ≤ mq_sm f n := mq_sm_nn (fun j hj => h j (by omega))
    rcases Nat.lt_or_ge k n with q | q
    · have h2 := ih (fun j hj => h j (by omega)) q
      have h3 := h n (by omega)
      omega
    · have e : k = n := by omega
      subst e
      omega
theorem mq_sm_up_out {f : Nat → Int} {n k : Nat} {v : Int} (hk : n ≤ k) : mq_sm (va_up f k v) n = mq_sm f n :=
  mq_sm_congr (fun j hj => va_up_ne f v (by omega))
theorem mq_sm_up {f : Nat → Int} {n k : Nat} {v : Int} (hk : k < n) : mq_sm (va_up f k v) n = mq_sm f n + (v - f k) := by
  induction n with
  | zero => omega
  | succ n ih =>
    rw [mq_sm_s, mq_sm_s]
    rcases Nat.lt_or_ge k n with q | q
    · rw [ih q, va_up_ne f v (by omega)]
      omega
    · have e : k = n := by omega
      subst e
      rw [mq_sm_up_out (Nat.le_refl _), va_up_self]
      omega
/-- a weighted sum behind one change -/
theorem mq_sm_upw {f w : Nat → Int} {n k : Nat} {v : Int} (hk : k < n) : mq_sm (fun j => va_up f k v j * w j) n = mq_sm (fun j => f j * w j) n + (v - f k) * w k := by
  have h1 : mq_sm (fun j => va_up f k v j * w j) n = mq_sm (va_up (fun j => f j * w j) k (v * w k)) n := by
    refine mq_sm_congr (fun j _ => ?_)
    by_cases e : j = k
    · subst e
      rw [va_up_self, va_up_self]
    · rw [va_up_ne f v e, va_up_ne _ _ e]
  rw [h1, mq_sm_up hk, Int.sub_mul]
theorem mq_sm_lt {f g : Nat → Int} {n k : Nat} (h : ∀ j, j < n → f j ≤ g j) (hk : k < n) (hs : f k + 1 ≤ g k) : mq_sm f n + 1 ≤ mq_sm g n := by
  have h1 : mq_sm f n + 1 = mq_sm (va_up f k (f k + 1)) n := by rw [mq_sm_up hk]; omega
  rw [h1]
  refine mq_sm_le (fun j hj => ?_)
  by_cases e : j = k
  · subst e
    rw [va_up_self]
    exact hs
  · rw [va_up_ne _ _ e]
    exact h j hj
/-- the part of a number above 0 -/
def mq_mx (z : Int) : Int := if 0 ≤ z then z else 0
theorem mq_mx_nn (z : Int) : 0 ≤ mq_mx z := by unfold mq_mx; split <;> omega
theorem mq_mx_ge (z : Int) : z ≤ mq_mx z := by unfold mq_mx; split <;> omega
theorem mq_mx_le {z w : Int} (h0 : 0 ≤ w) (h : z ≤ w) : mq_mx z ≤ w := by unfold mq_mx; split <;> omega
theorem mq_mx_pos {z : Int} (h : 0 ≤ z) : mq_mx z = z := if_pos h
theorem mq_mx_neg {z : Int} (h : z ≤ 0) : mq_mx z = 0 := by unfold mq_mx; split <;> omega
/-- the whole numbers from a on and under b, of those under k: at most b - a -/
theorem mq_count (a b : Int) (k : Nat) : mq_sm (fun m => if a ≤ (m : Int) ∧ (m : Int) < b then 1 else 0) k ≤ mq_mx (b - a) := by
  have key : mq_sm (fun m => if a ≤ (m : Int) ∧ (m : Int) < b then 1 else 0) k ≤ mq_mx ((if b ≤ (k : Int) then b else (k : Int)) - a) := by
    induction k with
    | zero => rw [mq_sm_0]; exact mq_mx_nn _
    | succ k ih =>
      rw [mq_sm_s]
      generalize mq_sm (fun m => if a ≤ (m : Int) ∧ (m : Int) < b then 1 else 0) k = S at ih ⊢
      unfold mq_mx at ih ⊢
      have e : ((k + 1 : Nat) : Int) = (k : Int) + 1 := by omega
      rw [e]
      by_cases h1 : a ≤ (k : Int) ∧ (k : Int) < b
      · rw [if_pos h1]
        rw [if_neg (show ¬ b ≤ (k : Int) by omega), if_pos (show 0 ≤ (k : Int) - a by omega)] at ih
        by_cases h2 : b ≤ (k : Int) + 1
        · rw [if_pos h2, if_pos (show 0 ≤ b - a by omega)]
          omega
        · rw [if_neg h2, if_pos (show 0 ≤ (k : Int) + 1 - a by omega)]
          omega
      · rw [if_neg h1]
        by_cases h2 : b ≤ (k : Int)
        · rw [if_pos h2] at ih
          rw [if_pos (show b ≤ (k : Int) + 1 by omega)]
          omega
        · rw [if_neg h2] at ih
          rw [if_neg (show ¬ 0 ≤ (k : Int) - a by omega)] at ih
          split <;> omega
  refine Int.le_trans key (mq_mx_le (mq_mx_nn _) ?_)
  refine Int.le_trans ?_ (mq_mx_ge _)
  split <;> omega
end
section
/-! PLAIN LAWS 2: cuts of the network over time; the number that both classes answer by is the least of them -/
/-- what a cut (by a moment for each place) lets through -/
def mq_cut (n : Nat) (fr to wd ti : Nat → Int) (pt : Nat → Int) : Int := mq_sm (fun j => wd j * mq_mx (pt (to j).toNat - pt (fr j).toNat - ti j)) n
/-- V is the least cut up to the moment L -/
def mq_MC (n : Nat) (fr to wd ti : Nat → Int) (L V : Int) : Prop := (∀ pt : Nat → Int, pt 0 ≤ 0 → L + 1 ≤ pt 4 → V ≤ mq_cut n fr to wd ti pt) ∧ ∃ pt : Nat → Int, pt 0 = 0 ∧ pt 4 = L + 1 ∧ mq_cut n fr to wd ti pt ≤ V
theorem mq_MC_uniq {n : Nat} {fr to wd ti : Nat → Int} {L V V' : Int} (h : mq_MC n fr to wd ti L V) (h' : mq_MC n fr to wd ti L V') : V = V' := by
  obtain ⟨a, pt, b, c, d⟩ := h
  obtain ⟨a', pt', b', c', d'⟩ := h'
  have h1 := a pt' (by omega) (by omega)
  have h2 := a' pt (by omega) (by omega)
  omega
/-- the edges of the copies, as a sum over them says it: lines at their moments, and waiting -/
def mq_Ed (n : Nat) (fr to wd ti : Nat → Int) (L E : Nat) (st en rm : Nat → Int) : Prop := ∀ ph : Int → Int → Int → Int, mq_sm (fun e => ph (st e) (en e) (rm e)) E = mq_sm (fun i => mq_sm (fun m => ph (13 * fr i + m) (13 * to i + m + ti i) (wd i)) (L + 1 - (ti i).toNat)) n + mq_sm (fun p => mq_sm (fun m => ph (13 * p + m) (13 * p + m + 1) 100000) L) 5
/-- a flow of V from copy 0 to the copy g, said by its sums -/
def mq_Fl (E : Nat) (st en fl : Nat → Int) (g : Nat) (V : Int) : Prop := ∀ ch : Nat → Int, mq_sm (fun e => fl e * (ch (st e).toNat - ch (en e).toNat)) E = V * (ch 0 - ch g)
def mq_okN (n : Nat) (fr to wd ti : Nat → Int) : Prop := ∀ i, i < n → (0 ≤ fr i ∧ fr i ≤ 4) ∧ (0 ≤ to i ∧ to i ≤ 4) ∧ 0 ≤ wd i ∧ 0 ≤ ti i
theorem mq_upper {n : Nat} {fr to wd ti : Nat → Int} {L E : Nat} {st en rm fl : Nat → Int} {V : Int} (hn : mq_okN n fr to wd ti) (hL : L ≤ 12) (hE : mq_Ed n fr to wd ti L E st en rm) (hb : ∀ e, e < E → 0 ≤ fl e ∧ fl e ≤ rm e) (hF : mq_Fl E st en fl (52 + L) V) : ∀ pt : Nat → Int, pt 0 ≤ 0 → (L : Int) + 1 ≤ pt 4 → V ≤ mq_cut n fr to wd ti pt := by
  intro pt h0 h4
  obtain ⟨ch, hch⟩ : ∃ ch : Nat → Int, ∀ c, ch c = if pt (c / 13) ≤ ((c % 13 : Nat) : Int) then 1 else 0 := ⟨_, fun _ => rfl⟩
  have hz : ∀ c, ch c = 0 ∨ ch c = 1 := by
    intro c
    rw [hch]
    split
    · exact Or.inr rfl
    · exact Or.inl rfl
  have hat : ∀ p m : Nat, m < 13 → ch (13 * p + m) = if pt p ≤ (m : Int) then 1 else 0 := by
    intro p m hm
    rw [hch, show (13 * p + m) / 13 = p by omega, show (13 * p + m) % 13 = m by omega]
  have hc0 : ch 0 = 1 := by
    have := hat 0 0 (by omega)
    rw [if_pos (by omega)] at this
    exact this
  have hc4 : ch (52 + L) = 0 := by
    have := hat 4 L (by omega)
    rw [if_neg (by omega)] at this
    exact this
  have h1 : V = mq_sm (fun e => fl e * (ch (st e).toNat - ch (en e).toNat)) E := by
    rw [hF ch, hc0, hc4]
    omega
  obtain ⟨ph, hph⟩ : ∃ ph : Int → Int → Int → Int, ∀ s t r, ph s t r = if ch s.toNat = 1 ∧ ch t.toNat = 0 then r else 0 := ⟨_, fun _ _ _ => rfl⟩
  have h2 : V ≤ mq_sm (fun e => ph (st e) (en e) (rm e)) E := by
    rw [h1]
    refine mq_sm_le (fun e he => ?_)
    have hb1 := hb e he
    rw [hph]
    rcases hz (st e).toNat with q | q <;> rcases hz (en e).toNat with w | w <;> rw [q, w] <;> simp <;> omega
  rw [hE ph] at h2
  have h3 : mq_sm (fun p => mq_sm (fun m => ph (13 * p + m) (13 * p + m + 1) 100000) L) 5 = 0 := by
    refine mq_sm_zero (fun p hp => mq_sm_zero (fun m hm => ?_))
    rw [hph, show (13 * (p : Int) + (m : Int)).toNat = 13 * p + m by omega, show (13 * (p : Int) + (m : Int) + 1).toNat = 13 * p + (m + 1) by omega, hat p m (by omega), hat p (m + 1) (by omega)]
    by_cases q : pt p ≤ (m : Int)
    · rw [if_pos q, if_pos (show pt p ≤ ((m + 1 : Nat) : Int) by omega)]
      simp
    · rw [if_neg q]
      simp
  have h5 : mq_sm (fun i => mq_sm (fun m => ph (13 * fr i + m) (13 * to i + m + ti i) (wd i)) (L + 1 - (ti i).toNat)) n ≤ mq_cut n fr to wd ti pt := by
    refine mq_sm_le (fun i hi => ?_)
    obtain ⟨⟨f1, f2⟩, ⟨t1, t2⟩, w1, z1⟩ := hn i hi
    have e1 : pt (to i).toNat - pt (fr i).toNat - ti i = (pt (to i).toNat - ti i) - pt (fr i).toNat := by omega
    rw [e1]
    refine Int.le_trans ?_ (Int.mul_le_mul_of_nonneg_left (mq_count (pt (fr i).toNat) (pt (to i).toNat - ti i) (L + 1 - (ti i).toNat)) w1)
    rw [← mq_sm_mul]
    refine mq_sm_le (fun m hm => ?_)
    have a1 : (13 * fr i + (m : Int)).toNat = 13 * (fr i).toNat + m := by omega
    have a2 : (13 * to i + (m : Int) + ti i).toNat = 13 * (to i).toNat + (m + (ti i).toNat) := by omega
    rw [hph, a1, a2, hat _ m (by omega), hat _ (m + (ti i).toNat) (by omega)]
    have a3 : ((m + (ti i).toNat : Nat) : Int) = (m : Int) + ti i := by omega
    rw [a3]
    by_cases q : pt (fr i).toNat ≤ (m : Int) <;> by_cases w : pt (to i).toNat ≤ (m : Int) + ti i
    · rw [if_pos q, if_pos w, if_neg (show ¬ (pt (fr i).toNat ≤ (m : Int) ∧ (m : Int) < pt (to i).toNat - ti i) by omega)]
      simp
    · rw [if_pos q, if_neg w, if_pos (show (pt (fr i).toNat ≤ (m : Int) ∧ (m : Int) < pt (to i).toNat - ti i) by omega)]
      simp
    · rw [if_neg q, if_pos w, if_neg (show ¬ (pt (fr i).toNat ≤ (m : Int) ∧ (m : Int) < pt (to i).toNat - ti i) by omega)]
      simp
    · rw [if_neg q, if_neg w, if_neg (show ¬ (pt (fr i).toNat ≤ (m : Int) ∧ (m : Int) < pt (to i).toNat - ti i) by omega)]
      simp
  omega
theorem mq_lower {n : Nat} {fr to wd ti : Nat → Int} {L E : Nat} {st en rm fl cm : Nat → Int} {V : Int} (hn : mq_okN n fr to wd ti) (hL : L ≤ 12) (hE : mq_Ed n fr to wd ti L E st en rm) (hF : mq_Fl E st en fl (52 + L) V) (h00 : 0 ≤ cm 0) (hg : cm (52 + L) < 0) (hcl : ∀ e, e < E → (0 ≤ cm (st e).toNat → cm (en e).toNat < 0 → fl e = rm e) ∧ (cm (st e).toNat < 0 → 0 ≤ cm (en e).toNat → fl e = 0)) (hV : V ≤ 1000) : ∃ pt : Nat → Int, pt 0 = 0 ∧ pt 4 = (L : Int) + 1 ∧ mq_cut n fr to wd ti pt ≤ V := by
  obtain ⟨ch, hch⟩ : ∃ ch : Nat → Int, ∀ c, ch c = if 0 ≤ cm c then 1 else 0 := ⟨_, fun _ => rfl⟩
  have hz : ∀ c, ch c = 0 ∨ ch c = 1 := by
    intro c
    rw [hch]
    split
    · exact Or.inr rfl
    · exact Or.inl rfl
  have hc0 : ch 0 = 1 := by rw [hch, if_pos h00]
  have hc4 : ch (52 + L) = 0 := by rw [hch, if_neg (by omega)]
  obtain ⟨ph, hph⟩ : ∃ ph : Int → Int → Int → Int, ∀ s t r, ph s t r = if ch s.toNat = 1 ∧ ch t.toNat = 0 then r else 0 := ⟨_, fun _ _ _ => rfl⟩
  have h1 : V = mq_sm (fun e => ph (st e) (en e) (rm e)) E := by
    have h1 : V = mq_sm (fun e => fl e * (ch (st e).toNat - ch (en e).toNat)) E := by
      rw [hF ch, hc0, hc4]
      omega
    rw [h1]
    refine mq_sm_congr (fun e he => ?_)
    obtain ⟨x1, x2⟩ := hcl e he
    rw [hph, hch, hch]
    by_cases q : 0 ≤ cm (st e).toNat <;> by_cases w : 0 ≤ cm (en e).toNat
    · rw [if_pos q, if_pos w]; simp
    · rw [if_pos q, if_neg w, x1 q (by omega)]; simp
    · rw [if_neg q, if_pos w, x2 (by omega) w]; simp
    · rw [if_neg q, if_neg w]; simp
  rw [hE ph] at h1
  have hp0 : ∀ s t r, 0 ≤ r → 0 ≤ ph s t r := by
    intro s t r hr
    rw [hph]
    split <;> omega
  have hA : 0 ≤ mq_sm (fun i => mq_sm (fun m => ph (13 * fr i + m) (13 * to i + m + ti i) (wd i)) (L + 1 - (ti i).toNat)) n := mq_sm_nn (fun i hi => mq_sm_nn (fun m _ => hp0 _ _ _ (hn i hi).2.2.1))
  have hB : 0 ≤ mq_sm (fun p => mq_sm (fun m => ph (13 * p + m) (13 * p + m + 1) 100000) L) 5 := mq_sm_nn (fun p _ => mq_sm_nn (fun m _ => hp0 _ _ _ (by omega)))
  have hw : ∀ p m : Nat, p < 5 → m < L → ch (13 * p + m) = 1 → ch (13 * p + (m + 1)) = 1 := by
    intro p m hp hm hc
    rcases hz (13 * p + (m + 1)) with q | q
    · have b1 : mq_sm (fun m => ph (13 * p + m) (13 * p + m + 1) 100000) L ≤ mq_sm (fun p => mq_sm (fun m => ph (13 * p + m) (13 * p + m + 1) 100000) L) 5 := mq_sm_pt (f := fun p : Nat => mq_sm (fun m => ph (13 * p + m) (13 * p + m + 1) 100000) L) (fun j _ => mq_sm_nn (fun m _ => hp0 _ _ _ (by omega))) hp
      have b2 : ph (13 * p + m) (13 * p + m + 1) 100000 ≤ mq_sm (fun m => ph (13 * p + m) (13 * p + m + 1) 100000) L := mq_sm_pt (f := fun m : Nat => ph (13 * p + m) (13 * p + m + 1) 100000) (fun j _ => hp0 _ _ _ (by omega)) hm
      rw [hph, show (13 * (p : Int) + (m : Int)).toNat = 13 * p + m by omega, show (13 * (p : Int) + (m : Int) + 1).toNat = 13 * p + (m + 1) by omega, if_pos ⟨hc, q⟩] at b2
      omega
    · exact q
  have hup : ∀ p d m : Nat, p < 5 → m + d ≤ L → ch (13 * p + m) = 1 → ch (13 * p + (m + d)) = 1 := by
    intro p d
    induction d with
    | zero => intro m _ _ h; exact h
    | succ d ih =>
      intro m hp hd h
      exact hw p (m + d) hp (by omega) (ih m hp (by omega) h)
  refine ⟨fun p => mq_sm (fun m => 1 - ch (13 * p + m)) (L + 1), ?_, ?_, ?_⟩
  · refine mq_sm_zero (fun m hm => ?_)
    have := hup 0 m 0 (by omega) (by omega) hc0
    rw [show 13 * 0 + (0 + m) = 13 * 0 + m by omega] at this
    rw [this]
    rfl
  · have : mq_sm (fun m => 1 - ch (13 * 4 + m)) (L + 1) = mq_sm (fun _ => 1) (L + 1) := by
      refine mq_sm_congr (fun m hm => ?_)
      rcases hz (13 * 4 + m) with q | q
      · rw [q]; rfl
      · have := hup 4 (L - m) m (by omega) (by omega) q
        rw [show 13 * 4 + (m + (L - m)) = 52 + L by omega, hc4] at this
        omega
    show mq_sm (fun m => 1 - ch (13 * 4 + m)) (L + 1) = (L : Int) + 1
    rw [this, mq_sm_const]
    omega
  · refine Int.le_trans (b := mq_sm (fun i => mq_sm (fun m => ph (13 * fr i + m) (13 * to i + m + ti i) (wd i)) (L + 1 - (ti i).toNat)) n) (mq_sm_le (fun i hi => ?_)) (by omega)
    obtain ⟨⟨f1, f2⟩, ⟨t1, t2⟩, w1, z1⟩ := hn i hi
    obtain ⟨F, hF'⟩ : ∃ F, F = (fr i).toNat := ⟨_, rfl⟩
    obtain ⟨T, hT'⟩ : ∃ T, T = (to i).toNat := ⟨_, rfl⟩
    obtain ⟨t, ht'⟩ : ∃ t, t = (ti i).toNat := ⟨_, rfl⟩
    rw [← hF', ← hT', ← ht', show ti i = (t : Int) by omega]
    have e1 : mq_sm (fun m => ph (13 * fr i + m) (13 * to i + m + (t : Int)) (wd i)) (L + 1 - t) = wd i * mq_sm (fun m => if ch (13 * F + m) = 1 ∧ ch (13 * T + (t + m)) = 0 then 1 else 0) (L + 1 - t) := by
      rw [← mq_sm_mul]
      refine mq_sm_congr (fun m hm => ?_)
      rw [hph, show (13 * fr i + (m : Int)).toNat = 13 * F + m by omega, show (13 * to i + (m : Int) + (t : Int)).toNat = 13 * T + (t + m) by omega]
      split
      · rw [Int.mul_one]
      · rw [Int.mul_zero]
    rw [e1]
    refine Int.mul_le_mul_of_nonneg_left (mq_mx_le (mq_sm_nn (fun m _ => by split <;> omega)) ?_) w1
    have hg1 : ∀ p k : Nat, 0 ≤ mq_sm (fun m => 1 - ch (13 * p + m)) k := fun p k => mq_sm_nn (fun m _ => by rcases hz (13 * p + m) with q | q <;> rw [q] <;> omega)
    have hg2 : ∀ p k : Nat, mq_sm (fun m => 1 - ch (13 * p + m)) k ≤ k := fun p k => by
      have h7 : mq_sm (fun m => 1 - ch (13 * p + m)) k ≤ mq_sm (fun _ => 1) k := mq_sm_le (fun m _ => by rcases hz (13 * p + m) with q | q <;> rw [q] <;> omega)
      rw [mq_sm_const] at h7
      omega
    show mq_sm (fun m => 1 - ch (13 * T + m)) (L + 1) - mq_sm (fun m => 1 - ch (13 * F + m)) (L + 1) - (t : Int) ≤ mq_sm (fun m => if ch (13 * F + m) = 1 ∧ ch (13 * T + (t + m)) = 0 then 1 else 0) (L + 1 - t)
    rcases Nat.lt_or_ge (L + 1) t with q | q
    · have b1 := hg2 T (L + 1)
      have b2 := hg1 F (L + 1)
      rw [show L + 1 - t = 0 by omega, mq_sm_0]
      omega
    · obtain ⟨k, hk⟩ : ∃ k, k = L + 1 - t := ⟨_, rfl⟩
      rw [← hk]
      have s1 : mq_sm (fun m => 1 - ch (13 * T + m)) (L + 1) = mq_sm (fun m => 1 - ch (13 * T + m)) t + mq_sm (fun m => 1 - ch (13 * T + (t + m))) k := by
        rw [show L + 1 = t + k by omega]
        exact mq_sm_split _ t k
      have s2 : mq_sm (fun m => 1 - ch (13 * F + m)) (L + 1) = mq_sm (fun m => 1 - ch (13 * F + m)) k + mq_sm (fun m => 1 - ch (13 * F + (k + m))) t := by
        rw [show L + 1 = k + t by omega]
        exact mq_sm_split _ k t
      have s3 : 0 ≤ mq_sm (fun m => 1 - ch (13 * F + (k + m))) t := mq_sm_nn (fun m _ => by rcases hz (13 * F + (k + m)) with q | q <;> rw [q] <;> omega)
      have s4 := hg2 T t
      have s5 : mq_sm (fun m => 1 - ch (13 * T + (t + m))) k - mq_sm (fun m => 1 - ch (13 * F + m)) k ≤ mq_sm (fun m => if ch (13 * F + m) = 1 ∧ ch (13 * T + (t + m)) = 0 then 1 else 0) k := by
        rw [← mq_sm_sub]
        refine mq_sm_le (fun m _ => ?_)
        rcases hz (13 * F + m) with q | q <;> rcases hz (13 * T + (t + m)) with w | w <;> rw [q, w] <;> simp
      omega
theorem mq_model {n : Nat} {fr to wd ti : Nat → Int} {L E : Nat} {st en rm fl cm : Nat → Int} {V : Int} (hn : mq_okN n fr to wd ti) (hL : L ≤ 12) (hE : mq_Ed n fr to wd ti L E st en rm) (hb : ∀ e, e < E → 0 ≤ fl e ∧ fl e ≤ rm e) (hF : mq_Fl E st en fl (52 + L) V) (h00 : 0 ≤ cm 0) (hg : cm (52 + L) < 0) (hcl : ∀ e, e < E → (0 ≤ cm (st e).toNat → fl e < rm e → 0 ≤ cm (en e).toNat) ∧ (0 ≤ cm (en e).toNat → 0 < fl e → 0 ≤ cm (st e).toNat)) (hV : V ≤ 1000) : mq_MC n fr to wd ti L V := by
  refine ⟨mq_upper hn hL hE hb hF, mq_lower hn hL hE hF h00 hg (fun e he => ?_) hV⟩
  have h1 := hcl e he
  have h2 := hb e he
  refine ⟨fun a b => ?_, fun a b => ?_⟩
  · rcases Int.lt_or_le (fl e) (rm e) with q | q
    · have := h1.1 a q
      omega
    · omega
  · rcases Int.lt_or_le 0 (fl e) with q | q
    · have := h1.2 b q
      omega
    · omega
/-- the least cut is never over the widths at every moment -/
theorem mq_MC_le {n : Nat} {fr to wd ti : Nat → Int} {L : Nat} {V : Int} (hn : mq_okN n fr to wd ti) (h : ∀ pt : Nat → Int, pt 0 ≤ 0 → (L : Int) + 1 ≤ pt 4 → V ≤ mq_cut n fr to wd ti pt) : V ≤ ((L : Int) + 1) * mq_sm wd n := by
  refine Int.le_trans (h (fun p => if p = 4 then (L : Int) + 1 else 0) (by simp) (by simp)) ?_
  rw [← mq_sm_mul]
  refine mq_sm_le (fun i hi => ?_)
  obtain ⟨⟨f1, f2⟩, ⟨t1, t2⟩, w1, z1⟩ := hn i hi
  rw [Int.mul_comm ((L : Int) + 1)]
  refine Int.mul_le_mul_of_nonneg_left (mq_mx_le (by omega) ?_) w1
  show (if (to i).toNat = 4 then (L : Int) + 1 else 0) - (if (fr i).toNat = 4 then (L : Int) + 1 else 0) - ti i ≤ (L : Int) + 1
  split <;> split <;> omega
end
section
/-! PLAIN LAWS 3: quickest ways in the rest network: an arc is a line walked on (b false) or back (b true) -/
def mq_aS (fr to : Nat → Int) (j : Nat) (b : Bool) : Nat := if b then (to j).toNat else (fr j).toNat
def mq_aD (fr to : Nat → Int) (j : Nat) (b : Bool) : Nat := if b then (fr j).toNat else (to j).toNat
def mq_aR (wd fl : Nat → Int) (j : Nat) (b : Bool) : Int := if b then fl j else wd j - fl j
def mq_aC (ti : Nat → Int) (j : Nat) (b : Bool) : Int := if b then - ti j else ti j
def mq_aL (j : Nat) (b : Bool) : Int := if b then (j : Int) + 8 else (j : Int)
/-- a network: at most 8 lines over five places -/
def mq_Net (n : Nat) (fr to wd ti : Nat → Int) : Prop := n ≤ 8 ∧ (∀ j, j < 8 → (0 ≤ fr j ∧ fr j ≤ 4) ∧ (0 ≤ to j ∧ to j ≤ 4) ∧ (0 ≤ ti j ∧ ti j ≤ 3)) ∧ (∀ j, j < n → fr j ≠ to j ∧ 1 ≤ wd j ∧ wd j ≤ 5) ∧ mq_sm wd n ≤ 33
theorem mq_aS_lt {n : Nat} {fr to wd ti : Nat → Int} (h : mq_Net n fr to wd ti) {j : Nat} (hj : j < n) (b : Bool) : mq_aS fr to j b < 5 := by
  obtain ⟨h1, h2, -, -⟩ := h
  have := h2 j (by omega)
  cases b <;> simp only [mq_aS] <;> simp <;> omega
theorem mq_aD_lt {n : Nat} {fr to wd ti : Nat → Int} (h : mq_Net n fr to wd ti) {j : Nat} (hj : j < n) (b : Bool) : mq_aD fr to j b < 5 := by
  obtain ⟨h1, h2, -, -⟩ := h
  have := h2 j (by omega)
  cases b <;> simp only [mq_aD] <;> simp <;> omega
theorem mq_aSD {n : Nat} {fr to wd ti : Nat → Int} (h : mq_Net n fr to wd ti) {j : Nat} (hj : j < n) (b : Bool) : mq_aS fr to j b ≠ mq_aD fr to j b := by
  obtain ⟨h1, h2, h3, -⟩ := h
  have q := h2 j (by omega)
  have w := (h3 j hj).1
  cases b <;> simp only [mq_aS, mq_aD] <;> simp <;> omega
theorem mq_aC_in {n : Nat} {fr to wd ti : Nat → Int} (h : mq_Net n fr to wd ti) {j : Nat} (hj : j < n) (b : Bool) : -3 ≤ mq_aC ti j b ∧ mq_aC ti j b ≤ 3 := by
  obtain ⟨h1, h2, -, -⟩ := h
  have := h2 j (by omega)
  cases b <;> simp only [mq_aC] <;> simp <;> omega
theorem mq_aL_inj {i j : Nat} {a b : Bool} (hi : i < 8) (hj : j < 8) (h : mq_aL i a = mq_aL j b) : i = j ∧ a = b := by
  cases a <;> cases b <;> simp [mq_aL] at h ⊢ <;> omega
/-- no arc with room leads further than its time: a potential -/
def mq_Fe (n : Nat) (fr to wd ti fl pt : Nat → Int) : Prop := ∀ j b, j < n → 0 < mq_aR wd fl j b → pt (mq_aD fr to j b) ≤ pt (mq_aS fr to j b) + mq_aC ti j b
/-- flows in their widths -/
def mq_In (n : Nat) (wd fl : Nat → Int) : Prop := ∀ j, j < n → 0 ≤ fl j ∧ fl j ≤ wd j
theorem mq_aR_nn {n : Nat} {wd fl : Nat → Int} (h : mq_In n wd fl) {j : Nat} (hj : j < n) (b : Bool) : 0 ≤ mq_aR wd fl j b := by
  have := h j hj
  cases b <;> simp only [mq_aR] <;> simp <;> omega
/-- what holds while the quickest ways are looked for, T arcs behind the start -/
def mq_BF (n : Nat) (fr to wd ti fl pt : Nat → Int) (T : Nat) (qk rc ll : Nat → Int) : Prop :=
  (∀ p, p < 5 → rc p = 0 ∨ rc p = 1) ∧ rc 0 = 1 ∧ qk 0 = 0 ∧ (∀ p, p < 5 → -(3 * (T : Int)) ≤ qk p ∧ qk p ≤ 3 * (T : Int)) ∧ (∀ p, p < 5 → rc p = 1 → pt p ≤ qk p) ∧
  ∃ sp : Nat → Nat, (∀ p, p < 5 → sp p ≤ T) ∧ ∀ p, p < 5 → p ≠ 0 → rc p = 1 → ∃ (j : Nat) (b : Bool), j < n ∧ ll p = mq_aL j b ∧ mq_aD fr to j b = p ∧ 0 < mq_aR wd fl j b ∧ rc (mq_aS fr to j b) = 1 ∧ qk (mq_aS fr to j b) + mq_aC ti j b ≤ qk p ∧
    (qk (mq_aS fr to j b) - pt (mq_aS fr to j b) < qk p - pt p ∨ (qk (mq_aS fr to j b) - pt (mq_aS fr to j b) = qk p - pt p ∧ sp (mq_aS fr to j b) < sp p))
theorem mq_BF_0 {n : Nat} {fr to wd ti fl pt qk rc ll : Nat → Int} (h0 : pt 0 = 0) (hr : ∀ p, p < 5 → rc p = if p = 0 then 1 else 0) (hq : ∀ p, p < 5 → qk p = 0) : mq_BF n fr to wd ti fl pt 0 qk rc ll := by
  refine ⟨fun p hp => ?_, ?_, hq 0 (by omega), fun p hp => ?_, fun p hp h => ?_, fun _ => 0, fun _ _ => Nat.le_refl _, fun p hp h1 h2 => ?_⟩
  · rw [hr p hp]
    split
    · exact Or.inr rfl
    · exact Or.inl rfl
  · rw [hr 0 (by omega)]; rfl
  · rw [hq p hp]; simp
  · rw [hr p hp] at h
    by_cases e : p = 0
    · subst e
      rw [h0, hq 0 (by omega)]
      exact Int.le_refl _
    · rw [if_neg e] at h
      omega
  · rw [hr p hp, if_neg h1] at h2
    omega
theorem mq_BF_mono {n : Nat} {fr to wd ti fl pt qk rc ll : Nat → Int} {T : Nat} (h : mq_BF n fr to wd ti fl pt T qk rc ll) : mq_BF n fr to wd ti fl pt (T + 1) qk rc ll := by
  obtain ⟨h1, h2, h3, h4, h5, sp, h6, h7⟩ := h
  refine ⟨h1, h2, h3, fun p hp => ?_, h5, sp, fun p hp => ?_, h7⟩
  · have := h4 p hp
    omega
  · have := h6 p hp
    omega
/-- one arc that shortens -/
theorem mq_BF_step {n : Nat} {fr to wd ti fl pt qk rc ll : Nat → Int} {T : Nat} (hN : mq_Net n fr to wd ti) (hI : mq_In n wd fl) (hF : mq_Fe n fr to wd ti fl pt) (h : mq_BF n fr to wd ti fl pt T qk rc ll) {j : Nat} {b : Bool} (hj : j < n) (hS : rc (mq_aS fr to j b) = 1) (hR : mq_aR wd fl j b ≠ 0) (hD : mq_aD fr to j b ≠ 0) (hC : ¬ (rc (mq_aD fr to j b) = 1 ∧ qk (mq_aD fr to j b) ≤ qk (mq_aS fr to j b) + mq_aC ti j b)) :
    mq_BF n fr to wd ti fl pt (T + 1) (va_up qk (mq_aD fr to j b) (qk (mq_aS fr to j b) + mq_aC ti j b)) (va_up rc (mq_aD fr to j b) 1) (va_up ll (mq_aD fr to j b) (mq_aL j b)) := by
  have hR' : 0 < mq_aR wd fl j b := by
    have := mq_aR_nn hI hj b
    omega
  have hP := hF j b hj hR'
  have hSl := mq_aS_lt hN hj b
  have hDl := mq_aD_lt hN hj b
  have hSD := mq_aSD hN hj b
  have hCi := mq_aC_in hN hj b
  obtain ⟨h1, h2, h3, h4, h5, sp, h6, h7⟩ := h
  obtain ⟨x, hx⟩ : ∃ x, mq_aS fr to j b = x := ⟨_, rfl⟩
  obtain ⟨d, hd⟩ : ∃ d, mq_aD fr to j b = d := ⟨_, rfl⟩
  obtain ⟨c, hc⟩ : ∃ c, mq_aC ti j b = c := ⟨_, rfl⟩
  rw [hx] at hS hC hP hSl hSD ⊢
  rw [hd] at hD hC hP hDl hSD ⊢
  rw [hc] at hC hP hCi ⊢
  have h4x := h4 x hSl
  have h4d := h4 d hDl
  have h5x := h5 x hSl hS
  have h6x := h6 x hSl
  have hold : rc d = 1 → qk x + c < qk d := by
    intro e
    rcases Int.lt_or_le (qk x + c) (qk d) with q | q
    · exact q
    · exact absurd ⟨e, q⟩ hC
  refine ⟨fun p hp => ?_, ?_, ?_, fun p hp => ?_, fun p hp h => ?_, fun p => if p = d then T + 1 else sp p, fun p hp => ?_, fun p hp hp0 h => ?_⟩
  · by_cases e : p = d
    · rw [e, va_up_self]
      exact Or.inr rfl
    · rw [va_up_ne _ _ e]
      exact h1 p hp
  · rw [va_up_ne _ _ (fun e => hD e.symm)]
    exact h2
  · rw [va_up_ne _ _ (fun e => hD e.symm)]
    exact h3
  · by_cases e : p = d
    · rw [e, va_up_self]
      omega
    · rw [va_up_ne _ _ e]
      have := h4 p hp
      omega
  · by_cases e : p = d
    · rw [e, va_up_self]
      omega
    · rw [va_up_ne _ _ e] at h ⊢
      exact h5 p hp h
  · show (if p = d then T + 1 else sp p) ≤ T + 1
    have := h6 p hp
    split <;> omega
  · by_cases e : p = d
    · rw [e]
      refine ⟨j, b, hj, va_up_self _ _ _, hd, hR', ?_, ?_, ?_⟩
      · rw [hx, va_up_ne _ _ hSD]
        exact hS
      · rw [hx, hc, va_up_self, va_up_ne _ _ hSD]
        exact Int.le_refl _
      · rw [hx, va_up_self, va_up_ne _ _ hSD]
        by_cases q : qk x - pt x < qk x + c - pt d
        · exact Or.inl q
        · refine Or.inr ⟨by omega, ?_⟩
          show (if x = d then T + 1 else sp x) < (if d = d then T + 1 else sp d)
          rw [if_neg hSD, if_pos rfl]
          omega
    · rw [va_up_ne _ _ e] at h
      obtain ⟨i, a, g1, g2, g3, g4, g5, g6, g7⟩ := h7 p hp hp0 h
      refine ⟨i, a, g1, by rw [va_up_ne _ _ e]; exact g2, g3, g4, ?_⟩
      obtain ⟨y, hy⟩ : ∃ y, mq_aS fr to i a = y := ⟨_, rfl⟩
      rw [hy] at g5 g6 g7 ⊢
      by_cases ey : y = d
      · rw [ey] at g5 g6 g7 ⊢
        have := hold g5
        refine ⟨va_up_self _ _ _, ?_, Or.inl ?_⟩
        · rw [va_up_self, va_up_ne _ _ e]
          omega
        · rw [va_up_self, va_up_ne _ _ e]
          omega
      · rw [va_up_ne _ _ ey, va_up_ne _ _ ey, va_up_ne _ _ e]
        refine ⟨g5, g6, ?_⟩
        show _ ∨ (_ ∧ (if y = d then T + 1 else sp y) < (if p = d then T + 1 else sp p))
        rw [if_neg ey, if_neg e]
        exact g7
/-- the ways back lead to place 0 in at most four arcs -/
theorem mq_chain {n : Nat} {fr to wd ti fl pt qk rc ll : Nat → Int} {T : Nat} (hN : mq_Net n fr to wd ti) (hT : T ≤ 900) (h : mq_BF n fr to wd ti fl pt T qk rc ll) :
    ∃ dp : Nat → Nat, (∀ p, p < 5 → dp p ≤ 4) ∧ ∀ p, p < 5 → p ≠ 0 → rc p = 1 → ∃ (j : Nat) (b : Bool), j < n ∧ ll p = mq_aL j b ∧ mq_aD fr to j b = p ∧ 0 < mq_aR wd fl j b ∧ rc (mq_aS fr to j b) = 1 ∧ qk (mq_aS fr to j b) + mq_aC ti j b ≤ qk p ∧ dp (mq_aS fr to j b) < dp p := by
  obtain ⟨h1, h2, h3, h4, h5, sp, h6, h7⟩ := h
  obtain ⟨ρ, hρ⟩ : ∃ ρ : Nat → Int, ∀ p, ρ p = (qk p - pt p) * 1000 + (sp p : Int) := ⟨_, fun _ => rfl⟩
  obtain ⟨ct, hct⟩ : ∃ ct : Nat → Int, ∀ p, ct p = mq_sm (fun q => if rc q = 1 ∧ ρ q < ρ p then 1 else 0) 5 := ⟨_, fun _ => rfl⟩
  have hc0 : ∀ p, 0 ≤ ct p := fun p => by
    rw [hct]
    exact mq_sm_nn (fun q _ => by split <;> omega)
  refine ⟨fun p => (ct p).toNat, fun p hp => ?_, fun p hp hp0 hr => ?_⟩
  · have : ct p + 1 ≤ mq_sm (fun _ => 1) 5 := by
      rw [hct]
      refine mq_sm_lt (k := p) (fun q _ => by split <;> omega) hp ?_
      rw [if_neg (by omega)]
      omega
    rw [mq_sm_const] at this
    show (ct p).toNat ≤ 4
    omega
  · obtain ⟨j, b, g1, g2, g3, g4, g5, g6, g7⟩ := h7 p hp hp0 hr
    refine ⟨j, b, g1, g2, g3, g4, g5, g6, ?_⟩
    have hxl := mq_aS_lt hN g1 b
    generalize mq_aS fr to j b = x at g5 g6 g7 hxl ⊢
    have k1 := h6 x hxl
    have k2 := h6 p hp
    have hlt : ρ x < ρ p := by
      rw [hρ, hρ]
      omega
    have : ct x + 1 ≤ ct p := by
      rw [hct, hct]
      refine mq_sm_lt (k := x) (fun q _ => ?_) hxl ?_
      · by_cases e : rc q = 1 ∧ ρ q < ρ x
        · rw [if_pos e, if_pos ⟨e.1, Int.lt_trans e.2 hlt⟩]
          exact Int.le_refl _
        · rw [if_neg e]
          split <;> omega
      · rw [if_neg (by omega), if_pos ⟨g5, hlt⟩]
        omega
    have a1 := hc0 x
    show (ct x).toNat < (ct p).toNat
    omega
/-- walks of at most k arcs with room, and their times -/
def mq_Wk (n : Nat) (fr to wd ti fl : Nat → Int) : Nat → Nat → Int → Prop
  | 0, p, x => p = 0 ∧ x = 0
  | k + 1, p, x => mq_Wk n fr to wd ti fl k p x ∨ ∃ (j : Nat) (b : Bool), j < n ∧ 0 < mq_aR wd fl j b ∧ mq_aD fr to j b = p ∧ mq_Wk n fr to wd ti fl k (mq_aS fr to j b) (x - mq_aC ti j b)
theorem mq_Wk_0 {n : Nat} {fr to wd ti fl : Nat → Int} : ∀ k, mq_Wk n fr to wd ti fl k 0 0
  | 0 => ⟨rfl, rfl⟩
  | k + 1 => Or.inl (mq_Wk_0 k)
theorem mq_Wk_up {n : Nat} {fr to wd ti fl : Nat → Int} {k p : Nat} {x : Int} (h : mq_Wk n fr to wd ti fl k p x) : ∀ d, mq_Wk n fr to wd ti fl (k + d) p x
  | 0 => h
  | d + 1 => Or.inl (mq_Wk_up h d)
theorem mq_Wk_lt {n : Nat} {fr to wd ti fl : Nat → Int} (hN : mq_Net n fr to wd ti) : ∀ (k p : Nat) (x : Int), mq_Wk n fr to wd ti fl k p x → p < 5
  | 0, p, x, h => by have := h.1; omega
  | k + 1, p, x, h => by
    rcases h with h | ⟨j, b, h1, -, h2, -⟩
    · exact mq_Wk_lt hN k p x h
    · rw [← h2]
      exact mq_aD_lt hN h1 b
theorem mq_Wk_of {n : Nat} {fr to wd ti fl qk rc ll : Nat → Int} (hN : mq_Net n fr to wd ti) {dp : Nat → Nat} (h0 : qk 0 = 0) (hd : ∀ p, p < 5 → p ≠ 0 → rc p = 1 → ∃ (j : Nat) (b : Bool), j < n ∧ ll p = mq_aL j b ∧ mq_aD fr to j b = p ∧ 0 < mq_aR wd fl j b ∧ rc (mq_aS fr to j b) = 1 ∧ qk (mq_aS fr to j b) + mq_aC ti j b ≤ qk p ∧ dp (mq_aS fr to j b) < dp p) :
    ∀ (k p : Nat), p < 5 → rc p = 1 → dp p ≤ k → ∃ x, mq_Wk n fr to wd ti fl k p x ∧ x ≤ qk p := by
  intro k
  induction k with
  | zero =>
    intro p hp hr hk
    by_cases e : p = 0
    · subst e
      exact ⟨0, mq_Wk_0 0, by omega⟩
    · obtain ⟨j, b, -, -, -, -, -, -, g⟩ := hd p hp e hr
      omega
  | succ k ih =>
    intro p hp hr hk
    by_cases e : p = 0
    · subst e
      exact ⟨0, mq_Wk_0 _, by omega⟩
    · obtain ⟨j, b, g1, g2, g3, g4, g5, g6, g7⟩ := hd p hp e hr
      obtain ⟨x, hx, hq⟩ := ih (mq_aS fr to j b) (mq_aS_lt hN g1 b) g5 (by omega)
      refine ⟨x + mq_aC ti j b, Or.inr ⟨j, b, g1, g4, g3, ?_⟩, by omega⟩
      rw [show x + mq_aC ti j b - mq_aC ti j b = x by omega]
      exact hx
/-- behind r rounds: no walk of at most r arcs is quicker -/
def mq_RA (n : Nat) (fr to wd ti fl : Nat → Int) (r : Nat) (qk rc : Nat → Int) : Prop := ∀ p x, mq_Wk n fr to wd ti fl r p x → rc p = 1 ∧ qk p ≤ x
/-- every arc with room is settled -/
def mq_Cl (n : Nat) (fr to wd ti fl : Nat → Int) (qk rc : Nat → Int) : Prop := ∀ j b, j < n → 0 < mq_aR wd fl j b → rc (mq_aS fr to j b) = 1 → mq_aD fr to j b ≠ 0 → rc (mq_aD fr to j b) = 1 ∧ qk (mq_aD fr to j b) ≤ qk (mq_aS fr to j b) + mq_aC ti j b
/-- within a round that began with q0, r0: the arcs before (l, d) are done; c says whether something was shortened -/
def mq_Rd (n : Nat) (fr to wd ti fl : Nat → Int) (q0 r0 : Nat → Int) (l : Nat) (d : Bool) (c : Int) (qk rc : Nat → Int) : Prop :=
  (∀ p, p < 5 → r0 p = 1 → rc p = 1 ∧ qk p ≤ q0 p) ∧ (∀ j b, j < n → (j < l ∨ (j = l ∧ d = true ∧ b = false)) → 0 < mq_aR wd fl j b → r0 (mq_aS fr to j b) = 1 → mq_aD fr to j b ≠ 0 → rc (mq_aD fr to j b) = 1 ∧ qk (mq_aD fr to j b) ≤ q0 (mq_aS fr to j b) + mq_aC ti j b) ∧ (c = 0 ∨ c = 1) ∧ (c = 0 → qk = q0 ∧ rc = r0)
theorem mq_Rd_0 {n : Nat} {fr to wd ti fl q0 r0 : Nat → Int} : mq_Rd n fr to wd ti fl q0 r0 0 false 0 q0 r0 := by
  refine ⟨fun p _ h => ⟨h, Int.le_refl _⟩, fun j b _ h => ?_, Or.inl rfl, fun _ => ⟨rfl, rfl⟩⟩
  rcases h with h | ⟨_, h, _⟩
  · omega
  · cases h
/-- what 'relax' does to one arc, and what it answers -/
def mq_Rx (fr to wd ti fl : Nat → Int) (j : Nat) (b : Bool) (qk rc ll : Nat → Int) (r : Int) (qk' rc' ll' : Nat → Int) : Prop :=
  (r = 1 ∧ rc (mq_aS fr to j b) = 1 ∧ mq_aR wd fl j b ≠ 0 ∧ mq_aD fr to j b ≠ 0 ∧ ¬ (rc (mq_aD fr to j b) = 1 ∧ qk (mq_aD fr to j b) ≤ qk (mq_aS fr to j b) + mq_aC ti j b) ∧ qk' = va_up qk (mq_aD fr to j b) (qk (mq_aS fr to j b) + mq_aC ti j b) ∧ rc' = va_up rc (mq_aD fr to j b) 1 ∧ ll' = va_up ll (mq_aD fr to j b) (mq_aL j b)) ∨
  (r = 0 ∧ (rc (mq_aS fr to j b) = 1 → mq_aR wd fl j b ≠ 0 → mq_aD fr to j b ≠ 0 → rc (mq_aD fr to j b) = 1 ∧ qk (mq_aD fr to j b) ≤ qk (mq_aS fr to j b) + mq_aC ti j b) ∧ qk' = qk ∧ rc' = rc ∧ ll' = ll)
theorem mq_Rx_mono {fr to wd ti fl qk rc ll qk' rc' ll' : Nat → Int} {j : Nat} {b : Bool} {r : Int} (h : mq_Rx fr to wd ti fl j b qk rc ll r qk' rc' ll') (p : Nat) (hp : rc p = 1) : rc' p = 1 ∧ qk' p ≤ qk p := by
  rcases h with ⟨-, -, -, -, h, rfl, rfl, -⟩ | ⟨-, -, rfl, rfl, -⟩
  · by_cases e : p = mq_aD fr to j b
    · rw [← e] at h ⊢
      rw [va_up_self, va_up_self]
      refine ⟨rfl, ?_⟩
      rcases Int.lt_or_le (qk p) (qk (mq_aS fr to j b) + mq_aC ti j b) with q | q
      · exact absurd ⟨hp, by omega⟩ h
      · exact q
    · rw [va_up_ne _ _ e, va_up_ne _ _ e]
      exact ⟨hp, Int.le_refl _⟩
  · exact ⟨hp, Int.le_refl _⟩
theorem mq_Rx_BF {n : Nat} {fr to wd ti fl pt qk rc ll qk' rc' ll' : Nat → Int} {T j : Nat} {b : Bool} {r : Int} (hN : mq_Net n fr to wd ti) (hI : mq_In n wd fl) (hF : mq_Fe n fr to wd ti fl pt) (h : mq_BF n fr to wd ti fl pt T qk rc ll) (hj : j < n) (hx : mq_Rx fr to wd ti fl j b qk rc ll r qk' rc' ll') : mq_BF n fr to wd ti fl pt (T + 1) qk' rc' ll' := by
  rcases hx with ⟨-, h1, h2, h3, h4, rfl, rfl, rfl⟩ | ⟨-, -, rfl, rfl, rfl⟩
  · exact mq_BF_step hN hI hF h hj h1 h2 h3 h4
  · exact mq_BF_mono h
/-- behind four rounds nothing is shortened -/
theorem mq_noch {n : Nat} {fr to wd ti fl pt qk rc ll qk' rc' ll' : Nat → Int} {T j : Nat} {b : Bool} {r : Int} (hN : mq_Net n fr to wd ti) (hI : mq_In n wd fl) (hF : mq_Fe n fr to wd ti fl pt) (hT : T ≤ 800) (h : mq_BF n fr to wd ti fl pt T qk rc ll) (hj : j < n) (hx : mq_Rx fr to wd ti fl j b qk rc ll r qk' rc' ll') (hA : mq_RA n fr to wd ti fl 4 qk rc) : r = 0 := by
  have hB := mq_Rx_BF hN hI hF h hj hx
  rcases hx with ⟨-, h1, h2, h3, h4, rfl, rfl, rfl⟩ | ⟨h, -⟩
  · exfalso
    have hDl := mq_aD_lt hN hj b
    obtain ⟨dp, hd1, hd2⟩ := mq_chain hN (by omega) hB
    obtain ⟨x, w1, w2⟩ := mq_Wk_of hN hB.2.2.1 hd2 4 (mq_aD fr to j b) hDl (va_up_self _ _ _) (hd1 _ hDl)
    rw [va_up_self] at w2
    have := hA _ _ w1
    exact h4 ⟨this.1, by omega⟩
  · exact h
/-- at the head of the inner loop, in round r: the arcs before (l, d) are done -/
def mq_Hi (n : Nat) (fr to wd ti fl pt : Nat → Int) (r l : Nat) (d : Bool) (c : Int) (qk rc ll : Nat → Int) : Prop := ∃ (q0 r0 : Nat → Int) (T : Nat), T ≤ 16 * r + 2 * l + (if d then 1 else 0) ∧ mq_BF n fr to wd ti fl pt T qk rc ll ∧ mq_RA n fr to wd ti fl r q0 r0 ∧ (∀ p, p < 5 → r0 p = 1 → pt p ≤ q0 p) ∧ mq_Rd n fr to wd ti fl q0 r0 l d c qk rc ∧ (4 ≤ r → c = 0)
/-- at the head of the outer loop -/
def mq_Ho (n : Nat) (fr to wd ti fl pt : Nat → Int) (r : Nat) (c : Int) (qk rc ll : Nat → Int) : Prop := ∃ T : Nat, T ≤ 16 * r ∧ mq_BF n fr to wd ti fl pt T qk rc ll ∧ mq_RA n fr to wd ti fl r qk rc ∧ (c = 0 ∨ c = 1) ∧ (c = 0 → mq_Cl n fr to wd ti fl qk rc) ∧ (c = 1 → r ≤ 4)
theorem mq_Ho_0 {n : Nat} {fr to wd ti fl pt qk rc ll : Nat → Int} (h0 : pt 0 = 0) (hr : ∀ p, p < 5 → rc p = if p = 0 then 1 else 0) (hq : ∀ p, p < 5 → qk p = 0) : mq_Ho n fr to wd ti fl pt 0 1 qk rc ll := by
  refine ⟨0, by omega, mq_BF_0 h0 hr hq, fun p x h => ?_, Or.inr rfl, fun h => by omega, fun _ => by omega⟩
  obtain ⟨rfl, rfl⟩ := h
  exact ⟨by rw [hr 0 (by omega)]; rfl, by rw [hq 0 (by omega)]; exact Int.le_refl _⟩
theorem mq_Hi_0 {n : Nat} {fr to wd ti fl pt qk rc ll : Nat → Int} {r : Nat} {c : Int} (h : mq_Ho n fr to wd ti fl pt r c qk rc ll) : mq_Hi n fr to wd ti fl pt r 0 false 0 qk rc ll := by
  obtain ⟨T, h1, h2, h3, -⟩ := h
  exact ⟨qk, rc, T, by simp; omega, h2, h3, h2.2.2.2.2.1, mq_Rd_0, fun _ => rfl⟩
theorem mq_Hi_s {n : Nat} {fr to wd ti fl pt qk rc ll qk' rc' ll' : Nat → Int} {r l : Nat} {d : Bool} {c x : Int} (hN : mq_Net n fr to wd ti) (hI : mq_In n wd fl) (hF : mq_Fe n fr to wd ti fl pt) (hr : r ≤ 6) (hl : l < n) (h : mq_Hi n fr to wd ti fl pt r l d c qk rc ll) (hx : mq_Rx fr to wd ti fl l d qk rc ll x qk' rc' ll') : mq_Hi n fr to wd ti fl pt r (if d then l + 1 else l) (!d) (if x = 0 then c else 1) qk' rc' ll' := by
  have hn8 : n ≤ 8 := hN.1
  obtain ⟨q0, r0, T, h1, h2, h3, h4, ⟨k1, k2, k3, k4⟩, h6⟩ := h
  have hx01 : x = 0 ∨ x = 1 := by
    rcases hx with h | h
    · exact Or.inr h.1
    · exact Or.inl h.1
  have hmo := mq_Rx_mono hx
  refine ⟨q0, r0, T + 1, ?_, mq_Rx_BF hN hI hF h2 hl hx, h3, h4, ⟨fun p hp hq => ?_, fun j b hj hs hR hS hD => ?_, ?_, fun hc => ?_⟩, fun hr4 => ?_⟩
  · cases d <;> simp at h1 ⊢ <;> omega
  · obtain ⟨a1, a2⟩ := k1 p hp hq
    obtain ⟨a3, a4⟩ := hmo p a1
    exact ⟨a3, by omega⟩
  · have hs' : (j < l ∨ (j = l ∧ d = true ∧ b = false)) ∨ (j = l ∧ b = d) := by
      cases d <;> cases b <;> simp at hs ⊢ <;> omega
    rcases hs' with q | ⟨rfl, rfl⟩
    · obtain ⟨a1, a2⟩ := k2 j b hj q hR hS hD
      obtain ⟨a3, a4⟩ := hmo _ a1
      exact ⟨a3, by omega⟩
    · obtain ⟨a1, a2⟩ := k1 _ (mq_aS_lt hN hj b) hS
      rcases hx with ⟨-, -, -, -, -, rfl, rfl, -⟩ | ⟨-, g, rfl, rfl, -⟩
      · rw [va_up_self, va_up_self]
        exact ⟨rfl, by omega⟩
      · obtain ⟨a3, a4⟩ := g a1 (by omega) hD
        exact ⟨a3, by omega⟩
  · split
    · exact k3
    · exact Or.inr rfl
  · by_cases e : x = 0
    · rw [if_pos e] at hc
      rcases hx with ⟨g, -⟩ | ⟨-, -, rfl, rfl, -⟩
      · omega
      · exact k4 hc
    · rw [if_neg e] at hc
      omega
  · have hc0 := h6 hr4
    obtain ⟨e1, e2⟩ := k4 hc0
    subst e1
    subst e2
    have hT : T ≤ 800 := by
      have : (if d then 1 else 0) ≤ 1 := by split <;> omega
      omega
    have := mq_noch hN hI hF hT h2 hl hx (fun p y hy => h3 p y (by have := mq_Wk_up hy (r - 4); rw [show 4 + (r - 4) = r by omega] at this; exact this))
    rw [if_pos this]
    exact hc0
theorem mq_Hi_n {n : Nat} {fr to wd ti fl pt qk rc ll : Nat → Int} {r : Nat} {c : Int} (hN : mq_Net n fr to wd ti) (hF : mq_Fe n fr to wd ti fl pt) (h0 : pt 0 = 0) (h : mq_Hi n fr to wd ti fl pt r n false c qk rc ll) : mq_Ho n fr to wd ti fl pt (r + 1) c qk rc ll := by
  have hn8 : n ≤ 8 := hN.1
  obtain ⟨q0, r0, T, h1, h2, h3, h4, ⟨k1, k2, k3, k4⟩, h6⟩ := h
  refine ⟨T, by simp at h1; omega, h2, fun p x hw => ?_, k3, fun hc j b hj hR hS hD => ?_, fun hc => ?_⟩
  · rcases hw with hw | ⟨j, b, hj, hR, hp, hw⟩
    · obtain ⟨a1, a2⟩ := h3 p x hw
      obtain ⟨a3, a4⟩ := k1 p (mq_Wk_lt hN _ _ _ hw) a1
      exact ⟨a3, by omega⟩
    · obtain ⟨a1, a2⟩ := h3 _ _ hw
      by_cases e : mq_aD fr to j b = 0
      · have b1 := h4 _ (mq_aS_lt hN hj b) a1
        have b2 := hF j b hj hR
        rw [e, h0] at b2
        have e' : p = 0 := by omega
        subst e'
        exact ⟨h2.2.1, by rw [h2.2.2.1]; omega⟩
      · obtain ⟨a3, a4⟩ := k2 j b hj (Or.inl hj) hR a1 e
        rw [hp] at a3 a4
        exact ⟨a3, by omega⟩
  · obtain ⟨rfl, rfl⟩ := k4 hc
    exact k2 j b hj (Or.inl hj) hR hS hD
  · rcases Nat.lt_or_ge r 4 with q | q
    · omega
    · have := h6 q
      omega
/-- the quickest ways are found -/
def mq_SP (n : Nat) (fr to wd ti fl pt qk rc ll : Nat → Int) : Prop :=
  (∀ p, p < 5 → rc p = 0 ∨ rc p = 1) ∧ rc 0 = 1 ∧ qk 0 = 0 ∧ (∀ p, p < 5 → rc p = 1 → pt p ≤ qk p ∧ qk p ≤ 12) ∧
  (∀ j b, j < n → 0 < mq_aR wd fl j b → rc (mq_aS fr to j b) = 1 → rc (mq_aD fr to j b) = 1 ∧ qk (mq_aD fr to j b) ≤ qk (mq_aS fr to j b) + mq_aC ti j b) ∧
  ∃ dp : Nat → Nat, (∀ p, p < 5 → dp p ≤ 4) ∧ ∀ p, p < 5 → p ≠ 0 → rc p = 1 → ∃ (j : Nat) (b : Bool), j < n ∧ ll p = mq_aL j b ∧ mq_aD fr to j b = p ∧ 0 < mq_aR wd fl j b ∧ rc (mq_aS fr to j b) = 1 ∧ qk (mq_aS fr to j b) + mq_aC ti j b = qk p ∧ dp (mq_aS fr to j b) < dp p
theorem mq_SP_of {n : Nat} {fr to wd ti fl pt qk rc ll : Nat → Int} {r : Nat} (hN : mq_Net n fr to wd ti) (hF : mq_Fe n fr to wd ti fl pt) (h0 : pt 0 = 0) (hr : r ≤ 6) (h : mq_Ho n fr to wd ti fl pt r 0 qk rc ll) : mq_SP n fr to wd ti fl pt qk rc ll := by
  obtain ⟨T, h1, h2, -, -, h5, -⟩ := h
  have hc := h5 rfl
  obtain ⟨dp, hd1, hd2⟩ := mq_chain hN (by omega) h2
  have hcl : ∀ j b, j < n → 0 < mq_aR wd fl j b → rc (mq_aS fr to j b) = 1 → rc (mq_aD fr to j b) = 1 ∧ qk (mq_aD fr to j b) ≤ qk (mq_aS fr to j b) + mq_aC ti j b := by
    intro j b hj hR hS
    by_cases e : mq_aD fr to j b = 0
    · have b1 := h2.2.2.2.2.1 _ (mq_aS_lt hN hj b) hS
      have b2 := hF j b hj hR
      rw [e, h0] at b2
      rw [e]
      exact ⟨h2.2.1, by rw [h2.2.2.1]; omega⟩
    · exact hc j b hj hR hS e
  have hub : ∀ k p, p < 5 → rc p = 1 → dp p ≤ k → qk p ≤ 3 * (k : Int) := by
    intro k
    induction k with
    | zero =>
      intro p hp hr hk
      by_cases e : p = 0
      · subst e
        have := h2.2.2.1
        omega
      · obtain ⟨j, b, -, -, -, -, -, -, g⟩ := hd2 p hp e hr
        omega
    | succ k ih =>
      intro p hp hr hk
      by_cases e : p = 0
      · subst e
        have := h2.2.2.1
        omega
      · obtain ⟨j, b, g1, g2, g3, g4, g5, g6, g7⟩ := hd2 p hp e hr
        have a1 := ih (mq_aS fr to j b) (mq_aS_lt hN g1 b) g5 (by omega)
        have a2 := (hcl j b g1 g4 g5).2
        rw [g3] at a2
        have a3 := mq_aC_in hN g1 b
        omega
  refine ⟨h2.1, h2.2.1, h2.2.2.1, fun p hp hr => ⟨h2.2.2.2.2.1 p hp hr, ?_⟩, hcl, dp, hd1, fun p hp hp0 hr => ?_⟩
  · have := hub 4 p hp hr (hd1 p hp)
    omega
  · obtain ⟨j, b, g1, g2, g3, g4, g5, g6, g7⟩ := hd2 p hp hp0 hr
    have a2 := (hcl j b g1 g4 g5).2
    rw [g3] at a2
    exact ⟨j, b, g1, g2, g3, g4, g5, by omega, g7⟩
end
section
/-! PLAIN LAWS 4: flow along quickest ways; what the ways deliver is the least cut -/
/-- the place before p on its way, and the room of the arc between -/
def mq_pr (fr to ll : Nat → Int) (p : Nat) : Nat := if 8 ≤ ll p then (to (ll p - 8).toNat).toNat else (fr (ll p).toNat).toNat
def mq_pR (wd fl ll : Nat → Int) (p : Nat) : Int := if 8 ≤ ll p then fl (ll p - 8).toNat else wd (ll p).toNat - fl (ll p).toNat
def mq_it (fr to ll : Nat → Int) : Nat → Nat
  | 0 => 4
  | k + 1 => mq_pr fr to ll (mq_it fr to ll k)
theorem mq_pr_eq {fr to ll : Nat → Int} {p j : Nat} {b : Bool} (hj : j < 8) (h : ll p = mq_aL j b) : mq_pr fr to ll p = mq_aS fr to j b := by
  unfold mq_pr
  rw [h]
  cases b
  · simp only [mq_aL, mq_aS]
    simp
    omega
  · simp only [mq_aL, mq_aS]
    simp
    omega
theorem mq_pR_eq {wd fl ll : Nat → Int} {p j : Nat} {b : Bool} (hj : j < 8) (h : ll p = mq_aL j b) : mq_pR wd fl ll p = mq_aR wd fl j b := by
  unfold mq_pR
  rw [h]
  cases b
  · simp only [mq_aL, mq_aR]
    simp
    omega
  · simp only [mq_aL, mq_aR]
    simp
    omega
/-- the way to place 4 has K arcs, and am fits on each -/
def mq_Way (fr to wd fl ll : Nat → Int) (am : Int) : Prop := ∃ K, K ≤ 4 ∧ mq_it fr to ll K = 0 ∧ (∀ k, k < K → mq_it fr to ll k ≠ 0 ∧ am ≤ mq_pR wd fl ll (mq_it fr to ll k)) ∧ 1 ≤ am ∧ am ≤ 5
/-- all places of a way are reached -/
theorem mq_it_ok {n : Nat} {fr to wd ti fl pt qk rc ll : Nat → Int} (hN : mq_Net n fr to wd ti) (h : mq_SP n fr to wd ti fl pt qk rc ll) (h4 : rc 4 = 1) : ∀ k, (∀ i, i < k → mq_it fr to ll i ≠ 0) → mq_it fr to ll k < 5 ∧ rc (mq_it fr to ll k) = 1 := by
  have hn8 := hN.1
  obtain ⟨-, -, -, -, -, dp, -, hd⟩ := h
  intro k
  induction k with
  | zero => intro _; exact ⟨by show 4 < 5; omega, h4⟩
  | succ k ih =>
    intro hi
    obtain ⟨a1, a2⟩ := ih (fun i hi' => hi i (by omega))
    obtain ⟨j, b, g1, g2, g3, g4, g5, g6, g7⟩ := hd _ a1 (hi k (by omega)) a2
    show mq_pr fr to ll (mq_it fr to ll k) < 5 ∧ rc (mq_pr fr to ll (mq_it fr to ll k)) = 1
    rw [mq_pr_eq (by omega) g2]
    exact ⟨mq_aS_lt hN g1 b, g5⟩
/-- while am is sent along the way: k arcs are done, the flows are f' -/
def mq_SI (n : Nat) (fr to wd ti fl qk rc ll : Nat → Int) (dp : Nat → Nat) (am : Int) (k : Nat) (f' : Nat → Int) : Prop :=
  mq_In n wd f' ∧ (∀ w : Nat → Int, mq_sm (fun j => f' j * (w (to j).toNat - w (fr j).toNat)) n = mq_sm (fun j => fl j * (w (to j).toNat - w (fr j).toNat)) n + am * (w 4 - w (mq_it fr to ll k))) ∧
  mq_sm (fun j => f' j * ti j) n = mq_sm (fun j => fl j * ti j) n + am * (qk 4 - qk (mq_it fr to ll k)) ∧
  (∀ j, j < n → f' j = fl j ∨ (rc (fr j).toNat = 1 ∧ rc (to j).toNat = 1 ∧ qk (to j).toNat = qk (fr j).toNat + ti j)) ∧
  (∀ p, p < 5 → p ≠ 0 → rc p = 1 → dp p ≤ dp (mq_it fr to ll k) → ∀ j b, ll p = mq_aL j b → j < n → f' j = fl j)
theorem mq_SI_0 {n : Nat} {fr to wd ti fl qk rc ll : Nat → Int} {dp : Nat → Nat} {am : Int} (hI : mq_In n wd fl) : mq_SI n fr to wd ti fl qk rc ll dp am 0 fl := by
  refine ⟨hI, fun w => ?_, ?_, fun j _ => Or.inl rfl, fun _ _ _ _ _ _ _ _ _ => rfl⟩
  · show _ = _ + am * (w 4 - w 4)
    rw [Int.sub_self, Int.mul_zero, Int.add_zero]
  · show _ = _ + am * (qk 4 - qk 4)
    rw [Int.sub_self, Int.mul_zero, Int.add_zero]
theorem mq_SI_s {n : Nat} {fr to wd ti fl qk rc ll f' : Nat → Int} {dp : Nat → Nat} {am : Int} {k : Nat} (hN : mq_Net n fr to wd ti) (hd : ∀ p, p < 5 → p ≠ 0 → rc p = 1 → ∃ (j : Nat) (b : Bool), j < n ∧ ll p = mq_aL j b ∧ mq_aD fr to j b = p ∧ 0 < mq_aR wd fl j b ∧ rc (mq_aS fr to j b) = 1 ∧ qk (mq_aS fr to j b) + mq_aC ti j b = qk p ∧ dp (mq_aS fr to j b) < dp p)
    (h : mq_SI n fr to wd ti fl qk rc ll dp am k f') (hp5 : mq_it fr to ll k < 5) (hp0 : mq_it fr to ll k ≠ 0) (hpr : rc (mq_it fr to ll k) = 1) (ha : am ≤ mq_pR wd fl ll (mq_it fr to ll k)) (ha1 : 1 ≤ am) {j : Nat} {b : Bool} (hj : j < n) (hl : ll (mq_it fr to ll k) = mq_aL j b) : mq_SI n fr to wd ti fl qk rc ll dp am (k + 1) (va_up f' j (if b then f' j - am else f' j + am)) := by
  have hn8 := hN.1
  obtain ⟨s1, s2, s3, s4, s5⟩ := h
  obtain ⟨j0, b0, g1, g2, g3, g4, g5, g6, g7⟩ := hd _ hp5 hp0 hpr
  have hinj := mq_aL_inj (by omega) (by omega) (hl.symm.trans g2)
  obtain ⟨rfl, rfl⟩ := hinj
  have e1 : mq_it fr to ll (k + 1) = mq_aS fr to j b := mq_pr_eq (by omega) hl
  have hfj : f' j = fl j := s5 _ hp5 hp0 hpr (Nat.le_refl _) j b hl hj
  rw [mq_pR_eq (by omega) hl] at ha
  have hIj := s1 j hj
  unfold mq_SI
  rw [e1]
  generalize mq_it fr to ll k = p at s2 s3 s5 hp5 hp0 hpr hl g2 g3 g6 g7
  refine ⟨fun i hi => ?_, fun w => ?_, ?_, fun i hi => ?_, fun q hq hq0 hqr hqd i a hqa hi => ?_⟩
  · by_cases e : i = j
    · rw [e, va_up_self]
      cases b <;> simp [mq_aR] at ha ⊢ <;> omega
    · rw [va_up_ne _ _ e]
      exact s1 i hi
  · rw [mq_sm_upw hj, s2 w, ← g3]
    cases b
    · simp only [mq_aS, mq_aD]
      simp
      grind
    · simp only [mq_aS, mq_aD]
      simp
      grind
  · rw [mq_sm_upw hj, s3, ← g6]
    cases b
    · simp only [mq_aS, mq_aC]
      simp
      grind
    · simp only [mq_aS, mq_aC]
      simp
      grind
  · by_cases e : i = j
    · subst e
      refine Or.inr ?_
      rw [← g3] at hpr g6
      cases b <;> simp [mq_aS, mq_aD, mq_aC] at g5 g6 hpr ⊢
      · exact ⟨g5, hpr, by omega⟩
      · exact ⟨hpr, g5, by omega⟩
    · rw [va_up_ne _ _ e]
      exact s4 i hi
  · have hij : i ≠ j := by
      intro e
      subst e
      obtain ⟨j1, b1, k1, k2, k3, k4, k5, k6, k7⟩ := hd q hq hq0 hqr
      obtain ⟨rfl, rfl⟩ := mq_aL_inj (by omega) (by omega) (hqa.symm.trans k2)
      by_cases e2 : a = b
      · subst e2
        have : q = p := k3.symm.trans g3
        rw [this] at hqd
        omega
      · have c1 : mq_aD fr to i a = mq_aS fr to i b := by cases a <;> cases b <;> simp [mq_aS, mq_aD] at e2 ⊢
        have c2 : mq_aS fr to i a = mq_aD fr to i b := by cases a <;> cases b <;> simp [mq_aS, mq_aD] at e2 ⊢
        rw [c2, g3] at k7
        omega
    rw [va_up_ne _ _ hij]
    exact s5 q hq hq0 hqr (by omega) i a hqa hi
/-- what the ways deliver up to the moment t -/
def mq_Fk (wt wa : Nat → Int) (k : Nat) (t : Int) : Int := mq_sm (fun i => if wt i ≤ t then wa i * (t - wt i + 1) else 0) k
/-- behind k ways -/
def mq_SS (n : Nat) (fr to wd ti : Nat → Int) (k : Nat) (wt wa fl : Nat → Int) : Prop :=
  mq_In n wd fl ∧ (∀ w : Nat → Int, mq_sm (fun j => fl j * (w (to j).toNat - w (fr j).toNat)) n = mq_sm wa k * (w 4 - w 0)) ∧
  mq_sm (fun j => fl j * ti j) n = mq_sm (fun i => wa i * wt i) k ∧ (∀ i, i < k → (0 ≤ wt i ∧ wt i ≤ 12) ∧ 1 ≤ wa i ∧ wa i ≤ 5) ∧
  (∃ pt : Nat → Int, pt 0 = 0 ∧ mq_Fe n fr to wd ti fl pt ∧ 0 ≤ pt 4 ∧ (∀ i, i < k → wt i ≤ pt 4) ∧ ∀ t : Int, 0 ≤ t → (∀ i, i < k → wt i ≤ t) → pt 4 ≤ t) ∧
  (∀ i i', i ≤ i' → i' < k → wt i ≤ wt i') ∧ ∀ t : Nat, t ≤ 12 → (∃ i, i < k ∧ (t : Int) < wt i) → mq_MC n fr to wd ti t (mq_Fk wt wa k t)
theorem mq_SS_0 {n : Nat} {fr to wd ti wt wa fl : Nat → Int} (hN : mq_Net n fr to wd ti) (hf : ∀ j, j < 8 → fl j = 0) : mq_SS n fr to wd ti 0 wt wa fl := by
  obtain ⟨hn8, h2, h3, -⟩ := hN
  refine ⟨fun j hj => ?_, fun w => ?_, ?_, fun i hi => by omega, ⟨fun _ => 0, rfl, fun j b hj hR => ?_, Int.le_refl _, fun i hi => by omega, fun t ht _ => ht⟩, fun i i' _ hi => by omega, fun t _ h => ?_⟩
  · rw [hf j (by omega)]
    have := (h3 j hj).2
    omega
  · rw [mq_sm_0, Int.zero_mul]
    exact mq_sm_zero (fun j hj => by rw [hf j (by omega), Int.zero_mul])
  · rw [mq_sm_0]
    exact mq_sm_zero (fun j hj => by rw [hf j (by omega), Int.zero_mul])
  · have := h2 j (by omega)
    have e := hf j (by omega)
    cases b <;> simp [mq_aR, mq_aC] at hR ⊢ <;> omega
  · obtain ⟨i, hi, -⟩ := h
    omega
/-- no flow is more than a cut -/
theorem mq_weak {n : Nat} {fr to wd tz fl : Nat → Int} (hI : mq_In n wd fl) (pt : Nat → Int) : mq_sm (fun j => fl j * (pt (to j).toNat - pt (fr j).toNat - tz j)) n ≤ mq_cut n fr to wd tz pt := by
  refine mq_sm_le (fun j hj => ?_)
  have := hI j hj
  refine Int.le_trans (Int.mul_le_mul_of_nonneg_left (mq_mx_ge _) this.1) ?_
  exact Int.mul_le_mul_of_nonneg_right this.2 (mq_mx_nn _)
theorem mq_opt {n : Nat} {fr to wd tz fl : Nat → Int} (hI : mq_In n wd fl) (pt : Nat → Int) (h1 : ∀ j, j < n → fl j < wd j → pt (to j).toNat - pt (fr j).toNat - tz j ≤ 0) (h2 : ∀ j, j < n → 0 < fl j → 0 ≤ pt (to j).toNat - pt (fr j).toNat - tz j) : mq_cut n fr to wd tz pt = mq_sm (fun j => fl j * (pt (to j).toNat - pt (fr j).toNat - tz j)) n := by
  refine mq_sm_congr (fun j hj => ?_)
  have a1 := h1 j hj
  have a2 := h2 j hj
  have a3 := hI j hj
  generalize pt (to j).toNat - pt (fr j).toNat - tz j = z at a1 a2
  rcases Int.lt_or_le (fl j) (wd j) with q | q
  · have b1 := a1 q
    rw [mq_mx_neg b1, Int.mul_zero]
    rcases Int.lt_or_le 0 (fl j) with w | w
    · have b2 := a2 w
      rw [show z = 0 by omega, Int.mul_zero]
    · rw [show fl j = 0 by omega, Int.zero_mul]
  · rw [show fl j = wd j by omega]
    rcases Int.lt_or_le 0 (fl j) with w | w
    · rw [mq_mx_pos (a2 w)]
    · rw [show wd j = 0 by omega, Int.zero_mul, Int.zero_mul]
theorem mq_dual {n : Nat} {fr to tz fl : Nat → Int} {V C : Int} (h1 : ∀ w : Nat → Int, mq_sm (fun j => fl j * (w (to j).toNat - w (fr j).toNat)) n = V * (w 4 - w 0)) (h2 : mq_sm (fun j => fl j * tz j) n = C) (pt : Nat → Int) : mq_sm (fun j => fl j * (pt (to j).toNat - pt (fr j).toNat - tz j)) n = V * (pt 4 - pt 0) - C := by
  rw [← h1 pt, ← h2, ← mq_sm_sub]
  refine mq_sm_congr (fun j _ => ?_)
  rw [Int.mul_sub]
/-- a flow with a potential that fits it is a least cut -/
theorem mq_MC_of {n : Nat} {fr to wd tz fl : Nat → Int} {V C L : Int} (hI : mq_In n wd fl) (hV : 0 ≤ V) (h1 : ∀ w : Nat → Int, mq_sm (fun j => fl j * (w (to j).toNat - w (fr j).toNat)) n = V * (w 4 - w 0)) (h2 : mq_sm (fun j => fl j * tz j) n = C) (pt : Nat → Int) (h3 : pt 0 = 0) (h4 : pt 4 = L + 1) (h5 : ∀ j, j < n → fl j < wd j → pt (to j).toNat - pt (fr j).toNat - tz j ≤ 0) (h6 : ∀ j, j < n → 0 < fl j → 0 ≤ pt (to j).toNat - pt (fr j).toNat - tz j) : mq_MC n fr to wd tz L (V * (L + 1) - C) := by
  refine ⟨fun po g1 g2 => ?_, pt, h3, h4, ?_⟩
  · have a1 := mq_weak (fr := fr) (to := to) (tz := tz) hI po
    rw [mq_dual h1 h2 po] at a1
    have a2 : V * (L + 1) ≤ V * (po 4 - po 0) := Int.mul_le_mul_of_nonneg_left (by omega) hV
    omega
  · rw [mq_opt hI pt h5 h6, mq_dual h1 h2 pt, h3, h4]
    have : L + 1 - 0 = L + 1 := by omega
    rw [this]
    exact Int.le_refl _
/-- the potential of the ways found, over all places -/
theorem mq_ext {n : Nat} {fr to wd ti fl pt qk rc ll : Nat → Int} (hN : mq_Net n fr to wd ti) (hF : mq_Fe n fr to wd ti fl pt) (h : mq_SP n fr to wd ti fl pt qk rc ll) : ∃ px : Nat → Int, mq_Fe n fr to wd ti fl px ∧ (∀ p, p < 5 → rc p = 1 → px p = qk p) ∧ (∀ p, p < 5 → rc p = 0 → 15 ≤ px p) := by
  obtain ⟨h1, h2, h3, h4, h5, -⟩ := h
  obtain ⟨M, hM⟩ : ∃ M : Int, ∀ p, p < 5 → 15 - pt p ≤ M := by
    refine ⟨mq_sm (fun p => mq_mx (15 - pt p)) 5, fun p hp => ?_⟩
    exact Int.le_trans (mq_mx_ge _) (mq_sm_pt (f := fun p => mq_mx (15 - pt p)) (fun _ _ => mq_mx_nn _) hp)
  refine ⟨fun p => if rc p = 1 then qk p else pt p + M, fun j b hj hR => ?_, fun p _ hr => if_pos hr, fun p hp hr => ?_⟩
  · show (if rc (mq_aD fr to j b) = 1 then _ else _) ≤ (if rc (mq_aS fr to j b) = 1 then _ else _) + _
    have b1 := h5 j b hj hR
    have b2 := hF j b hj hR
    have b3 := mq_aC_in hN hj b
    have b4 := hM _ (mq_aS_lt hN hj b)
    have b5 := h4 _ (mq_aD_lt hN hj b)
    by_cases e1 : rc (mq_aS fr to j b) = 1
    · obtain ⟨c1, c2⟩ := b1 e1
      rw [if_pos e1, if_pos c1]
      exact c2
    · rw [if_neg e1]
      by_cases e2 : rc (mq_aD fr to j b) = 1
      · rw [if_pos e2]
        have := (b5 e2).2
        omega
      · rw [if_neg e2]
        omega
  · show 15 ≤ (if rc p = 1 then _ else _)
    rw [if_neg (by omega)]
    have := hM p hp
    omega
theorem mq_Fk_all {wt wa : Nat → Int} {k : Nat} {t : Int} (h : ∀ i, i < k → wt i ≤ t) : mq_Fk wt wa k t = mq_sm wa k * (t + 1) - mq_sm (fun i => wa i * wt i) k := by
  unfold mq_Fk
  rw [Int.mul_comm, ← mq_sm_mul, ← mq_sm_sub]
  refine mq_sm_congr (fun i hi => ?_)
  rw [if_pos (h i hi)]
  grind
/-- the moment at which no further way comes in time -/
theorem mq_stage {n : Nat} {fr to wd ti fl pt qk rc ll wt wa : Nat → Int} {k : Nat} (hN : mq_Net n fr to wd ti) (hI : mq_In n wd fl) (hw : ∀ w : Nat → Int, mq_sm (fun j => fl j * (w (to j).toNat - w (fr j).toNat)) n = mq_sm wa k * (w 4 - w 0)) (hc : mq_sm (fun j => fl j * ti j) n = mq_sm (fun i => wa i * wt i) k) (ha : ∀ i, i < k → 1 ≤ wa i) (h0 : pt 0 = 0) (hF : mq_Fe n fr to wd ti fl pt) (hS : mq_SP n fr to wd ti fl pt qk rc ll) {t : Nat} (ht : t ≤ 12) (h1 : ∀ i, i < k → wt i ≤ (t : Int)) (h2 : pt 4 ≤ (t : Int)) (h3 : rc 4 = 0 ∨ (rc 4 = 1 ∧ (t : Int) < qk 4)) : mq_MC n fr to wd ti t (mq_Fk wt wa k t) := by
  obtain ⟨px, x1, x2, x3⟩ := mq_ext hN hF hS
  have hx0 : px 0 = 0 := by rw [x2 0 (by omega) hS.2.1]; exact hS.2.2.1
  have hx4 : (t : Int) + 1 ≤ px 4 := by
    rcases h3 with q | ⟨q, w⟩
    · have := x3 4 (by omega) q
      omega
    · rw [x2 4 (by omega) q]
      omega
  have hfe : ∀ j b, j < n → 0 < mq_aR wd fl j b → (if px (mq_aD fr to j b) ≤ pt (mq_aD fr to j b) + ((t : Int) + 1 - pt 4) then px (mq_aD fr to j b) else pt (mq_aD fr to j b) + ((t : Int) + 1 - pt 4)) ≤ (if px (mq_aS fr to j b) ≤ pt (mq_aS fr to j b) + ((t : Int) + 1 - pt 4) then px (mq_aS fr to j b) else pt (mq_aS fr to j b) + ((t : Int) + 1 - pt 4)) + mq_aC ti j b := by
    intro j b hj hR
    have b1 := x1 j b hj hR
    have b2 := hF j b hj hR
    split <;> split <;> omega
  rw [mq_Fk_all h1]
  refine mq_MC_of (fl := fl) hI (mq_sm_nn (fun i hi => by have := ha i hi; omega)) hw hc (fun p => if px p ≤ pt p + ((t : Int) + 1 - pt 4) then px p else pt p + ((t : Int) + 1 - pt 4)) ?_ ?_ (fun j hj hl => ?_) (fun j hj hl => ?_)
  · show (if px 0 ≤ pt 0 + _ then px 0 else _) = 0
    rw [if_pos (by omega)]
    exact hx0
  · show (if px 4 ≤ pt 4 + ((t : Int) + 1 - pt 4) then px 4 else pt 4 + ((t : Int) + 1 - pt 4)) = (t : Int) + 1
    split <;> omega
  · have := hfe j false hj (by simp [mq_aR]; omega)
    simp only [mq_aD, mq_aS, mq_aC] at this
    simp at this
    show (if _ then _ else _) - (if _ then _ else _) - ti j ≤ 0
    omega
  · have := hfe j true hj (by simp [mq_aR]; omega)
    simp only [mq_aD, mq_aS, mq_aC] at this
    simp at this
    show 0 ≤ (if _ then _ else _) - (if _ then _ else _) - ti j
    omega
/-- one more way -/
theorem mq_SS_s {n : Nat} {fr to wd ti fl pt qk rc ll wt wa f' : Nat → Int} {dp : Nat → Nat} {k K : Nat} {am : Int} (hN : mq_Net n fr to wd ti) (hI : mq_In n wd fl) (hw : ∀ w : Nat → Int, mq_sm (fun j => fl j * (w (to j).toNat - w (fr j).toNat)) n = mq_sm wa k * (w 4 - w 0)) (hc : mq_sm (fun j => fl j * ti j) n = mq_sm (fun i => wa i * wt i) k) (hk : ∀ i, i < k → (0 ≤ wt i ∧ wt i ≤ 12) ∧ 1 ≤ wa i ∧ wa i ≤ 5) (h0 : pt 0 = 0) (hF : mq_Fe n fr to wd ti fl pt) (h4 : 0 ≤ pt 4) (h5 : ∀ i, i < k → wt i ≤ pt 4) (h6 : ∀ t : Int, 0 ≤ t → (∀ i, i < k → wt i ≤ t) → pt 4 ≤ t) (hm : ∀ i i', i ≤ i' → i' < k → wt i ≤ wt i') (hM : ∀ t : Nat, t ≤ 12 → (∃ i, i < k ∧ (t : Int) < wt i) → mq_MC n fr to wd ti t (mq_Fk wt wa k t)) (hS : mq_SP n fr to wd ti fl pt qk rc ll) (hr : rc 4 = 1) (ha : 1 ≤ am ∧ am ≤ 5) (hit : mq_it fr to ll K = 0) (hi : mq_SI n fr to wd ti fl qk rc ll dp am K f') :
    mq_SS n fr to wd ti (k + 1) (va_up wt k (qk 4)) (va_up wa k am) f' := by
  obtain ⟨px, x1, x2, x3⟩ := mq_ext hN hF hS
  have hq4 := hS.2.2.2.1 4 (by omega) hr
  obtain ⟨s1, s2, s3, s4, -⟩ := hi
  rw [hit] at s2 s3
  have hq0 := hS.2.2.1
  have lo : ∀ (f : Nat → Int) (v : Int) (i : Nat), i < k → va_up f k v i = f i := fun f v i hi => va_up_ne f v (by omega)
  have hF1 : ∀ t : Nat, t ≤ 12 → (t : Int) < qk 4 → mq_Fk (va_up wt k (qk 4)) (va_up wa k am) (k + 1) t = mq_Fk wt wa k t := by
    intro t _ h
    unfold mq_Fk
    rw [mq_sm_s, va_up_self, if_neg (by omega), Int.add_zero]
    refine mq_sm_congr (fun i hi => ?_)
    rw [lo _ _ i hi, lo _ _ i hi]
  refine ⟨s1, fun w => ?_, ?_, fun i hi => ?_, ⟨px, ?_, fun j b hj hR => ?_, ?_, fun i hi => ?_, fun t ht hi => ?_⟩, fun i i' hii hi' => ?_, fun t ht hi => ?_⟩
  · rw [s2 w, hw w, mq_sm_s, va_up_self, mq_sm_congr (lo wa am)]
    grind
  · rw [s3, hc, mq_sm_s, va_up_self, va_up_self, hq0, mq_sm_congr (f := fun i => va_up wa k am i * va_up wt k (qk 4) i) (g := fun i => wa i * wt i) (fun i hi => by show va_up wa k am i * va_up wt k (qk 4) i = wa i * wt i; rw [lo _ _ i hi, lo _ _ i hi])]
    simp
  · by_cases e : i = k
    · rw [e, va_up_self, va_up_self]
      omega
    · rw [lo _ _ i (by omega), lo _ _ i (by omega)]
      exact hk i (by omega)
  · rw [x2 0 (by omega) hS.2.1]
    exact hq0
  · have hn8 := hN.1
    rcases s4 j hj with e | ⟨c1, c2, c3⟩
    · refine x1 j b hj ?_
      unfold mq_aR at hR ⊢
      rw [e] at hR
      exact hR
    · have d1 := x2 _ (by have := (hN.2.1 j (by omega)); omega) c1
      have d2 := x2 _ (by have := (hN.2.1 j (by omega)); omega) c2
      cases b <;> simp only [mq_aD, mq_aS, mq_aC] <;> simp <;> omega
  · rw [x2 4 (by omega) hr]
    omega
  · rw [x2 4 (by omega) hr]
    by_cases e : i = k
    · rw [e, va_up_self]
      exact Int.le_refl _
    · rw [lo _ _ i (by omega)]
      have := h5 i (by omega)
      omega
  · rw [x2 4 (by omega) hr]
    have := hi k (by omega)
    rw [va_up_self] at this
    exact this
  · by_cases e : i' = k
    · rw [e, va_up_self]
      by_cases e2 : i = k
      · rw [e2, va_up_self]
        exact Int.le_refl _
      · rw [lo _ _ i (by omega)]
        have := h5 i (by omega)
        omega
    · rw [lo _ _ i (by omega), lo _ _ i' (by omega)]
      exact hm i i' hii (by omega)
  · by_cases q : ∃ i, i < k ∧ (t : Int) < wt i
    · obtain ⟨i, hi1, hi2⟩ := q
      have := h5 i hi1
      rw [hF1 t ht (by omega)]
      exact hM t ht ⟨i, hi1, hi2⟩
    · have hle : ∀ i, i < k → wt i ≤ (t : Int) := by
        intro i hi1
        rcases Int.lt_or_le (t : Int) (wt i) with w | w
        · exact absurd ⟨i, hi1, w⟩ q
        · exact w
      obtain ⟨i, hi1, hi2⟩ := hi
      have e : i = k := by
        rcases Nat.lt_or_ge i k with w | w
        · rw [lo _ _ i w] at hi2
          have := hle i w
          omega
        · omega
      rw [e, va_up_self] at hi2
      rw [hF1 t ht hi2]
      exact mq_stage hN hI hw hc (fun i hi => (hk i hi).2.1) h0 hF hS ht hle (h6 t (by omega) hle) (Or.inr ⟨hr, hi2⟩)
/-- the ways are found: what every answer of the class rests on -/
def mq_FW (n : Nat) (fr to wd ti : Nat → Int) (k : Nat) (wt wa : Nat → Int) : Prop :=
  k ≤ 33 ∧ (∀ i, i < k → (0 ≤ wt i ∧ wt i ≤ 12) ∧ 1 ≤ wa i ∧ wa i ≤ 5) ∧ (∀ i i', i ≤ i' → i' < k → wt i ≤ wt i') ∧ (∀ t : Nat, t ≤ 12 → mq_MC n fr to wd ti t (mq_Fk wt wa k t)) ∧ mq_MC n fr to wd (fun _ => 0) 0 (mq_sm wa k)
theorem mq_SS_k {n : Nat} {fr to wd ti wt wa fl : Nat → Int} {k : Nat} (hN : mq_Net n fr to wd ti) (h : mq_SS n fr to wd ti k wt wa fl) : k ≤ 33 := by
  obtain ⟨hn8, q2, q3, q4⟩ := hN
  obtain ⟨h1, h2, h3, h4, -⟩ := h
  have a1 : mq_sm (fun _ => 1) k ≤ mq_sm wa k := mq_sm_le (fun i hi => (h4 i hi).2.1)
  rw [mq_sm_const] at a1
  have a2 := h2 (fun p => if p = 4 then 1 else 0)
  have a3 : mq_sm (fun j => fl j * ((if (to j).toNat = 4 then 1 else 0) - (if (fr j).toNat = 4 then 1 else 0))) n ≤ mq_sm wd n := by
    refine mq_sm_le (fun j hj => ?_)
    have b1 := h1 j hj
    have b2 := (q3 j hj).2
    split <;> split <;> simp <;> omega
  have a4 : mq_sm wa k * ((if 4 = 4 then 1 else 0) - (if 0 = 4 then 1 else 0)) = mq_sm wa k := by simp
  have a5 : mq_sm (fun j => fl j * ((if (to j).toNat = 4 then 1 else 0) - (if (fr j).toNat = 4 then 1 else 0))) n = mq_sm wa k := a2.trans a4
  omega
theorem mq_FW_of {n : Nat} {fr to wd ti fl pt qk rc ll wt wa : Nat → Int} {k : Nat} (hN : mq_Net n fr to wd ti) (h : mq_SS n fr to wd ti k wt wa fl) (h0 : pt 0 = 0) (hF : mq_Fe n fr to wd ti fl pt) (h6 : ∀ t : Int, 0 ≤ t → (∀ i, i < k → wt i ≤ t) → pt 4 ≤ t) (hS : mq_SP n fr to wd ti fl pt qk rc ll) (hr : rc 4 = 0) : mq_FW n fr to wd ti k wt wa := by
  have hk := mq_SS_k hN h
  obtain ⟨h1, h2, h3, h4, -, h5, h7⟩ := h
  refine ⟨hk, h4, h5, fun t ht => ?_, ?_⟩
  · by_cases q : ∃ i, i < k ∧ (t : Int) < wt i
    · exact h7 t ht q
    · have hle : ∀ i, i < k → wt i ≤ (t : Int) := by
        intro i hi1
        rcases Int.lt_or_le (t : Int) (wt i) with w | w
        · exact absurd ⟨i, hi1, w⟩ q
        · exact w
      exact mq_stage hN h1 h2 h3 (fun i hi => (h4 i hi).2.1) h0 hF hS ht hle (h6 t (by omega) hle) (Or.inl hr)
  · obtain ⟨g1, g2, g3, g4, g5, -⟩ := hS
    have := mq_MC_of (fr := fr) (to := to) (tz := fun _ => 0) (fl := fl) (V := mq_sm wa k) (C := 0) (L := 0) h1 (mq_sm_nn (fun i hi => by have := (h4 i hi).2.1; omega)) h2 (mq_sm_zero (fun j _ => Int.mul_zero _)) (fun p => if rc p = 1 then 0 else 1) (if_pos g2) (by show (if rc 4 = 1 then (0 : Int) else 1) = 0 + 1; rw [if_neg (by omega)]; rfl) (fun j hj hl => ?_) (fun j hj hl => ?_)
    · rw [show mq_sm wa k * (0 + 1) - 0 = mq_sm wa k by omega] at this
      exact this
    · have := g5 j false hj (by simp [mq_aR]; omega)
      simp only [mq_aD, mq_aS, mq_aC] at this
      simp at this
      show (if rc (to j).toNat = 1 then (0 : Int) else 1) - (if rc (fr j).toNat = 1 then (0 : Int) else 1) - 0 ≤ 0
      by_cases e1 : rc (fr j).toNat = 1
      · rw [if_pos e1, if_pos (this e1).1]
        omega
      · rw [if_neg e1]
        split <;> omega
    · have := g5 j true hj (by simp [mq_aR]; omega)
      simp only [mq_aD, mq_aS, mq_aC] at this
      simp at this
      show 0 ≤ (if rc (to j).toNat = 1 then (0 : Int) else 1) - (if rc (fr j).toNat = 1 then (0 : Int) else 1) - 0
      by_cases e1 : rc (to j).toNat = 1
      · rw [if_pos e1, if_pos (this e1).1]
        omega
      · rw [if_neg e1]
        split <;> omega
end
section
-- ===== PART A: goes FIRST, ahead of the names: the tables' words, and 'selects' of the private methods out of them =====
/-- a private method of a class that the tables say can be made, by its rows of tables_1 -/
def lw_okq (q : MethodName × Nat) : Prop := (q.1.cls ≠ "java/lang/invoke/MethodHandle" ∧ q.1.cls ≠ "java/lang/invoke/VarHandle") ∧ Cond.instantiable q.1.cls q.2 ∈ tables_1 ∧ Cond.privateMethod q.1 ∈ tables_1 ∧ Cond.instanceMethod q.1 ∈ tables_1
set_option maxRecDepth 100000
theorem lw_p0 : lw_okq (⟨"QuickestFlow", "findWays", "()V"⟩, 12) := ⟨⟨by decide +kernel, by decide +kernel⟩, List.mem_of_getElem? (i := 4) rfl, List.mem_of_getElem? (i := 63) rfl, List.mem_of_getElem? (i := 64) rfl⟩
theorem lw_p1 : lw_okq (⟨"QuickestFlow", "findQuickest", "()V"⟩, 12) := ⟨⟨by decide +kernel, by decide +kernel⟩, List.mem_of_getElem? (i := 4) rfl, List.mem_of_getElem? (i := 67) rfl, List.mem_of_getElem? (i := 68) rfl⟩
theorem lw_p2 : lw_okq (⟨"QuickestFlow", "relax", "(IZ)Z"⟩, 12) := ⟨⟨by decide +kernel, by decide +kernel⟩, List.mem_of_getElem? (i := 4) rfl, List.mem_of_getElem? (i := 71) rfl, List.mem_of_getElem? (i := 72) rfl⟩
theorem lw_p3 : lw_okq (⟨"QuickestFlow", "roomOfWay", "()I"⟩, 12) := ⟨⟨by decide +kernel, by decide +kernel⟩, List.mem_of_getElem? (i := 4) rfl, List.mem_of_getElem? (i := 75) rfl, List.mem_of_getElem? (i := 76) rfl⟩
theorem lw_p4 : lw_okq (⟨"QuickestFlow", "send", "(I)V"⟩, 12) := ⟨⟨by decide +kernel, by decide +kernel⟩, List.mem_of_getElem? (i := 4) rfl, List.mem_of_getElem? (i := 79) rfl, List.mem_of_getElem? (i := 80) rfl⟩
theorem lw_p5 : lw_okq (⟨"QuickestFlow", "sumFor", "(I)I"⟩, 12) := ⟨⟨by decide +kernel, by decide +kernel⟩, List.mem_of_getElem? (i := 4) rfl, List.mem_of_getElem? (i := 83) rfl, List.mem_of_getElem? (i := 84) rfl⟩
theorem lw_p6 : lw_okq (⟨"QuickestFlowModel", "flow", "(IZ)I"⟩, 12) := ⟨⟨by decide +kernel, by decide +kernel⟩, List.mem_of_getElem? (i := 103) rfl, List.mem_of_getElem? (i := 164) rfl, List.mem_of_getElem? (i := 165) rfl⟩
theorem lw_p7 : lw_okq (⟨"QuickestFlowModel", "build", "(IZ)V"⟩, 12) := ⟨⟨by decide +kernel, by decide +kernel⟩, List.mem_of_getElem? (i := 103) rfl, List.mem_of_getElem? (i := 168) rfl, List.mem_of_getElem? (i := 169) rfl⟩
theorem lw_p8 : lw_okq (⟨"QuickestFlowModel", "edge", "(III)V"⟩, 12) := ⟨⟨by decide +kernel, by decide +kernel⟩, List.mem_of_getElem? (i := 103) rfl, List.mem_of_getElem? (i := 172) rfl, List.mem_of_getElem? (i := 173) rfl⟩
theorem lw_p9 : lw_okq (⟨"QuickestFlowModel", "search", "(I)Z"⟩, 12) := ⟨⟨by decide +kernel, by decide +kernel⟩, List.mem_of_getElem? (i := 103) rfl, List.mem_of_getElem? (i := 177) rfl, List.mem_of_getElem? (i := 178) rfl⟩
theorem lw_p10 : lw_okq (⟨"QuickestFlowModel", "send", "(I)V"⟩, 12) := ⟨⟨by decide +kernel, by decide +kernel⟩, List.mem_of_getElem? (i := 103) rfl, List.mem_of_getElem? (i := 181) rfl, List.mem_of_getElem? (i := 182) rfl⟩
def lw_privs_1 : List (MethodName × Nat) := [(⟨"QuickestFlow", "findWays", "()V"⟩, 12), (⟨"QuickestFlow", "findQuickest", "()V"⟩, 12), (⟨"QuickestFlow", "relax", "(IZ)Z"⟩, 12), (⟨"QuickestFlow", "roomOfWay", "()I"⟩, 12), (⟨"QuickestFlow", "send", "(I)V"⟩, 12), (⟨"QuickestFlow", "sumFor", "(I)I"⟩, 12), (⟨"QuickestFlowModel", "flow", "(IZ)I"⟩, 12), (⟨"QuickestFlowModel", "build", "(IZ)V"⟩, 12), (⟨"QuickestFlowModel", "edge", "(III)V"⟩, 12), (⟨"QuickestFlowModel", "search", "(I)Z"⟩, 12), (⟨"QuickestFlowModel", "send", "(I)V"⟩, 12)]
theorem lw_r1 : ∀ q ∈ lw_privs_1, lw_okq q := List.forall_mem_cons.mpr ⟨lw_p0, List.forall_mem_cons.mpr ⟨lw_p1, List.forall_mem_cons.mpr ⟨lw_p2, List.forall_mem_cons.mpr ⟨lw_p3, List.forall_mem_cons.mpr ⟨lw_p4, List.forall_mem_cons.mpr ⟨lw_p5, List.forall_mem_cons.mpr ⟨lw_p6, List.forall_mem_cons.mpr ⟨lw_p7, List.forall_mem_cons.mpr ⟨lw_p8, List.forall_mem_cons.mpr ⟨lw_p9, List.forall_mem_cons.mpr ⟨lw_p10, fun _ h => absurd h List.not_mem_nil⟩⟩⟩⟩⟩⟩⟩⟩⟩⟩⟩
def lw_privs : List (MethodName × Nat) := lw_privs_1
def lw_tbl : List Cond := k2_sels lw_privs ++ tables_1
theorem lw_privs_ok : ∀ q ∈ lw_privs, lw_okq q := lw_r1
-- ===== ONE list of words for every method: the tables' words that hold all through a run =====
def lw_all : List Cond := lw_tbl.filter goodWord
/-- a word of the tables by its place: claim/WORDS.tsv -/
theorem lw_w {w : Cond} (i : Nat) (h : lw_tbl[i]? = some w) (g : goodWord w = true) : w ∈ lw_all := List.mem_filter.mpr ⟨List.mem_of_getElem? h, g⟩
theorem lw_all_tbl {w : Cond} (h : w ∈ lw_all) : w ∈ lw_tbl := (List.mem_filter.mp h).1
theorem lw_self : GoodIn lw_all lw_all := fun w h => ⟨h, good_of_word (List.mem_filter.mp h).2⟩
/-- a class's field words, by their places -/
theorem lw_in (ws : List Cond) (ps : List Nat) (hp : ws = ps.filterMap (fun i => lw_tbl[i]?)) (hg : ws.all goodWord = true) : ∀ w ∈ ws, w ∈ lw_all := by
  intro w h
  have h1 := List.all_eq_true.mp hg w h
  rw [hp] at h
  obtain ⟨i, -, hi⟩ := List.mem_filterMap.mp h
  exact lw_w i hi h1
/-- the words of a contract for the method y with code b, L locals, answer r -/
abbrev ws_ (y : MethodName) (b : ByteArray) (L : Nat) (r : Option FieldType) : List Cond := Cond.code y b L r :: lw_all
theorem lw_meth {y : MethodName} {b : ByteArray} {L : Nat} {r : Option FieldType} (h : Cond.code y b L r ∈ lw_all) : GoodIn lw_all (ws_ y b L r) := by
  intro w hw
  rcases List.mem_cons.mp hw with e | e
  · rw [e]
    exact lw_self _ h
  · exact lw_self _ e
theorem lw_app {a c : List Cond} (ha : ∀ w ∈ a, w ∈ lw_all) (hc : GoodIn lw_all c) : GoodIn lw_all (a ++ c) := by
  intro w hw
  rcases List.mem_append.mp hw with e | e
  · exact lw_self w (ha w e)
  · exact hc w e
/-- what a call through an object asks: cwV n hts (lw_V ..) -/
theorem lw_V {own : String} {idx : Nat} {C : String} {y : MethodName} {b : ByteArray} {L : Nat} {r : Option FieldType} (h1 : Cond.methodLink own idx y ∈ lw_all) (h2 : Cond.instanceMethod y ∈ lw_all) (h3 : Cond.selects C y y ∈ lw_all) (h4 : Cond.initialized C ∈ lw_all) (h5 : Cond.code y b L r ∈ lw_all) : GoodIn lw_all (wsV own idx C y (ws_ y b L r)) := by
  refine lw_app ?_ (lw_meth h5)
  intro w hw
  simp only [List.mem_cons, List.not_mem_nil, or_false] at hw
  rcases hw with e | e | e | e
  · rw [e]; exact h1
  · rw [e]; exact h2
  · rw [e]; exact h3
  · rw [e]; exact h4
/-- what a static call asks: va_cwS n hts (lw_S ..) -/
theorem lw_S {own : String} {idx : Nat} {y : MethodName} {b : ByteArray} {L : Nat} {r : Option FieldType} (h1 : Cond.methodLink own idx y ∈ lw_all) (h2 : Cond.static y ∈ lw_all) (h3 : Cond.initialized y.cls ∈ lw_all) (h4 : Cond.code y b L r ∈ lw_all) : GoodIn lw_all (va_wsS own idx y (ws_ y b L r)) := by
  refine lw_app ?_ (lw_meth h4)
  intro w hw
  simp only [List.mem_cons, List.not_mem_nil, or_false] at hw
  rcases hw with e | e | e
  · rw [e]; exact h1
  · rw [e]; exact h2
  · rw [e]; exact h3
/-- the words of a contract for a method WITH HANDLERS (hh: its table) -/
abbrev wsW_ (y : MethodName) (b : ByteArray) (L : Nat) (r : Option FieldType) (hh : List (Nat × Nat × Nat × Nat)) : List Cond := Cond.codeWith y b L r hh :: lw_all
theorem lw_methW {y : MethodName} {b : ByteArray} {L : Nat} {r : Option FieldType} {hh : List (Nat × Nat × Nat × Nat)} (h : Cond.codeWith y b L r hh ∈ lw_all) : GoodIn lw_all (wsW_ y b L r hh) := by
  intro w hw
  rcases List.mem_cons.mp hw with e | e
  · rw [e]
    exact lw_self _ h
  · exact lw_self _ e
/-- any list of words by their places (lw_in), good -/
theorem lw_good {ws : List Cond} (h : ∀ w ∈ ws, w ∈ lw_all) : GoodIn lw_all ws := fun w hw => lw_self w (h w hw)
/-- what a call of a method with handlers asks: vx_cwVW n hts (lw_VW ..), vx_cwSW n hts (lw_SW ..) -/
theorem lw_VW {own : String} {idx : Nat} {C : String} {y : MethodName} {b : ByteArray} {L : Nat} {r : Option FieldType} {hh : List (Nat × Nat × Nat × Nat)} (h1 : Cond.methodLink own idx y ∈ lw_all) (h2 : Cond.instanceMethod y ∈ lw_all) (h3 : Cond.selects C y y ∈ lw_all) (h4 : Cond.initialized C ∈ lw_all) (h5 : Cond.codeWith y b L r hh ∈ lw_all) : GoodIn lw_all (wsV own idx C y (wsW_ y b L r hh)) := by
  refine lw_app ?_ (lw_methW h5)
  intro w hw
  simp only [List.mem_cons, List.not_mem_nil, or_false] at hw
  rcases hw with e | e | e | e
  · rw [e]; exact h1
  · rw [e]; exact h2
  · rw [e]; exact h3
  · rw [e]; exact h4
theorem lw_SW {own : String} {idx : Nat} {y : MethodName} {b : ByteArray} {L : Nat} {r : Option FieldType} {hh : List (Nat × Nat × Nat × Nat)} (h1 : Cond.methodLink own idx y ∈ lw_all) (h2 : Cond.static y ∈ lw_all) (h3 : Cond.initialized y.cls ∈ lw_all) (h4 : Cond.codeWith y b L r hh ∈ lw_all) : GoodIn lw_all (va_wsS own idx y (wsW_ y b L r hh)) := by
  refine lw_app ?_ (lw_methW h4)
  intro w hw
  simp only [List.mem_cons, List.not_mem_nil, or_false] at hw
  rcases hw with e | e | e
  · rw [e]; exact h1
  · rw [e]; exact h2
  · rw [e]; exact h3
/-- a word by its place in its run of the tables -/
theorem lw_at {r : List Cond} (hr : ∀ w ∈ r, w ∈ lw_tbl) {w : Cond} (i : Nat) (h : r[i]? = some w) : w ∈ lw_tbl := hr w (List.mem_of_getElem? h)
theorem lw_g {w : Cond} (h : w ∈ lw_tbl) (g : goodWord w = true) : w ∈ lw_all := List.mem_filter.mpr ⟨h, g⟩
theorem lw_ms : ∀ w ∈ k2_sels lw_privs, w ∈ lw_tbl := fun w h => show w ∈ k2_sels lw_privs ++ tables_1 from List.mem_append_left _ h
theorem lw_m0 : ∀ w ∈ tables_1, w ∈ lw_tbl := fun w h => show w ∈ k2_sels lw_privs ++ tables_1 from List.mem_append_right (k2_sels lw_privs) h
theorem qs0 : (Cond.selects "QuickestFlow" ⟨"QuickestFlow", "findWays", "()V"⟩ ⟨"QuickestFlow", "findWays", "()V"⟩) ∈ lw_all := lw_g (lw_at lw_ms 0 rfl) rfl
theorem qs1 : (Cond.selects "QuickestFlow" ⟨"QuickestFlow", "findQuickest", "()V"⟩ ⟨"QuickestFlow", "findQuickest", "()V"⟩) ∈ lw_all := lw_g (lw_at lw_ms 1 rfl) rfl
theorem qs2 : (Cond.selects "QuickestFlow" ⟨"QuickestFlow", "relax", "(IZ)Z"⟩ ⟨"QuickestFlow", "relax", "(IZ)Z"⟩) ∈ lw_all := lw_g (lw_at lw_ms 2 rfl) rfl
theorem qs3 : (Cond.selects "QuickestFlow" ⟨"QuickestFlow", "roomOfWay", "()I"⟩ ⟨"QuickestFlow", "roomOfWay", "()I"⟩) ∈ lw_all := lw_g (lw_at lw_ms 3 rfl) rfl
theorem qs4 : (Cond.selects "QuickestFlow" ⟨"QuickestFlow", "send", "(I)V"⟩ ⟨"QuickestFlow", "send", "(I)V"⟩) ∈ lw_all := lw_g (lw_at lw_ms 4 rfl) rfl
theorem qs5 : (Cond.selects "QuickestFlow" ⟨"QuickestFlow", "sumFor", "(I)I"⟩ ⟨"QuickestFlow", "sumFor", "(I)I"⟩) ∈ lw_all := lw_g (lw_at lw_ms 5 rfl) rfl
theorem qs6 : (Cond.selects "QuickestFlowModel" ⟨"QuickestFlowModel", "flow", "(IZ)I"⟩ ⟨"QuickestFlowModel", "flow", "(IZ)I"⟩) ∈ lw_all := lw_g (lw_at lw_ms 6 rfl) rfl
theorem qs7 : (Cond.selects "QuickestFlowModel" ⟨"QuickestFlowModel", "build", "(IZ)V"⟩ ⟨"QuickestFlowModel", "build", "(IZ)V"⟩) ∈ lw_all := lw_g (lw_at lw_ms 7 rfl) rfl
theorem qs8 : (Cond.selects "QuickestFlowModel" ⟨"QuickestFlowModel", "edge", "(III)V"⟩ ⟨"QuickestFlowModel", "edge", "(III)V"⟩) ∈ lw_all := lw_g (lw_at lw_ms 8 rfl) rfl
theorem qs9 : (Cond.selects "QuickestFlowModel" ⟨"QuickestFlowModel", "search", "(I)Z"⟩ ⟨"QuickestFlowModel", "search", "(I)Z"⟩) ∈ lw_all := lw_g (lw_at lw_ms 9 rfl) rfl
theorem qs10 : (Cond.selects "QuickestFlowModel" ⟨"QuickestFlowModel", "send", "(I)V"⟩ ⟨"QuickestFlowModel", "send", "(I)V"⟩) ∈ lw_all := lw_g (lw_at lw_ms 10 rfl) rfl
end
section
/-! QuickestFlow -/
set_option maxRecDepth 100000
def RX0 : String := "QuickestFlow"
def TX0 : u_T := fun k => match k with
  | 0 => ("QuickestFlow", "lines", "I", false)
  | 1 => ("QuickestFlow", "from", "[I", true)
  | 2 => ("QuickestFlow", "to", "[I", true)
  | 3 => ("QuickestFlow", "width", "[I", true)
  | 4 => ("QuickestFlow", "time", "[I", true)
  | 5 => ("QuickestFlow", "flow", "[I", true)
  | 6 => ("QuickestFlow", "quick", "[I", true)
  | 7 => ("QuickestFlow", "reached", "[Z", true)
  | 8 => ("QuickestFlow", "lastLine", "[I", true)
  | 9 => ("QuickestFlow", "ways", "I", false)
  | 10 => ("QuickestFlow", "wayTime", "[I", true)
  | _ => ("QuickestFlow", "wayAmount", "[I", true)
def tyX0 : Nat → FieldType := fun k => match k with
  | 0 => .int
  | 1 => .array .int
  | 2 => .array .int
  | 3 => .array .int
  | 4 => .array .int
  | 5 => .array .int
  | 6 => .array .int
  | 7 => .array .boolean
  | 8 => .array .int
  | 9 => .int
  | 10 => .array .int
  | _ => .array .int
abbrev wsX00 : List Cond := u_ws RX0 TX0 12
theorem nmX0 : ∀ a, a < 12 → ∀ b, b < 12 → a ≠ b → (TX0 a).2.1 ≠ (TX0 b).2.1 := by decide +kernel
theorem tyX0_ok : ∀ k, k < 12 → parseFieldDescriptor (TX0 k).2.2.1 = some (tyX0 k) := by decide +kernel
abbrev cX0_init : ByteArray := prog_1_method_1_code
def yX0_init : MethodName := ⟨RX0, "<init>", "()V"⟩
abbrev cX0_add : ByteArray := prog_1_method_2_code
def yX0_add : MethodName := ⟨RX0, "add", "(IIII)I"⟩
abbrev cX0_drop : ByteArray := prog_1_method_3_code
def yX0_drop : MethodName := ⟨RX0, "drop", "(I)I"⟩
abbrev cX0_arrived : ByteArray := prog_1_method_4_code
def yX0_arrived : MethodName := ⟨RX0, "arrived", "(I)I"⟩
abbrev cX0_findWays : ByteArray := prog_1_method_10_code
def yX0_findWays : MethodName := ⟨RX0, "findWays", "()V"⟩
abbrev cX0_findQuickest : ByteArray := prog_1_method_11_code
def yX0_findQuickest : MethodName := ⟨RX0, "findQuickest", "()V"⟩
abbrev cX0_relax : ByteArray := prog_1_method_12_code
def yX0_relax : MethodName := ⟨RX0, "relax", "(IZ)Z"⟩
abbrev cX0_roomOfWay : ByteArray := prog_1_method_13_code
def yX0_roomOfWay : MethodName := ⟨RX0, "roomOfWay", "()I"⟩
abbrev cX0_send : ByteArray := prog_1_method_14_code
def yX0_send : MethodName := ⟨RX0, "send", "(I)V"⟩
abbrev cX0_sumFor : ByteArray := prog_1_method_9_code
def yX0_sumFor : MethodName := ⟨RX0, "sumFor", "(I)I"⟩
abbrev cX0_quickest : ByteArray := prog_1_method_5_code
def yX0_quickest : MethodName := ⟨RX0, "quickest", "(I)I"⟩
abbrev cX0_first : ByteArray := prog_1_method_6_code
def yX0_first : MethodName := ⟨RX0, "first", "()I"⟩
abbrev cX0_gain : ByteArray := prog_1_method_7_code
def yX0_gain : MethodName := ⟨RX0, "gain", "(II)I"⟩
abbrev cX0_steady : ByteArray := prog_1_method_8_code
def yX0_steady : MethodName := ⟨RX0, "steady", "()I"⟩
theorem q12 : (Jvm.Cond.initialized "QuickestFlow") ∈ lw_all := lw_g (lw_at lw_m0 1 rfl) rfl
theorem q15 : (Jvm.Cond.instantiable "QuickestFlow" (12 : Nat)) ∈ lw_all := lw_g (lw_at lw_m0 4 rfl) rfl
theorem q17 : (Jvm.Cond.instanceMethod ({ cls := "QuickestFlow", name := "<init>", desc := "()V" } : Jvm.MethodName)) ∈ lw_all := lw_g (lw_at lw_m0 6 rfl) rfl
theorem q18 : (Jvm.Cond.code ({ cls := "QuickestFlow", name := "<init>", desc := "()V" } : Jvm.MethodName) prog_1_method_1_code (1 : Nat) (Option.none : Option Jvm.ClassFile.FieldType)) ∈ lw_all := lw_g (lw_at lw_m0 7 rfl) rfl
theorem q19 : (Jvm.Cond.methodLink "QuickestFlow" (1 : Nat) ({ cls := "java/lang/Object", name := "<init>", desc := "()V" } : Jvm.MethodName)) ∈ lw_all := lw_g (lw_at lw_m0 8 rfl) rfl
theorem q22 : (Jvm.Cond.fieldLink "QuickestFlow" (41 : Nat) "QuickestFlow" "lines" "I") ∈ lw_all := lw_g (lw_at lw_m0 11 rfl) rfl
theorem q23 : (Jvm.Cond.fieldLink "QuickestFlow" (7 : Nat) "QuickestFlow" "from" "[I") ∈ lw_all := lw_g (lw_at lw_m0 12 rfl) rfl
theorem q24 : (Jvm.Cond.fieldLink "QuickestFlow" (13 : Nat) "QuickestFlow" "to" "[I") ∈ lw_all := lw_g (lw_at lw_m0 13 rfl) rfl
theorem q25 : (Jvm.Cond.fieldLink "QuickestFlow" (16 : Nat) "QuickestFlow" "width" "[I") ∈ lw_all := lw_g (lw_at lw_m0 14 rfl) rfl
theorem q26 : (Jvm.Cond.fieldLink "QuickestFlow" (19 : Nat) "QuickestFlow" "time" "[I") ∈ lw_all := lw_g (lw_at lw_m0 15 rfl) rfl
theorem q27 : (Jvm.Cond.fieldLink "QuickestFlow" (22 : Nat) "QuickestFlow" "flow" "[I") ∈ lw_all := lw_g (lw_at lw_m0 16 rfl) rfl
theorem q28 : (Jvm.Cond.fieldLink "QuickestFlow" (25 : Nat) "QuickestFlow" "quick" "[I") ∈ lw_all := lw_g (lw_at lw_m0 17 rfl) rfl
theorem q29 : (Jvm.Cond.fieldLink "QuickestFlow" (28 : Nat) "QuickestFlow" "reached" "[Z") ∈ lw_all := lw_g (lw_at lw_m0 18 rfl) rfl
theorem q30 : (Jvm.Cond.fieldLink "QuickestFlow" (32 : Nat) "QuickestFlow" "lastLine" "[I") ∈ lw_all := lw_g (lw_at lw_m0 19 rfl) rfl
theorem q31 : (Jvm.Cond.fieldLink "QuickestFlow" (52 : Nat) "QuickestFlow" "ways" "I") ∈ lw_all := lw_g (lw_at lw_m0 20 rfl) rfl
theorem q32 : (Jvm.Cond.fieldLink "QuickestFlow" (35 : Nat) "QuickestFlow" "wayTime" "[I") ∈ lw_all := lw_g (lw_at lw_m0 21 rfl) rfl
theorem q33 : (Jvm.Cond.fieldLink "QuickestFlow" (38 : Nat) "QuickestFlow" "wayAmount" "[I") ∈ lw_all := lw_g (lw_at lw_m0 22 rfl) rfl
theorem q34 : (Jvm.Cond.lays "QuickestFlow" "QuickestFlow" "lines" "I") ∈ lw_all := lw_g (lw_at lw_m0 23 rfl) rfl
theorem q35 : (Jvm.Cond.soleField "QuickestFlow" "lines") ∈ lw_all := lw_g (lw_at lw_m0 24 rfl) rfl
theorem q36 : (Jvm.Cond.laysFinal "QuickestFlow" "QuickestFlow" "from" "[I") ∈ lw_all := lw_g (lw_at lw_m0 25 rfl) rfl
theorem q37 : (Jvm.Cond.soleField "QuickestFlow" "from") ∈ lw_all := lw_g (lw_at lw_m0 26 rfl) rfl
theorem q38 : (Jvm.Cond.laysFinal "QuickestFlow" "QuickestFlow" "to" "[I") ∈ lw_all := lw_g (lw_at lw_m0 27 rfl) rfl
theorem q39 : (Jvm.Cond.soleField "QuickestFlow" "to") ∈ lw_all := lw_g (lw_at lw_m0 28 rfl) rfl
theorem q40 : (Jvm.Cond.laysFinal "QuickestFlow" "QuickestFlow" "width" "[I") ∈ lw_all := lw_g (lw_at lw_m0 29 rfl) rfl
theorem q41 : (Jvm.Cond.soleField "QuickestFlow" "width") ∈ lw_all := lw_g (lw_at lw_m0 30 rfl) rfl
theorem q42 : (Jvm.Cond.laysFinal "QuickestFlow" "QuickestFlow" "time" "[I") ∈ lw_all := lw_g (lw_at lw_m0 31 rfl) rfl
theorem q43 : (Jvm.Cond.soleField "QuickestFlow" "time") ∈ lw_all := lw_g (lw_at lw_m0 32 rfl) rfl
theorem q44 : (Jvm.Cond.laysFinal "QuickestFlow" "QuickestFlow" "flow" "[I") ∈ lw_all := lw_g (lw_at lw_m0 33 rfl) rfl
theorem q45 : (Jvm.Cond.soleField "QuickestFlow" "flow") ∈ lw_all := lw_g (lw_at lw_m0 34 rfl) rfl
theorem q46 : (Jvm.Cond.laysFinal "QuickestFlow" "QuickestFlow" "quick" "[I") ∈ lw_all := lw_g (lw_at lw_m0 35 rfl) rfl
theorem q47 : (Jvm.Cond.soleField "QuickestFlow" "quick") ∈ lw_all := lw_g (lw_at lw_m0 36 rfl) rfl
theorem q48 : (Jvm.Cond.laysFinal "QuickestFlow" "QuickestFlow" "reached" "[Z") ∈ lw_all := lw_g (lw_at lw_m0 37 rfl) rfl
theorem q49 : (Jvm.Cond.soleField "QuickestFlow" "reached") ∈ lw_all := lw_g (lw_at lw_m0 38 rfl) rfl
theorem q50 : (Jvm.Cond.laysFinal "QuickestFlow" "QuickestFlow" "lastLine" "[I") ∈ lw_all := lw_g (lw_at lw_m0 39 rfl) rfl
theorem q51 : (Jvm.Cond.soleField "QuickestFlow" "lastLine") ∈ lw_all := lw_g (lw_at lw_m0 40 rfl) rfl
theorem q52 : (Jvm.Cond.lays "QuickestFlow" "QuickestFlow" "ways" "I") ∈ lw_all := lw_g (lw_at lw_m0 41 rfl) rfl
theorem q53 : (Jvm.Cond.soleField "QuickestFlow" "ways") ∈ lw_all := lw_g (lw_at lw_m0 42 rfl) rfl
theorem q54 : (Jvm.Cond.laysFinal "QuickestFlow" "QuickestFlow" "wayTime" "[I") ∈ lw_all := lw_g (lw_at lw_m0 43 rfl) rfl
theorem q55 : (Jvm.Cond.soleField "QuickestFlow" "wayTime") ∈ lw_all := lw_g (lw_at lw_m0 44 rfl) rfl
theorem q56 : (Jvm.Cond.laysFinal "QuickestFlow" "QuickestFlow" "wayAmount" "[I") ∈ lw_all := lw_g (lw_at lw_m0 45 rfl) rfl
theorem q57 : (Jvm.Cond.soleField "QuickestFlow" "wayAmount") ∈ lw_all := lw_g (lw_at lw_m0 46 rfl) rfl
theorem q58 : (Jvm.Cond.superclass "QuickestFlow" "java/lang/Object") ∈ lw_all := lw_g (lw_at lw_m0 47 rfl) rfl
theorem q62 : (Jvm.Cond.instanceMethod ({ cls := "QuickestFlow", name := "add", desc := "(IIII)I" } : Jvm.MethodName)) ∈ lw_all := lw_g (lw_at lw_m0 51 rfl) rfl
theorem q63 : (Jvm.Cond.selects "QuickestFlow" ({ cls := "QuickestFlow", name := "add", desc := "(IIII)I" } : Jvm.MethodName) ({ cls := "QuickestFlow", name := "add", desc := "(IIII)I" } : Jvm.MethodName)) ∈ lw_all := lw_g (lw_at lw_m0 52 rfl) rfl
theorem q64 : (Jvm.Cond.code ({ cls := "QuickestFlow", name := "add", desc := "(IIII)I" } : Jvm.MethodName) prog_1_method_2_code (6 : Nat) (Option.some Jvm.ClassFile.FieldType.int)) ∈ lw_all := lw_g (lw_at lw_m0 53 rfl) rfl
theorem q66 : (Jvm.Cond.instanceMethod ({ cls := "QuickestFlow", name := "drop", desc := "(I)I" } : Jvm.MethodName)) ∈ lw_all := lw_g (lw_at lw_m0 55 rfl) rfl
theorem q67 : (Jvm.Cond.selects "QuickestFlow" ({ cls := "QuickestFlow", name := "drop", desc := "(I)I" } : Jvm.MethodName) ({ cls := "QuickestFlow", name := "drop", desc := "(I)I" } : Jvm.MethodName)) ∈ lw_all := lw_g (lw_at lw_m0 56 rfl) rfl
theorem q68 : (Jvm.Cond.code ({ cls := "QuickestFlow", name := "drop", desc := "(I)I" } : Jvm.MethodName) prog_1_method_3_code (3 : Nat) (Option.some Jvm.ClassFile.FieldType.int)) ∈ lw_all := lw_g (lw_at lw_m0 57 rfl) rfl
theorem q70 : (Jvm.Cond.instanceMethod ({ cls := "QuickestFlow", name := "arrived", desc := "(I)I" } : Jvm.MethodName)) ∈ lw_all := lw_g (lw_at lw_m0 59 rfl) rfl
theorem q71 : (Jvm.Cond.selects "QuickestFlow" ({ cls := "QuickestFlow", name := "arrived", desc := "(I)I" } : Jvm.MethodName) ({ cls := "QuickestFlow", name := "arrived", desc := "(I)I" } : Jvm.MethodName)) ∈ lw_all := lw_g (lw_at lw_m0 60 rfl) rfl
theorem q72 : (Jvm.Cond.code ({ cls := "QuickestFlow", name := "arrived", desc := "(I)I" } : Jvm.MethodName) prog_1_method_4_code (2 : Nat) (Option.some Jvm.ClassFile.FieldType.int)) ∈ lw_all := lw_g (lw_at lw_m0 61 rfl) rfl
theorem q73 : (Jvm.Cond.methodLink "QuickestFlow" (45 : Nat) ({ cls := "QuickestFlow", name := "findWays", desc := "()V" } : Jvm.MethodName)) ∈ lw_all := lw_g (lw_at lw_m0 62 rfl) rfl
theorem q74 : (Jvm.Cond.privateMethod ({ cls := "QuickestFlow", name := "findWays", desc := "()V" } : Jvm.MethodName)) ∈ lw_tbl := lw_at lw_m0 63 rfl
theorem q75 : (Jvm.Cond.instanceMethod ({ cls := "QuickestFlow", name := "findWays", desc := "()V" } : Jvm.MethodName)) ∈ lw_all := lw_g (lw_at lw_m0 64 rfl) rfl
theorem q76 : (Jvm.Cond.code ({ cls := "QuickestFlow", name := "findWays", desc := "()V" } : Jvm.MethodName) prog_1_method_10_code (4 : Nat) (Option.none : Option Jvm.ClassFile.FieldType)) ∈ lw_all := lw_g (lw_at lw_m0 65 rfl) rfl
theorem q77 : (Jvm.Cond.methodLink "QuickestFlow" (55 : Nat) ({ cls := "QuickestFlow", name := "findQuickest", desc := "()V" } : Jvm.MethodName)) ∈ lw_all := lw_g (lw_at lw_m0 66 rfl) rfl
theorem q78 : (Jvm.Cond.privateMethod ({ cls := "QuickestFlow", name := "findQuickest", desc := "()V" } : Jvm.MethodName)) ∈ lw_tbl := lw_at lw_m0 67 rfl
theorem q79 : (Jvm.Cond.instanceMethod ({ cls := "QuickestFlow", name := "findQuickest", desc := "()V" } : Jvm.MethodName)) ∈ lw_all := lw_g (lw_at lw_m0 68 rfl) rfl
theorem q80 : (Jvm.Cond.code ({ cls := "QuickestFlow", name := "findQuickest", desc := "()V" } : Jvm.MethodName) prog_1_method_11_code (4 : Nat) (Option.none : Option Jvm.ClassFile.FieldType)) ∈ lw_all := lw_g (lw_at lw_m0 69 rfl) rfl
theorem q81 : (Jvm.Cond.methodLink "QuickestFlow" (66 : Nat) ({ cls := "QuickestFlow", name := "relax", desc := "(IZ)Z" } : Jvm.MethodName)) ∈ lw_all := lw_g (lw_at lw_m0 70 rfl) rfl
theorem q82 : (Jvm.Cond.privateMethod ({ cls := "QuickestFlow", name := "relax", desc := "(IZ)Z" } : Jvm.MethodName)) ∈ lw_tbl := lw_at lw_m0 71 rfl
theorem q83 : (Jvm.Cond.instanceMethod ({ cls := "QuickestFlow", name := "relax", desc := "(IZ)Z" } : Jvm.MethodName)) ∈ lw_all := lw_g (lw_at lw_m0 72 rfl) rfl
theorem q84 : (Jvm.Cond.code ({ cls := "QuickestFlow", name := "relax", desc := "(IZ)Z" } : Jvm.MethodName) prog_1_method_12_code (7 : Nat) (Option.some Jvm.ClassFile.FieldType.boolean)) ∈ lw_all := lw_g (lw_at lw_m0 73 rfl) rfl
theorem q85 : (Jvm.Cond.methodLink "QuickestFlow" (58 : Nat) ({ cls := "QuickestFlow", name := "roomOfWay", desc := "()I" } : Jvm.MethodName)) ∈ lw_all := lw_g (lw_at lw_m0 74 rfl) rfl
theorem q86 : (Jvm.Cond.privateMethod ({ cls := "QuickestFlow", name := "roomOfWay", desc := "()I" } : Jvm.MethodName)) ∈ lw_tbl := lw_at lw_m0 75 rfl
theorem q87 : (Jvm.Cond.instanceMethod ({ cls := "QuickestFlow", name := "roomOfWay", desc := "()I" } : Jvm.MethodName)) ∈ lw_all := lw_g (lw_at lw_m0 76 rfl) rfl
theorem q88 : (Jvm.Cond.code ({ cls := "QuickestFlow", name := "roomOfWay", desc := "()I" } : Jvm.MethodName) prog_1_method_13_code (7 : Nat) (Option.some Jvm.ClassFile.FieldType.int)) ∈ lw_all := lw_g (lw_at lw_m0 77 rfl) rfl
theorem q89 : (Jvm.Cond.methodLink "QuickestFlow" (62 : Nat) ({ cls := "QuickestFlow", name := "send", desc := "(I)V" } : Jvm.MethodName)) ∈ lw_all := lw_g (lw_at lw_m0 78 rfl) rfl
theorem q90 : (Jvm.Cond.privateMethod ({ cls := "QuickestFlow", name := "send", desc := "(I)V" } : Jvm.MethodName)) ∈ lw_tbl := lw_at lw_m0 79 rfl
theorem q91 : (Jvm.Cond.instanceMethod ({ cls := "QuickestFlow", name := "send", desc := "(I)V" } : Jvm.MethodName)) ∈ lw_all := lw_g (lw_at lw_m0 80 rfl) rfl
theorem q92 : (Jvm.Cond.code ({ cls := "QuickestFlow", name := "send", desc := "(I)V" } : Jvm.MethodName) prog_1_method_14_code (6 : Nat) (Option.none : Option Jvm.ClassFile.FieldType)) ∈ lw_all := lw_g (lw_at lw_m0 81 rfl) rfl
theorem q93 : (Jvm.Cond.methodLink "QuickestFlow" (48 : Nat) ({ cls := "QuickestFlow", name := "sumFor", desc := "(I)I" } : Jvm.MethodName)) ∈ lw_all := lw_g (lw_at lw_m0 82 rfl) rfl
theorem q94 : (Jvm.Cond.privateMethod ({ cls := "QuickestFlow", name := "sumFor", desc := "(I)I" } : Jvm.MethodName)) ∈ lw_tbl := lw_at lw_m0 83 rfl
theorem q95 : (Jvm.Cond.instanceMethod ({ cls := "QuickestFlow", name := "sumFor", desc := "(I)I" } : Jvm.MethodName)) ∈ lw_all := lw_g (lw_at lw_m0 84 rfl) rfl
theorem q96 : (Jvm.Cond.code ({ cls := "QuickestFlow", name := "sumFor", desc := "(I)I" } : Jvm.MethodName) prog_1_method_9_code (4 : Nat) (Option.some Jvm.ClassFile.FieldType.int)) ∈ lw_all := lw_g (lw_at lw_m0 85 rfl) rfl
theorem q98 : (Jvm.Cond.instanceMethod ({ cls := "QuickestFlow", name := "quickest", desc := "(I)I" } : Jvm.MethodName)) ∈ lw_all := lw_g (lw_at lw_m0 87 rfl) rfl
theorem q99 : (Jvm.Cond.selects "QuickestFlow" ({ cls := "QuickestFlow", name := "quickest", desc := "(I)I" } : Jvm.MethodName) ({ cls := "QuickestFlow", name := "quickest", desc := "(I)I" } : Jvm.MethodName)) ∈ lw_all := lw_g (lw_at lw_m0 88 rfl) rfl
theorem q100 : (Jvm.Cond.code ({ cls := "QuickestFlow", name := "quickest", desc := "(I)I" } : Jvm.MethodName) prog_1_method_5_code (4 : Nat) (Option.some Jvm.ClassFile.FieldType.int)) ∈ lw_all := lw_g (lw_at lw_m0 89 rfl) rfl
theorem q102 : (Jvm.Cond.instanceMethod ({ cls := "QuickestFlow", name := "first", desc := "()I" } : Jvm.MethodName)) ∈ lw_all := lw_g (lw_at lw_m0 91 rfl) rfl
theorem q103 : (Jvm.Cond.selects "QuickestFlow" ({ cls := "QuickestFlow", name := "first", desc := "()I" } : Jvm.MethodName) ({ cls := "QuickestFlow", name := "first", desc := "()I" } : Jvm.MethodName)) ∈ lw_all := lw_g (lw_at lw_m0 92 rfl) rfl
theorem q104 : (Jvm.Cond.code ({ cls := "QuickestFlow", name := "first", desc := "()I" } : Jvm.MethodName) prog_1_method_6_code (1 : Nat) (Option.some Jvm.ClassFile.FieldType.int)) ∈ lw_all := lw_g (lw_at lw_m0 93 rfl) rfl
theorem q106 : (Jvm.Cond.instanceMethod ({ cls := "QuickestFlow", name := "gain", desc := "(II)I" } : Jvm.MethodName)) ∈ lw_all := lw_g (lw_at lw_m0 95 rfl) rfl
theorem q107 : (Jvm.Cond.selects "QuickestFlow" ({ cls := "QuickestFlow", name := "gain", desc := "(II)I" } : Jvm.MethodName) ({ cls := "QuickestFlow", name := "gain", desc := "(II)I" } : Jvm.MethodName)) ∈ lw_all := lw_g (lw_at lw_m0 96 rfl) rfl
theorem q108 : (Jvm.Cond.code ({ cls := "QuickestFlow", name := "gain", desc := "(II)I" } : Jvm.MethodName) prog_1_method_7_code (5 : Nat) (Option.some Jvm.ClassFile.FieldType.int)) ∈ lw_all := lw_g (lw_at lw_m0 97 rfl) rfl
theorem q110 : (Jvm.Cond.instanceMethod ({ cls := "QuickestFlow", name := "steady", desc := "()I" } : Jvm.MethodName)) ∈ lw_all := lw_g (lw_at lw_m0 99 rfl) rfl
theorem q111 : (Jvm.Cond.selects "QuickestFlow" ({ cls := "QuickestFlow", name := "steady", desc := "()I" } : Jvm.MethodName) ({ cls := "QuickestFlow", name := "steady", desc := "()I" } : Jvm.MethodName)) ∈ lw_all := lw_g (lw_at lw_m0 100 rfl) rfl
theorem q112 : (Jvm.Cond.code ({ cls := "QuickestFlow", name := "steady", desc := "()I" } : Jvm.MethodName) prog_1_method_8_code (3 : Nat) (Option.some Jvm.ClassFile.FieldType.int)) ∈ lw_all := lw_g (lw_at lw_m0 101 rfl) rfl
theorem in_X0 : ∀ w ∈ wsX00, w ∈ lw_all := lw_in wsX00 [34, 36, 38, 40, 42, 44, 46, 48, 50, 52, 54, 56] (by decide +kernel) (by decide +kernel)
end
section
set_option maxRecDepth 100000
theorem dX0_init_0 : decode cX0_init 0 = .ok (.aload_n 0, 1) := by decide +kernel
theorem dX0_init_1 : decode cX0_init 1 = .ok (.invokespecial 1, 3) := by decide +kernel
theorem dX0_init_4 : decode cX0_init 4 = .ok (.aload_n 0, 1) := by decide +kernel
theorem dX0_init_5 : decode cX0_init 5 = .ok (.bipush 8, 2) := by decide +kernel
theorem dX0_init_7 : decode cX0_init 7 = .ok (.newarray .int, 2) := by decide +kernel
theorem dX0_init_9 : decode cX0_init 9 = .ok (.putfield 7, 3) := by decide +kernel
theorem dX0_init_12 : decode cX0_init 12 = .ok (.aload_n 0, 1) := by decide +kernel
theorem dX0_init_13 : decode cX0_init 13 = .ok (.bipush 8, 2) := by decide +kernel
theorem dX0_init_15 : decode cX0_init 15 = .ok (.newarray .int, 2) := by decide +kernel
theorem dX0_init_17 : decode cX0_init 17 = .ok (.putfield 13, 3) := by decide +kernel
theorem dX0_init_20 : decode cX0_init 20 = .ok (.aload_n 0, 1) := by decide +kernel
theorem dX0_init_21 : decode cX0_init 21 = .ok (.bipush 8, 2) := by decide +kernel
theorem dX0_init_23 : decode cX0_init 23 = .ok (.newarray .int, 2) := by decide +kernel
theorem dX0_init_25 : decode cX0_init 25 = .ok (.putfield 16, 3) := by decide +kernel
theorem dX0_init_28 : decode cX0_init 28 = .ok (.aload_n 0, 1) := by decide +kernel
theorem dX0_init_29 : decode cX0_init 29 = .ok (.bipush 8, 2) := by decide +kernel
theorem dX0_init_31 : decode cX0_init 31 = .ok (.newarray .int, 2) := by decide +kernel
theorem dX0_init_33 : decode cX0_init 33 = .ok (.putfield 19, 3) := by decide +kernel
theorem dX0_init_36 : decode cX0_init 36 = .ok (.aload_n 0, 1) := by decide +kernel
theorem dX0_init_37 : decode cX0_init 37 = .ok (.bipush 8, 2) := by decide +kernel
theorem dX0_init_39 : decode cX0_init 39 = .ok (.newarray .int, 2) := by decide +kernel
theorem dX0_init_41 : decode cX0_init 41 = .ok (.putfield 22, 3) := by decide +kernel
theorem dX0_init_44 : decode cX0_init 44 = .ok (.aload_n 0, 1) := by decide +kernel
theorem dX0_init_45 : decode cX0_init 45 = .ok (.iconst 5, 1) := by decide +kernel
theorem dX0_init_46 : decode cX0_init 46 = .ok (.newarray .int, 2) := by decide +kernel
theorem dX0_init_48 : decode cX0_init 48 = .ok (.putfield 25, 3) := by decide +kernel
theorem dX0_init_51 : decode cX0_init 51 = .ok (.aload_n 0, 1) := by decide +kernel
theorem dX0_init_52 : decode cX0_init 52 = .ok (.iconst 5, 1) := by decide +kernel
theorem dX0_init_53 : decode cX0_init 53 = .ok (.newarray .boolean, 2) := by decide +kernel
theorem dX0_init_55 : decode cX0_init 55 = .ok (.putfield 28, 3) := by decide +kernel
theorem dX0_init_58 : decode cX0_init 58 = .ok (.aload_n 0, 1) := by decide +kernel
theorem dX0_init_59 : decode cX0_init 59 = .ok (.iconst 5, 1) := by decide +kernel
theorem dX0_init_60 : decode cX0_init 60 = .ok (.newarray .int, 2) := by decide +kernel
theorem dX0_init_62 : decode cX0_init 62 = .ok (.putfield 32, 3) := by decide +kernel
theorem dX0_init_65 : decode cX0_init 65 = .ok (.aload_n 0, 1) := by decide +kernel
theorem dX0_init_66 : decode cX0_init 66 = .ok (.bipush 40, 2) := by decide +kernel
theorem dX0_init_68 : decode cX0_init 68 = .ok (.newarray .int, 2) := by decide +kernel
theorem dX0_init_70 : decode cX0_init 70 = .ok (.putfield 35, 3) := by decide +kernel
theorem dX0_init_73 : decode cX0_init 73 = .ok (.aload_n 0, 1) := by decide +kernel
theorem dX0_init_74 : decode cX0_init 74 = .ok (.bipush 40, 2) := by decide +kernel
theorem dX0_init_76 : decode cX0_init 76 = .ok (.newarray .int, 2) := by decide +kernel
theorem dX0_init_78 : decode cX0_init 78 = .ok (.putfield 38, 3) := by decide +kernel
theorem dX0_init_81 : decode cX0_init 81 = .ok (.return_, 1) := by decide +kernel
theorem dX0_add_0 : decode cX0_add 0 = .ok (.iload_n 1, 1) := by decide +kernel
theorem dX0_add_1 : decode cX0_add 1 = .ok (.ifCond .lt 26, 3) := by decide +kernel
theorem dX0_add_4 : decode cX0_add 4 = .ok (.iload_n 1, 1) := by decide +kernel
theorem dX0_add_5 : decode cX0_add 5 = .ok (.iconst 4, 1) := by decide +kernel
theorem dX0_add_6 : decode cX0_add 6 = .ok (.if_icmp .gt 21, 3) := by decide +kernel
theorem dX0_add_9 : decode cX0_add 9 = .ok (.iload_n 2, 1) := by decide +kernel
theorem dX0_add_10 : decode cX0_add 10 = .ok (.ifCond .lt 17, 3) := by decide +kernel
theorem dX0_add_13 : decode cX0_add 13 = .ok (.iload_n 2, 1) := by decide +kernel
theorem dX0_add_14 : decode cX0_add 14 = .ok (.iconst 4, 1) := by decide +kernel
theorem dX0_add_15 : decode cX0_add 15 = .ok (.if_icmp .gt 12, 3) := by decide +kernel
theorem dX0_add_18 : decode cX0_add 18 = .ok (.iload_n 1, 1) := by decide +kernel
theorem dX0_add_19 : decode cX0_add 19 = .ok (.iload_n 2, 1) := by decide +kernel
theorem dX0_add_20 : decode cX0_add 20 = .ok (.if_icmp .eq 7, 3) := by decide +kernel
theorem dX0_add_23 : decode cX0_add 23 = .ok (.iconst 1, 1) := by decide +kernel
theorem dX0_add_24 : decode cX0_add 24 = .ok (.goto 4, 3) := by decide +kernel
theorem dX0_add_27 : decode cX0_add 27 = .ok (.iconst 0, 1) := by decide +kernel
theorem dX0_add_28 : decode cX0_add 28 = .ok (.istore 5, 2) := by decide +kernel
theorem dX0_add_30 : decode cX0_add 30 = .ok (.aload_n 0, 1) := by decide +kernel
theorem dX0_add_31 : decode cX0_add 31 = .ok (.getfield 41, 3) := by decide +kernel
theorem dX0_add_34 : decode cX0_add 34 = .ok (.bipush 8, 2) := by decide +kernel
theorem dX0_add_36 : decode cX0_add 36 = .ok (.if_icmp .ge 29, 3) := by decide +kernel
theorem dX0_add_39 : decode cX0_add 39 = .ok (.iload 5, 2) := by decide +kernel
theorem dX0_add_41 : decode cX0_add 41 = .ok (.ifCond .eq 24, 3) := by decide +kernel
theorem dX0_add_44 : decode cX0_add 44 = .ok (.iload_n 3, 1) := by decide +kernel
theorem dX0_add_45 : decode cX0_add 45 = .ok (.iconst 1, 1) := by decide +kernel
theorem dX0_add_46 : decode cX0_add 46 = .ok (.if_icmp .lt 19, 3) := by decide +kernel
theorem dX0_add_49 : decode cX0_add 49 = .ok (.iload_n 3, 1) := by decide +kernel
theorem dX0_add_50 : decode cX0_add 50 = .ok (.iconst 4, 1) := by decide +kernel
theorem dX0_add_51 : decode cX0_add 51 = .ok (.if_icmp .gt 14, 3) := by decide +kernel
theorem dX0_add_54 : decode cX0_add 54 = .ok (.iload 4, 2) := by decide +kernel
theorem dX0_add_56 : decode cX0_add 56 = .ok (.ifCond .lt 9, 3) := by decide +kernel
theorem dX0_add_59 : decode cX0_add 59 = .ok (.iload 4, 2) := by decide +kernel
theorem dX0_add_61 : decode cX0_add 61 = .ok (.iconst 3, 1) := by decide +kernel
theorem dX0_add_62 : decode cX0_add 62 = .ok (.if_icmp .le 5, 3) := by decide +kernel
theorem dX0_add_65 : decode cX0_add 65 = .ok (.iconst (-1), 1) := by decide +kernel
theorem dX0_add_66 : decode cX0_add 66 = .ok (.ireturn, 1) := by decide +kernel
theorem dX0_add_67 : decode cX0_add 67 = .ok (.aload_n 0, 1) := by decide +kernel
theorem dX0_add_68 : decode cX0_add 68 = .ok (.getfield 7, 3) := by decide +kernel
theorem dX0_add_71 : decode cX0_add 71 = .ok (.aload_n 0, 1) := by decide +kernel
theorem dX0_add_72 : decode cX0_add 72 = .ok (.getfield 41, 3) := by decide +kernel
theorem dX0_add_75 : decode cX0_add 75 = .ok (.iload_n 1, 1) := by decide +kernel
theorem dX0_add_76 : decode cX0_add 76 = .ok (.iastore, 1) := by decide +kernel
theorem dX0_add_77 : decode cX0_add 77 = .ok (.aload_n 0, 1) := by decide +kernel
theorem dX0_add_78 : decode cX0_add 78 = .ok (.getfield 13, 3) := by decide +kernel
theorem dX0_add_81 : decode cX0_add 81 = .ok (.aload_n 0, 1) := by decide +kernel
theorem dX0_add_82 : decode cX0_add 82 = .ok (.getfield 41, 3) := by decide +kernel
theorem dX0_add_85 : decode cX0_add 85 = .ok (.iload_n 2, 1) := by decide +kernel
theorem dX0_add_86 : decode cX0_add 86 = .ok (.iastore, 1) := by decide +kernel
theorem dX0_add_87 : decode cX0_add 87 = .ok (.aload_n 0, 1) := by decide +kernel
theorem dX0_add_88 : decode cX0_add 88 = .ok (.getfield 16, 3) := by decide +kernel
theorem dX0_add_91 : decode cX0_add 91 = .ok (.aload_n 0, 1) := by decide +kernel
theorem dX0_add_92 : decode cX0_add 92 = .ok (.getfield 41, 3) := by decide +kernel
theorem dX0_add_95 : decode cX0_add 95 = .ok (.iload_n 3, 1) := by decide +kernel
theorem dX0_add_96 : decode cX0_add 96 = .ok (.iastore, 1) := by decide +kernel
theorem dX0_add_97 : decode cX0_add 97 = .ok (.aload_n 0, 1) := by decide +kernel
theorem dX0_add_98 : decode cX0_add 98 = .ok (.getfield 19, 3) := by decide +kernel
theorem dX0_add_101 : decode cX0_add 101 = .ok (.aload_n 0, 1) := by decide +kernel
theorem dX0_add_102 : decode cX0_add 102 = .ok (.getfield 41, 3) := by decide +kernel
theorem dX0_add_105 : decode cX0_add 105 = .ok (.iload 4, 2) := by decide +kernel
theorem dX0_add_107 : decode cX0_add 107 = .ok (.iastore, 1) := by decide +kernel
theorem dX0_add_108 : decode cX0_add 108 = .ok (.aload_n 0, 1) := by decide +kernel
theorem dX0_add_109 : decode cX0_add 109 = .ok (.dup, 1) := by decide +kernel
theorem dX0_add_110 : decode cX0_add 110 = .ok (.getfield 41, 3) := by decide +kernel
theorem dX0_add_113 : decode cX0_add 113 = .ok (.iconst 1, 1) := by decide +kernel
theorem dX0_add_114 : decode cX0_add 114 = .ok (.iadd, 1) := by decide +kernel
theorem dX0_add_115 : decode cX0_add 115 = .ok (.putfield 41, 3) := by decide +kernel
theorem dX0_add_118 : decode cX0_add 118 = .ok (.aload_n 0, 1) := by decide +kernel
theorem dX0_add_119 : decode cX0_add 119 = .ok (.getfield 41, 3) := by decide +kernel
theorem dX0_add_122 : decode cX0_add 122 = .ok (.ireturn, 1) := by decide +kernel
theorem dX0_drop_0 : decode cX0_drop 0 = .ok (.iload_n 1, 1) := by decide +kernel
theorem dX0_drop_1 : decode cX0_drop 1 = .ok (.ifCond .lt 11, 3) := by decide +kernel
theorem dX0_drop_4 : decode cX0_drop 4 = .ok (.iload_n 1, 1) := by decide +kernel
theorem dX0_drop_5 : decode cX0_drop 5 = .ok (.aload_n 0, 1) := by decide +kernel
theorem dX0_drop_6 : decode cX0_drop 6 = .ok (.getfield 41, 3) := by decide +kernel
theorem dX0_drop_9 : decode cX0_drop 9 = .ok (.if_icmp .lt 5, 3) := by decide +kernel
theorem dX0_drop_12 : decode cX0_drop 12 = .ok (.iconst (-1), 1) := by decide +kernel
theorem dX0_drop_13 : decode cX0_drop 13 = .ok (.ireturn, 1) := by decide +kernel
theorem dX0_drop_14 : decode cX0_drop 14 = .ok (.aload_n 0, 1) := by decide +kernel
theorem dX0_drop_15 : decode cX0_drop 15 = .ok (.dup, 1) := by decide +kernel
theorem dX0_drop_16 : decode cX0_drop 16 = .ok (.getfield 41, 3) := by decide +kernel
theorem dX0_drop_19 : decode cX0_drop 19 = .ok (.iconst 1, 1) := by decide +kernel
theorem dX0_drop_20 : decode cX0_drop 20 = .ok (.isub, 1) := by decide +kernel
theorem dX0_drop_21 : decode cX0_drop 21 = .ok (.putfield 41, 3) := by decide +kernel
theorem dX0_drop_24 : decode cX0_drop 24 = .ok (.iload_n 1, 1) := by decide +kernel
theorem dX0_drop_25 : decode cX0_drop 25 = .ok (.istore_n 2, 1) := by decide +kernel
theorem dX0_drop_26 : decode cX0_drop 26 = .ok (.iload_n 2, 1) := by decide +kernel
theorem dX0_drop_27 : decode cX0_drop 27 = .ok (.aload_n 0, 1) := by decide +kernel
theorem dX0_drop_28 : decode cX0_drop 28 = .ok (.getfield 41, 3) := by decide +kernel
theorem dX0_drop_31 : decode cX0_drop 31 = .ok (.if_icmp .ge 65, 3) := by decide +kernel
theorem dX0_drop_34 : decode cX0_drop 34 = .ok (.aload_n 0, 1) := by decide +kernel
theorem dX0_drop_35 : decode cX0_drop 35 = .ok (.getfield 7, 3) := by decide +kernel
theorem dX0_drop_38 : decode cX0_drop 38 = .ok (.iload_n 2, 1) := by decide +kernel
theorem dX0_drop_39 : decode cX0_drop 39 = .ok (.aload_n 0, 1) := by decide +kernel
theorem dX0_drop_40 : decode cX0_drop 40 = .ok (.getfield 7, 3) := by decide +kernel
theorem dX0_drop_43 : decode cX0_drop 43 = .ok (.iload_n 2, 1) := by decide +kernel
theorem dX0_drop_44 : decode cX0_drop 44 = .ok (.iconst 1, 1) := by decide +kernel
theorem dX0_drop_45 : decode cX0_drop 45 = .ok (.iadd, 1) := by decide +kernel
theorem dX0_drop_46 : decode cX0_drop 46 = .ok (.iaload, 1) := by decide +kernel
theorem dX0_drop_47 : decode cX0_drop 47 = .ok (.iastore, 1) := by decide +kernel
theorem dX0_drop_48 : decode cX0_drop 48 = .ok (.aload_n 0, 1) := by decide +kernel
theorem dX0_drop_49 : decode cX0_drop 49 = .ok (.getfield 13, 3) := by decide +kernel
theorem dX0_drop_52 : decode cX0_drop 52 = .ok (.iload_n 2, 1) := by decide +kernel
theorem dX0_drop_53 : decode cX0_drop 53 = .ok (.aload_n 0, 1) := by decide +kernel
theorem dX0_drop_54 : decode cX0_drop 54 = .ok (.getfield 13, 3) := by decide +kernel
theorem dX0_drop_57 : decode cX0_drop 57 = .ok (.iload_n 2, 1) := by decide +kernel
theorem dX0_drop_58 : decode cX0_drop 58 = .ok (.iconst 1, 1) := by decide +kernel
theorem dX0_drop_59 : decode cX0_drop 59 = .ok (.iadd, 1) := by decide +kernel
theorem dX0_drop_60 : decode cX0_drop 60 = .ok (.iaload, 1) := by decide +kernel
theorem dX0_drop_61 : decode cX0_drop 61 = .ok (.iastore, 1) := by decide +kernel
theorem dX0_drop_62 : decode cX0_drop 62 = .ok (.aload_n 0, 1) := by decide +kernel
theorem dX0_drop_63 : decode cX0_drop 63 = .ok (.getfield 16, 3) := by decide +kernel
theorem dX0_drop_66 : decode cX0_drop 66 = .ok (.iload_n 2, 1) := by decide +kernel
theorem dX0_drop_67 : decode cX0_drop 67 = .ok (.aload_n 0, 1) := by decide +kernel
theorem dX0_drop_68 : decode cX0_drop 68 = .ok (.getfield 16, 3) := by decide +kernel
theorem dX0_drop_71 : decode cX0_drop 71 = .ok (.iload_n 2, 1) := by decide +kernel
theorem dX0_drop_72 : decode cX0_drop 72 = .ok (.iconst 1, 1) := by decide +kernel
theorem dX0_drop_73 : decode cX0_drop 73 = .ok (.iadd, 1) := by decide +kernel
theorem dX0_drop_74 : decode cX0_drop 74 = .ok (.iaload, 1) := by decide +kernel
theorem dX0_drop_75 : decode cX0_drop 75 = .ok (.iastore, 1) := by decide +kernel
theorem dX0_drop_76 : decode cX0_drop 76 = .ok (.aload_n 0, 1) := by decide +kernel
theorem dX0_drop_77 : decode cX0_drop 77 = .ok (.getfield 19, 3) := by decide +kernel
theorem dX0_drop_80 : decode cX0_drop 80 = .ok (.iload_n 2, 1) := by decide +kernel
theorem dX0_drop_81 : decode cX0_drop 81 = .ok (.aload_n 0, 1) := by decide +kernel
theorem dX0_drop_82 : decode cX0_drop 82 = .ok (.getfield 19, 3) := by decide +kernel
theorem dX0_drop_85 : decode cX0_drop 85 = .ok (.iload_n 2, 1) := by decide +kernel
theorem dX0_drop_86 : decode cX0_drop 86 = .ok (.iconst 1, 1) := by decide +kernel
theorem dX0_drop_87 : decode cX0_drop 87 = .ok (.iadd, 1) := by decide +kernel
theorem dX0_drop_88 : decode cX0_drop 88 = .ok (.iaload, 1) := by decide +kernel
theorem dX0_drop_89 : decode cX0_drop 89 = .ok (.iastore, 1) := by decide +kernel
theorem dX0_drop_90 : decode cX0_drop 90 = .ok (.iinc 2 1, 3) := by decide +kernel
theorem dX0_drop_93 : decode cX0_drop 93 = .ok (.goto (-67), 3) := by decide +kernel
theorem dX0_drop_96 : decode cX0_drop 96 = .ok (.aload_n 0, 1) := by decide +kernel
theorem dX0_drop_97 : decode cX0_drop 97 = .ok (.getfield 41, 3) := by decide +kernel
theorem dX0_drop_100 : decode cX0_drop 100 = .ok (.ireturn, 1) := by decide +kernel
theorem dX0_arrived_0 : decode cX0_arrived 0 = .ok (.iload_n 1, 1) := by decide +kernel
theorem dX0_arrived_1 : decode cX0_arrived 1 = .ok (.ifCond .lt 9, 3) := by decide +kernel
theorem dX0_arrived_4 : decode cX0_arrived 4 = .ok (.iload_n 1, 1) := by decide +kernel
theorem dX0_arrived_5 : decode cX0_arrived 5 = .ok (.bipush 12, 2) := by decide +kernel
theorem dX0_arrived_7 : decode cX0_arrived 7 = .ok (.if_icmp .le 5, 3) := by decide +kernel
theorem dX0_arrived_10 : decode cX0_arrived 10 = .ok (.iconst (-1), 1) := by decide +kernel
theorem dX0_arrived_11 : decode cX0_arrived 11 = .ok (.ireturn, 1) := by decide +kernel
theorem dX0_arrived_12 : decode cX0_arrived 12 = .ok (.aload_n 0, 1) := by decide +kernel
theorem dX0_arrived_13 : decode cX0_arrived 13 = .ok (.invokevirtual 45, 3) := by decide +kernel
theorem dX0_arrived_16 : decode cX0_arrived 16 = .ok (.aload_n 0, 1) := by decide +kernel
theorem dX0_arrived_17 : decode cX0_arrived 17 = .ok (.iload_n 1, 1) := by decide +kernel
theorem dX0_arrived_18 : decode cX0_arrived 18 = .ok (.invokevirtual 48, 3) := by decide +kernel
theorem dX0_arrived_21 : decode cX0_arrived 21 = .ok (.ireturn, 1) := by decide +kernel
theorem dX0_findWays_0 : decode cX0_findWays 0 = .ok (.aload_n 0, 1) := by decide +kernel
theorem dX0_findWays_1 : decode cX0_findWays 1 = .ok (.iconst 0, 1) := by decide +kernel
theorem dX0_findWays_2 : decode cX0_findWays 2 = .ok (.putfield 52, 3) := by decide +kernel
theorem dX0_findWays_5 : decode cX0_findWays 5 = .ok (.iconst 0, 1) := by decide +kernel
theorem dX0_findWays_6 : decode cX0_findWays 6 = .ok (.istore_n 1, 1) := by decide +kernel
theorem dX0_findWays_7 : decode cX0_findWays 7 = .ok (.iload_n 1, 1) := by decide +kernel
theorem dX0_findWays_8 : decode cX0_findWays 8 = .ok (.bipush 8, 2) := by decide +kernel
theorem dX0_findWays_10 : decode cX0_findWays 10 = .ok (.if_icmp .ge 16, 3) := by decide +kernel
theorem dX0_findWays_13 : decode cX0_findWays 13 = .ok (.aload_n 0, 1) := by decide +kernel
theorem dX0_findWays_14 : decode cX0_findWays 14 = .ok (.getfield 22, 3) := by decide +kernel
theorem dX0_findWays_17 : decode cX0_findWays 17 = .ok (.iload_n 1, 1) := by decide +kernel
theorem dX0_findWays_18 : decode cX0_findWays 18 = .ok (.iconst 0, 1) := by decide +kernel
theorem dX0_findWays_19 : decode cX0_findWays 19 = .ok (.iastore, 1) := by decide +kernel
theorem dX0_findWays_20 : decode cX0_findWays 20 = .ok (.iinc 1 1, 3) := by decide +kernel
theorem dX0_findWays_23 : decode cX0_findWays 23 = .ok (.goto (-16), 3) := by decide +kernel
theorem dX0_findWays_26 : decode cX0_findWays 26 = .ok (.iconst 1, 1) := by decide +kernel
theorem dX0_findWays_27 : decode cX0_findWays 27 = .ok (.istore_n 1, 1) := by decide +kernel
theorem dX0_findWays_28 : decode cX0_findWays 28 = .ok (.iconst 0, 1) := by decide +kernel
theorem dX0_findWays_29 : decode cX0_findWays 29 = .ok (.istore_n 2, 1) := by decide +kernel
theorem dX0_findWays_30 : decode cX0_findWays 30 = .ok (.iload_n 2, 1) := by decide +kernel
theorem dX0_findWays_31 : decode cX0_findWays 31 = .ok (.bipush 36, 2) := by decide +kernel
theorem dX0_findWays_33 : decode cX0_findWays 33 = .ok (.if_icmp .ge 73, 3) := by decide +kernel
theorem dX0_findWays_36 : decode cX0_findWays 36 = .ok (.iload_n 1, 1) := by decide +kernel
theorem dX0_findWays_37 : decode cX0_findWays 37 = .ok (.ifCond .eq 69, 3) := by decide +kernel
theorem dX0_findWays_40 : decode cX0_findWays 40 = .ok (.aload_n 0, 1) := by decide +kernel
theorem dX0_findWays_41 : decode cX0_findWays 41 = .ok (.invokevirtual 55, 3) := by decide +kernel
theorem dX0_findWays_44 : decode cX0_findWays 44 = .ok (.aload_n 0, 1) := by decide +kernel
theorem dX0_findWays_45 : decode cX0_findWays 45 = .ok (.getfield 28, 3) := by decide +kernel
theorem dX0_findWays_48 : decode cX0_findWays 48 = .ok (.iconst 4, 1) := by decide +kernel
theorem dX0_findWays_49 : decode cX0_findWays 49 = .ok (.baload, 1) := by decide +kernel
theorem dX0_findWays_50 : decode cX0_findWays 50 = .ok (.istore_n 1, 1) := by decide +kernel
theorem dX0_findWays_51 : decode cX0_findWays 51 = .ok (.iload_n 1, 1) := by decide +kernel
theorem dX0_findWays_52 : decode cX0_findWays 52 = .ok (.ifCond .eq 48, 3) := by decide +kernel
theorem dX0_findWays_55 : decode cX0_findWays 55 = .ok (.aload_n 0, 1) := by decide +kernel
theorem dX0_findWays_56 : decode cX0_findWays 56 = .ok (.invokevirtual 58, 3) := by decide +kernel
theorem dX0_findWays_59 : decode cX0_findWays 59 = .ok (.istore_n 3, 1) := by decide +kernel
theorem dX0_findWays_60 : decode cX0_findWays 60 = .ok (.aload_n 0, 1) := by decide +kernel
theorem dX0_findWays_61 : decode cX0_findWays 61 = .ok (.getfield 35, 3) := by decide +kernel
theorem dX0_findWays_64 : decode cX0_findWays 64 = .ok (.aload_n 0, 1) := by decide +kernel
theorem dX0_findWays_65 : decode cX0_findWays 65 = .ok (.getfield 52, 3) := by decide +kernel
theorem dX0_findWays_68 : decode cX0_findWays 68 = .ok (.aload_n 0, 1) := by decide +kernel
theorem dX0_findWays_69 : decode cX0_findWays 69 = .ok (.getfield 25, 3) := by decide +kernel
theorem dX0_findWays_72 : decode cX0_findWays 72 = .ok (.iconst 4, 1) := by decide +kernel
theorem dX0_findWays_73 : decode cX0_findWays 73 = .ok (.iaload, 1) := by decide +kernel
theorem dX0_findWays_74 : decode cX0_findWays 74 = .ok (.iastore, 1) := by decide +kernel
theorem dX0_findWays_75 : decode cX0_findWays 75 = .ok (.aload_n 0, 1) := by decide +kernel
theorem dX0_findWays_76 : decode cX0_findWays 76 = .ok (.getfield 38, 3) := by decide +kernel
theorem dX0_findWays_79 : decode cX0_findWays 79 = .ok (.aload_n 0, 1) := by decide +kernel
theorem dX0_findWays_80 : decode cX0_findWays 80 = .ok (.getfield 52, 3) := by decide +kernel
theorem dX0_findWays_83 : decode cX0_findWays 83 = .ok (.iload_n 3, 1) := by decide +kernel
theorem dX0_findWays_84 : decode cX0_findWays 84 = .ok (.iastore, 1) := by decide +kernel
theorem dX0_findWays_85 : decode cX0_findWays 85 = .ok (.aload_n 0, 1) := by decide +kernel
theorem dX0_findWays_86 : decode cX0_findWays 86 = .ok (.dup, 1) := by decide +kernel
theorem dX0_findWays_87 : decode cX0_findWays 87 = .ok (.getfield 52, 3) := by decide +kernel
theorem dX0_findWays_90 : decode cX0_findWays 90 = .ok (.iconst 1, 1) := by decide +kernel
theorem dX0_findWays_91 : decode cX0_findWays 91 = .ok (.iadd, 1) := by decide +kernel
theorem dX0_findWays_92 : decode cX0_findWays 92 = .ok (.putfield 52, 3) := by decide +kernel
theorem dX0_findWays_95 : decode cX0_findWays 95 = .ok (.aload_n 0, 1) := by decide +kernel
theorem dX0_findWays_96 : decode cX0_findWays 96 = .ok (.iload_n 3, 1) := by decide +kernel
theorem dX0_findWays_97 : decode cX0_findWays 97 = .ok (.invokevirtual 62, 3) := by decide +kernel
theorem dX0_findWays_100 : decode cX0_findWays 100 = .ok (.iinc 2 1, 3) := by decide +kernel
theorem dX0_findWays_103 : decode cX0_findWays 103 = .ok (.goto (-73), 3) := by decide +kernel
theorem dX0_findWays_106 : decode cX0_findWays 106 = .ok (.return_, 1) := by decide +kernel
theorem dX0_findQuickest_0 : decode cX0_findQuickest 0 = .ok (.iconst 0, 1) := by decide +kernel
theorem dX0_findQuickest_1 : decode cX0_findQuickest 1 = .ok (.istore_n 1, 1) := by decide +kernel
theorem dX0_findQuickest_2 : decode cX0_findQuickest 2 = .ok (.iload_n 1, 1) := by decide +kernel
theorem dX0_findQuickest_3 : decode cX0_findQuickest 3 = .ok (.iconst 5, 1) := by decide +kernel
theorem dX0_findQuickest_4 : decode cX0_findQuickest 4 = .ok (.if_icmp .ge 38, 3) := by decide +kernel
theorem dX0_findQuickest_7 : decode cX0_findQuickest 7 = .ok (.aload_n 0, 1) := by decide +kernel
theorem dX0_findQuickest_8 : decode cX0_findQuickest 8 = .ok (.getfield 28, 3) := by decide +kernel
theorem dX0_findQuickest_11 : decode cX0_findQuickest 11 = .ok (.iload_n 1, 1) := by decide +kernel
theorem dX0_findQuickest_12 : decode cX0_findQuickest 12 = .ok (.iload_n 1, 1) := by decide +kernel
theorem dX0_findQuickest_13 : decode cX0_findQuickest 13 = .ok (.ifCond .ne 7, 3) := by decide +kernel
theorem dX0_findQuickest_16 : decode cX0_findQuickest 16 = .ok (.iconst 1, 1) := by decide +kernel
theorem dX0_findQuickest_17 : decode cX0_findQuickest 17 = .ok (.goto 4, 3) := by decide +kernel
theorem dX0_findQuickest_20 : decode cX0_findQuickest 20 = .ok (.iconst 0, 1) := by decide +kernel
theorem dX0_findQuickest_21 : decode cX0_findQuickest 21 = .ok (.bastore, 1) := by decide +kernel
theorem dX0_findQuickest_22 : decode cX0_findQuickest 22 = .ok (.aload_n 0, 1) := by decide +kernel
theorem dX0_findQuickest_23 : decode cX0_findQuickest 23 = .ok (.getfield 25, 3) := by decide +kernel
theorem dX0_findQuickest_26 : decode cX0_findQuickest 26 = .ok (.iload_n 1, 1) := by decide +kernel
theorem dX0_findQuickest_27 : decode cX0_findQuickest 27 = .ok (.iconst 0, 1) := by decide +kernel
theorem dX0_findQuickest_28 : decode cX0_findQuickest 28 = .ok (.iastore, 1) := by decide +kernel
theorem dX0_findQuickest_29 : decode cX0_findQuickest 29 = .ok (.aload_n 0, 1) := by decide +kernel
theorem dX0_findQuickest_30 : decode cX0_findQuickest 30 = .ok (.getfield 32, 3) := by decide +kernel
theorem dX0_findQuickest_33 : decode cX0_findQuickest 33 = .ok (.iload_n 1, 1) := by decide +kernel
theorem dX0_findQuickest_34 : decode cX0_findQuickest 34 = .ok (.iconst (-1), 1) := by decide +kernel
theorem dX0_findQuickest_35 : decode cX0_findQuickest 35 = .ok (.iastore, 1) := by decide +kernel
theorem dX0_findQuickest_36 : decode cX0_findQuickest 36 = .ok (.iinc 1 1, 3) := by decide +kernel
theorem dX0_findQuickest_39 : decode cX0_findQuickest 39 = .ok (.goto (-37), 3) := by decide +kernel
theorem dX0_findQuickest_42 : decode cX0_findQuickest 42 = .ok (.iconst 1, 1) := by decide +kernel
theorem dX0_findQuickest_43 : decode cX0_findQuickest 43 = .ok (.istore_n 1, 1) := by decide +kernel
theorem dX0_findQuickest_44 : decode cX0_findQuickest 44 = .ok (.iconst 0, 1) := by decide +kernel
theorem dX0_findQuickest_45 : decode cX0_findQuickest 45 = .ok (.istore_n 2, 1) := by decide +kernel
theorem dX0_findQuickest_46 : decode cX0_findQuickest 46 = .ok (.iload_n 2, 1) := by decide +kernel
theorem dX0_findQuickest_47 : decode cX0_findQuickest 47 = .ok (.bipush 6, 2) := by decide +kernel
theorem dX0_findQuickest_49 : decode cX0_findQuickest 49 = .ok (.if_icmp .ge 69, 3) := by decide +kernel
theorem dX0_findQuickest_52 : decode cX0_findQuickest 52 = .ok (.iload_n 1, 1) := by decide +kernel
theorem dX0_findQuickest_53 : decode cX0_findQuickest 53 = .ok (.ifCond .eq 65, 3) := by decide +kernel
theorem dX0_findQuickest_56 : decode cX0_findQuickest 56 = .ok (.iconst 0, 1) := by decide +kernel
theorem dX0_findQuickest_57 : decode cX0_findQuickest 57 = .ok (.istore_n 1, 1) := by decide +kernel
theorem dX0_findQuickest_58 : decode cX0_findQuickest 58 = .ok (.iconst 0, 1) := by decide +kernel
theorem dX0_findQuickest_59 : decode cX0_findQuickest 59 = .ok (.istore_n 3, 1) := by decide +kernel
theorem dX0_findQuickest_60 : decode cX0_findQuickest 60 = .ok (.iload_n 3, 1) := by decide +kernel
theorem dX0_findQuickest_61 : decode cX0_findQuickest 61 = .ok (.aload_n 0, 1) := by decide +kernel
theorem dX0_findQuickest_62 : decode cX0_findQuickest 62 = .ok (.getfield 41, 3) := by decide +kernel
theorem dX0_findQuickest_65 : decode cX0_findQuickest 65 = .ok (.if_icmp .ge 47, 3) := by decide +kernel
theorem dX0_findQuickest_68 : decode cX0_findQuickest 68 = .ok (.aload_n 0, 1) := by decide +kernel
theorem dX0_findQuickest_69 : decode cX0_findQuickest 69 = .ok (.iload_n 3, 1) := by decide +kernel
theorem dX0_findQuickest_70 : decode cX0_findQuickest 70 = .ok (.iconst 0, 1) := by decide +kernel
theorem dX0_findQuickest_71 : decode cX0_findQuickest 71 = .ok (.invokevirtual 66, 3) := by decide +kernel
theorem dX0_findQuickest_74 : decode cX0_findQuickest 74 = .ok (.ifCond .ne 7, 3) := by decide +kernel
theorem dX0_findQuickest_77 : decode cX0_findQuickest 77 = .ok (.iload_n 1, 1) := by decide +kernel
theorem dX0_findQuickest_78 : decode cX0_findQuickest 78 = .ok (.ifCond .eq 7, 3) := by decide +kernel
theorem dX0_findQuickest_81 : decode cX0_findQuickest 81 = .ok (.iconst 1, 1) := by decide +kernel
theorem dX0_findQuickest_82 : decode cX0_findQuickest 82 = .ok (.goto 4, 3) := by decide +kernel
theorem dX0_findQuickest_85 : decode cX0_findQuickest 85 = .ok (.iconst 0, 1) := by decide +kernel
theorem dX0_findQuickest_86 : decode cX0_findQuickest 86 = .ok (.istore_n 1, 1) := by decide +kernel
theorem dX0_findQuickest_87 : decode cX0_findQuickest 87 = .ok (.aload_n 0, 1) := by decide +kernel
theorem dX0_findQuickest_88 : decode cX0_findQuickest 88 = .ok (.iload_n 3, 1) := by decide +kernel
theorem dX0_findQuickest_89 : decode cX0_findQuickest 89 = .ok (.iconst 1, 1) := by decide +kernel
theorem dX0_findQuickest_90 : decode cX0_findQuickest 90 = .ok (.invokevirtual 66, 3) := by decide +kernel
theorem dX0_findQuickest_93 : decode cX0_findQuickest 93 = .ok (.ifCond .ne 7, 3) := by decide +kernel
theorem dX0_findQuickest_96 : decode cX0_findQuickest 96 = .ok (.iload_n 1, 1) := by decide +kernel
theorem dX0_findQuickest_97 : decode cX0_findQuickest 97 = .ok (.ifCond .eq 7, 3) := by decide +kernel
theorem dX0_findQuickest_100 : decode cX0_findQuickest 100 = .ok (.iconst 1, 1) := by decide +kernel
theorem dX0_findQuickest_101 : decode cX0_findQuickest 101 = .ok (.goto 4, 3) := by decide +kernel
theorem dX0_findQuickest_104 : decode cX0_findQuickest 104 = .ok (.iconst 0, 1) := by decide +kernel
theorem dX0_findQuickest_105 : decode cX0_findQuickest 105 = .ok (.istore_n 1, 1) := by decide +kernel
theorem dX0_findQuickest_106 : decode cX0_findQuickest 106 = .ok (.iinc 3 1, 3) := by decide +kernel
theorem dX0_findQuickest_109 : decode cX0_findQuickest 109 = .ok (.goto (-49), 3) := by decide +kernel
theorem dX0_findQuickest_112 : decode cX0_findQuickest 112 = .ok (.iinc 2 1, 3) := by decide +kernel
theorem dX0_findQuickest_115 : decode cX0_findQuickest 115 = .ok (.goto (-69), 3) := by decide +kernel
theorem dX0_findQuickest_118 : decode cX0_findQuickest 118 = .ok (.return_, 1) := by decide +kernel
theorem dX0_relax_0 : decode cX0_relax 0 = .ok (.iload_n 2, 1) := by decide +kernel
theorem dX0_relax_1 : decode cX0_relax 1 = .ok (.ifCond .eq 12, 3) := by decide +kernel
theorem dX0_relax_4 : decode cX0_relax 4 = .ok (.aload_n 0, 1) := by decide +kernel
theorem dX0_relax_5 : decode cX0_relax 5 = .ok (.getfield 13, 3) := by decide +kernel
theorem dX0_relax_8 : decode cX0_relax 8 = .ok (.iload_n 1, 1) := by decide +kernel
theorem dX0_relax_9 : decode cX0_relax 9 = .ok (.iaload, 1) := by decide +kernel
theorem dX0_relax_10 : decode cX0_relax 10 = .ok (.goto 9, 3) := by decide +kernel
theorem dX0_relax_13 : decode cX0_relax 13 = .ok (.aload_n 0, 1) := by decide +kernel
theorem dX0_relax_14 : decode cX0_relax 14 = .ok (.getfield 7, 3) := by decide +kernel
theorem dX0_relax_17 : decode cX0_relax 17 = .ok (.iload_n 1, 1) := by decide +kernel
theorem dX0_relax_18 : decode cX0_relax 18 = .ok (.iaload, 1) := by decide +kernel
theorem dX0_relax_19 : decode cX0_relax 19 = .ok (.istore_n 3, 1) := by decide +kernel
theorem dX0_relax_20 : decode cX0_relax 20 = .ok (.iload_n 2, 1) := by decide +kernel
theorem dX0_relax_21 : decode cX0_relax 21 = .ok (.ifCond .eq 12, 3) := by decide +kernel
theorem dX0_relax_24 : decode cX0_relax 24 = .ok (.aload_n 0, 1) := by decide +kernel
theorem dX0_relax_25 : decode cX0_relax 25 = .ok (.getfield 7, 3) := by decide +kernel
theorem dX0_relax_28 : decode cX0_relax 28 = .ok (.iload_n 1, 1) := by decide +kernel
theorem dX0_relax_29 : decode cX0_relax 29 = .ok (.iaload, 1) := by decide +kernel
theorem dX0_relax_30 : decode cX0_relax 30 = .ok (.goto 9, 3) := by decide +kernel
theorem dX0_relax_33 : decode cX0_relax 33 = .ok (.aload_n 0, 1) := by decide +kernel
theorem dX0_relax_34 : decode cX0_relax 34 = .ok (.getfield 13, 3) := by decide +kernel
theorem dX0_relax_37 : decode cX0_relax 37 = .ok (.iload_n 1, 1) := by decide +kernel
theorem dX0_relax_38 : decode cX0_relax 38 = .ok (.iaload, 1) := by decide +kernel
theorem dX0_relax_39 : decode cX0_relax 39 = .ok (.istore 4, 2) := by decide +kernel
theorem dX0_relax_41 : decode cX0_relax 41 = .ok (.iload_n 2, 1) := by decide +kernel
theorem dX0_relax_42 : decode cX0_relax 42 = .ok (.ifCond .eq 12, 3) := by decide +kernel
theorem dX0_relax_45 : decode cX0_relax 45 = .ok (.aload_n 0, 1) := by decide +kernel
end
section
set_option maxRecDepth 100000
theorem dX0_relax_46 : decode cX0_relax 46 = .ok (.getfield 22, 3) := by decide +kernel
theorem dX0_relax_49 : decode cX0_relax 49 = .ok (.iload_n 1, 1) := by decide +kernel
theorem dX0_relax_50 : decode cX0_relax 50 = .ok (.iaload, 1) := by decide +kernel
theorem dX0_relax_51 : decode cX0_relax 51 = .ok (.goto 16, 3) := by decide +kernel
theorem dX0_relax_54 : decode cX0_relax 54 = .ok (.aload_n 0, 1) := by decide +kernel
theorem dX0_relax_55 : decode cX0_relax 55 = .ok (.getfield 16, 3) := by decide +kernel
theorem dX0_relax_58 : decode cX0_relax 58 = .ok (.iload_n 1, 1) := by decide +kernel
theorem dX0_relax_59 : decode cX0_relax 59 = .ok (.iaload, 1) := by decide +kernel
theorem dX0_relax_60 : decode cX0_relax 60 = .ok (.aload_n 0, 1) := by decide +kernel
theorem dX0_relax_61 : decode cX0_relax 61 = .ok (.getfield 22, 3) := by decide +kernel
theorem dX0_relax_64 : decode cX0_relax 64 = .ok (.iload_n 1, 1) := by decide +kernel
theorem dX0_relax_65 : decode cX0_relax 65 = .ok (.iaload, 1) := by decide +kernel
theorem dX0_relax_66 : decode cX0_relax 66 = .ok (.isub, 1) := by decide +kernel
theorem dX0_relax_67 : decode cX0_relax 67 = .ok (.istore 5, 2) := by decide +kernel
theorem dX0_relax_69 : decode cX0_relax 69 = .ok (.aload_n 0, 1) := by decide +kernel
theorem dX0_relax_70 : decode cX0_relax 70 = .ok (.getfield 25, 3) := by decide +kernel
theorem dX0_relax_73 : decode cX0_relax 73 = .ok (.iload_n 3, 1) := by decide +kernel
theorem dX0_relax_74 : decode cX0_relax 74 = .ok (.iaload, 1) := by decide +kernel
theorem dX0_relax_75 : decode cX0_relax 75 = .ok (.iload_n 2, 1) := by decide +kernel
theorem dX0_relax_76 : decode cX0_relax 76 = .ok (.ifCond .eq 13, 3) := by decide +kernel
theorem dX0_relax_79 : decode cX0_relax 79 = .ok (.aload_n 0, 1) := by decide +kernel
theorem dX0_relax_80 : decode cX0_relax 80 = .ok (.getfield 19, 3) := by decide +kernel
theorem dX0_relax_83 : decode cX0_relax 83 = .ok (.iload_n 1, 1) := by decide +kernel
theorem dX0_relax_84 : decode cX0_relax 84 = .ok (.iaload, 1) := by decide +kernel
theorem dX0_relax_85 : decode cX0_relax 85 = .ok (.ineg, 1) := by decide +kernel
theorem dX0_relax_86 : decode cX0_relax 86 = .ok (.goto 9, 3) := by decide +kernel
theorem dX0_relax_89 : decode cX0_relax 89 = .ok (.aload_n 0, 1) := by decide +kernel
theorem dX0_relax_90 : decode cX0_relax 90 = .ok (.getfield 19, 3) := by decide +kernel
theorem dX0_relax_93 : decode cX0_relax 93 = .ok (.iload_n 1, 1) := by decide +kernel
theorem dX0_relax_94 : decode cX0_relax 94 = .ok (.iaload, 1) := by decide +kernel
theorem dX0_relax_95 : decode cX0_relax 95 = .ok (.iadd, 1) := by decide +kernel
theorem dX0_relax_96 : decode cX0_relax 96 = .ok (.istore 6, 2) := by decide +kernel
theorem dX0_relax_98 : decode cX0_relax 98 = .ok (.aload_n 0, 1) := by decide +kernel
theorem dX0_relax_99 : decode cX0_relax 99 = .ok (.getfield 28, 3) := by decide +kernel
theorem dX0_relax_102 : decode cX0_relax 102 = .ok (.iload_n 3, 1) := by decide +kernel
theorem dX0_relax_103 : decode cX0_relax 103 = .ok (.baload, 1) := by decide +kernel
theorem dX0_relax_104 : decode cX0_relax 104 = .ok (.ifCond .eq 35, 3) := by decide +kernel
theorem dX0_relax_107 : decode cX0_relax 107 = .ok (.iload 5, 2) := by decide +kernel
theorem dX0_relax_109 : decode cX0_relax 109 = .ok (.ifCond .eq 30, 3) := by decide +kernel
theorem dX0_relax_112 : decode cX0_relax 112 = .ok (.iload 4, 2) := by decide +kernel
theorem dX0_relax_114 : decode cX0_relax 114 = .ok (.ifCond .eq 25, 3) := by decide +kernel
theorem dX0_relax_117 : decode cX0_relax 117 = .ok (.aload_n 0, 1) := by decide +kernel
theorem dX0_relax_118 : decode cX0_relax 118 = .ok (.getfield 28, 3) := by decide +kernel
theorem dX0_relax_121 : decode cX0_relax 121 = .ok (.iload 4, 2) := by decide +kernel
theorem dX0_relax_123 : decode cX0_relax 123 = .ok (.baload, 1) := by decide +kernel
theorem dX0_relax_124 : decode cX0_relax 124 = .ok (.ifCond .eq 17, 3) := by decide +kernel
theorem dX0_relax_127 : decode cX0_relax 127 = .ok (.aload_n 0, 1) := by decide +kernel
theorem dX0_relax_128 : decode cX0_relax 128 = .ok (.getfield 25, 3) := by decide +kernel
theorem dX0_relax_131 : decode cX0_relax 131 = .ok (.iload 4, 2) := by decide +kernel
theorem dX0_relax_133 : decode cX0_relax 133 = .ok (.iaload, 1) := by decide +kernel
theorem dX0_relax_134 : decode cX0_relax 134 = .ok (.iload 6, 2) := by decide +kernel
theorem dX0_relax_136 : decode cX0_relax 136 = .ok (.if_icmp .gt 5, 3) := by decide +kernel
theorem dX0_relax_139 : decode cX0_relax 139 = .ok (.iconst 0, 1) := by decide +kernel
theorem dX0_relax_140 : decode cX0_relax 140 = .ok (.ireturn, 1) := by decide +kernel
theorem dX0_relax_141 : decode cX0_relax 141 = .ok (.aload_n 0, 1) := by decide +kernel
theorem dX0_relax_142 : decode cX0_relax 142 = .ok (.getfield 28, 3) := by decide +kernel
theorem dX0_relax_145 : decode cX0_relax 145 = .ok (.iload 4, 2) := by decide +kernel
theorem dX0_relax_147 : decode cX0_relax 147 = .ok (.iconst 1, 1) := by decide +kernel
theorem dX0_relax_148 : decode cX0_relax 148 = .ok (.bastore, 1) := by decide +kernel
theorem dX0_relax_149 : decode cX0_relax 149 = .ok (.aload_n 0, 1) := by decide +kernel
theorem dX0_relax_150 : decode cX0_relax 150 = .ok (.getfield 25, 3) := by decide +kernel
theorem dX0_relax_153 : decode cX0_relax 153 = .ok (.iload 4, 2) := by decide +kernel
theorem dX0_relax_155 : decode cX0_relax 155 = .ok (.iload 6, 2) := by decide +kernel
theorem dX0_relax_157 : decode cX0_relax 157 = .ok (.iastore, 1) := by decide +kernel
theorem dX0_relax_158 : decode cX0_relax 158 = .ok (.aload_n 0, 1) := by decide +kernel
theorem dX0_relax_159 : decode cX0_relax 159 = .ok (.getfield 32, 3) := by decide +kernel
theorem dX0_relax_162 : decode cX0_relax 162 = .ok (.iload 4, 2) := by decide +kernel
theorem dX0_relax_164 : decode cX0_relax 164 = .ok (.iload_n 2, 1) := by decide +kernel
theorem dX0_relax_165 : decode cX0_relax 165 = .ok (.ifCond .eq 10, 3) := by decide +kernel
theorem dX0_relax_168 : decode cX0_relax 168 = .ok (.iload_n 1, 1) := by decide +kernel
theorem dX0_relax_169 : decode cX0_relax 169 = .ok (.bipush 8, 2) := by decide +kernel
theorem dX0_relax_171 : decode cX0_relax 171 = .ok (.iadd, 1) := by decide +kernel
theorem dX0_relax_172 : decode cX0_relax 172 = .ok (.goto 4, 3) := by decide +kernel
theorem dX0_relax_175 : decode cX0_relax 175 = .ok (.iload_n 1, 1) := by decide +kernel
theorem dX0_relax_176 : decode cX0_relax 176 = .ok (.iastore, 1) := by decide +kernel
theorem dX0_relax_177 : decode cX0_relax 177 = .ok (.iconst 1, 1) := by decide +kernel
theorem dX0_relax_178 : decode cX0_relax 178 = .ok (.ireturn, 1) := by decide +kernel
theorem dX0_roomOfWay_0 : decode cX0_roomOfWay 0 = .ok (.bipush 100, 2) := by decide +kernel
theorem dX0_roomOfWay_2 : decode cX0_roomOfWay 2 = .ok (.istore_n 1, 1) := by decide +kernel
theorem dX0_roomOfWay_3 : decode cX0_roomOfWay 3 = .ok (.iconst 4, 1) := by decide +kernel
theorem dX0_roomOfWay_4 : decode cX0_roomOfWay 4 = .ok (.istore_n 2, 1) := by decide +kernel
theorem dX0_roomOfWay_5 : decode cX0_roomOfWay 5 = .ok (.iconst 0, 1) := by decide +kernel
theorem dX0_roomOfWay_6 : decode cX0_roomOfWay 6 = .ok (.istore_n 3, 1) := by decide +kernel
theorem dX0_roomOfWay_7 : decode cX0_roomOfWay 7 = .ok (.iload_n 3, 1) := by decide +kernel
theorem dX0_roomOfWay_8 : decode cX0_roomOfWay 8 = .ok (.iconst 5, 1) := by decide +kernel
theorem dX0_roomOfWay_9 : decode cX0_roomOfWay 9 = .ok (.if_icmp .ge 124, 3) := by decide +kernel
theorem dX0_roomOfWay_12 : decode cX0_roomOfWay 12 = .ok (.iload_n 2, 1) := by decide +kernel
theorem dX0_roomOfWay_13 : decode cX0_roomOfWay 13 = .ok (.ifCond .eq 120, 3) := by decide +kernel
theorem dX0_roomOfWay_16 : decode cX0_roomOfWay 16 = .ok (.aload_n 0, 1) := by decide +kernel
theorem dX0_roomOfWay_17 : decode cX0_roomOfWay 17 = .ok (.getfield 32, 3) := by decide +kernel
theorem dX0_roomOfWay_20 : decode cX0_roomOfWay 20 = .ok (.iload_n 2, 1) := by decide +kernel
theorem dX0_roomOfWay_21 : decode cX0_roomOfWay 21 = .ok (.iaload, 1) := by decide +kernel
theorem dX0_roomOfWay_22 : decode cX0_roomOfWay 22 = .ok (.bipush 8, 2) := by decide +kernel
theorem dX0_roomOfWay_24 : decode cX0_roomOfWay 24 = .ok (.if_icmp .lt 7, 3) := by decide +kernel
theorem dX0_roomOfWay_27 : decode cX0_roomOfWay 27 = .ok (.iconst 1, 1) := by decide +kernel
theorem dX0_roomOfWay_28 : decode cX0_roomOfWay 28 = .ok (.goto 4, 3) := by decide +kernel
theorem dX0_roomOfWay_31 : decode cX0_roomOfWay 31 = .ok (.iconst 0, 1) := by decide +kernel
theorem dX0_roomOfWay_32 : decode cX0_roomOfWay 32 = .ok (.istore 4, 2) := by decide +kernel
theorem dX0_roomOfWay_34 : decode cX0_roomOfWay 34 = .ok (.iload 4, 2) := by decide +kernel
theorem dX0_roomOfWay_36 : decode cX0_roomOfWay 36 = .ok (.ifCond .eq 15, 3) := by decide +kernel
theorem dX0_roomOfWay_39 : decode cX0_roomOfWay 39 = .ok (.aload_n 0, 1) := by decide +kernel
theorem dX0_roomOfWay_40 : decode cX0_roomOfWay 40 = .ok (.getfield 32, 3) := by decide +kernel
theorem dX0_roomOfWay_43 : decode cX0_roomOfWay 43 = .ok (.iload_n 2, 1) := by decide +kernel
theorem dX0_roomOfWay_44 : decode cX0_roomOfWay 44 = .ok (.iaload, 1) := by decide +kernel
theorem dX0_roomOfWay_45 : decode cX0_roomOfWay 45 = .ok (.bipush 8, 2) := by decide +kernel
theorem dX0_roomOfWay_47 : decode cX0_roomOfWay 47 = .ok (.isub, 1) := by decide +kernel
theorem dX0_roomOfWay_48 : decode cX0_roomOfWay 48 = .ok (.goto 9, 3) := by decide +kernel
theorem dX0_roomOfWay_51 : decode cX0_roomOfWay 51 = .ok (.aload_n 0, 1) := by decide +kernel
theorem dX0_roomOfWay_52 : decode cX0_roomOfWay 52 = .ok (.getfield 32, 3) := by decide +kernel
theorem dX0_roomOfWay_55 : decode cX0_roomOfWay 55 = .ok (.iload_n 2, 1) := by decide +kernel
theorem dX0_roomOfWay_56 : decode cX0_roomOfWay 56 = .ok (.iaload, 1) := by decide +kernel
theorem dX0_roomOfWay_57 : decode cX0_roomOfWay 57 = .ok (.istore 5, 2) := by decide +kernel
theorem dX0_roomOfWay_59 : decode cX0_roomOfWay 59 = .ok (.iload 4, 2) := by decide +kernel
theorem dX0_roomOfWay_61 : decode cX0_roomOfWay 61 = .ok (.ifCond .eq 13, 3) := by decide +kernel
theorem dX0_roomOfWay_64 : decode cX0_roomOfWay 64 = .ok (.aload_n 0, 1) := by decide +kernel
theorem dX0_roomOfWay_65 : decode cX0_roomOfWay 65 = .ok (.getfield 22, 3) := by decide +kernel
theorem dX0_roomOfWay_68 : decode cX0_roomOfWay 68 = .ok (.iload 5, 2) := by decide +kernel
theorem dX0_roomOfWay_70 : decode cX0_roomOfWay 70 = .ok (.iaload, 1) := by decide +kernel
theorem dX0_roomOfWay_71 : decode cX0_roomOfWay 71 = .ok (.goto 18, 3) := by decide +kernel
theorem dX0_roomOfWay_74 : decode cX0_roomOfWay 74 = .ok (.aload_n 0, 1) := by decide +kernel
theorem dX0_roomOfWay_75 : decode cX0_roomOfWay 75 = .ok (.getfield 16, 3) := by decide +kernel
theorem dX0_roomOfWay_78 : decode cX0_roomOfWay 78 = .ok (.iload 5, 2) := by decide +kernel
theorem dX0_roomOfWay_80 : decode cX0_roomOfWay 80 = .ok (.iaload, 1) := by decide +kernel
theorem dX0_roomOfWay_81 : decode cX0_roomOfWay 81 = .ok (.aload_n 0, 1) := by decide +kernel
theorem dX0_roomOfWay_82 : decode cX0_roomOfWay 82 = .ok (.getfield 22, 3) := by decide +kernel
theorem dX0_roomOfWay_85 : decode cX0_roomOfWay 85 = .ok (.iload 5, 2) := by decide +kernel
theorem dX0_roomOfWay_87 : decode cX0_roomOfWay 87 = .ok (.iaload, 1) := by decide +kernel
theorem dX0_roomOfWay_88 : decode cX0_roomOfWay 88 = .ok (.isub, 1) := by decide +kernel
theorem dX0_roomOfWay_89 : decode cX0_roomOfWay 89 = .ok (.istore 6, 2) := by decide +kernel
theorem dX0_roomOfWay_91 : decode cX0_roomOfWay 91 = .ok (.iload 6, 2) := by decide +kernel
theorem dX0_roomOfWay_93 : decode cX0_roomOfWay 93 = .ok (.iload_n 1, 1) := by decide +kernel
theorem dX0_roomOfWay_94 : decode cX0_roomOfWay 94 = .ok (.if_icmp .ge 8, 3) := by decide +kernel
theorem dX0_roomOfWay_97 : decode cX0_roomOfWay 97 = .ok (.iload 6, 2) := by decide +kernel
theorem dX0_roomOfWay_99 : decode cX0_roomOfWay 99 = .ok (.goto 4, 3) := by decide +kernel
theorem dX0_roomOfWay_102 : decode cX0_roomOfWay 102 = .ok (.iload_n 1, 1) := by decide +kernel
theorem dX0_roomOfWay_103 : decode cX0_roomOfWay 103 = .ok (.istore_n 1, 1) := by decide +kernel
theorem dX0_roomOfWay_104 : decode cX0_roomOfWay 104 = .ok (.iload 4, 2) := by decide +kernel
theorem dX0_roomOfWay_106 : decode cX0_roomOfWay 106 = .ok (.ifCond .eq 13, 3) := by decide +kernel
theorem dX0_roomOfWay_109 : decode cX0_roomOfWay 109 = .ok (.aload_n 0, 1) := by decide +kernel
theorem dX0_roomOfWay_110 : decode cX0_roomOfWay 110 = .ok (.getfield 13, 3) := by decide +kernel
theorem dX0_roomOfWay_113 : decode cX0_roomOfWay 113 = .ok (.iload 5, 2) := by decide +kernel
theorem dX0_roomOfWay_115 : decode cX0_roomOfWay 115 = .ok (.iaload, 1) := by decide +kernel
theorem dX0_roomOfWay_116 : decode cX0_roomOfWay 116 = .ok (.goto 10, 3) := by decide +kernel
theorem dX0_roomOfWay_119 : decode cX0_roomOfWay 119 = .ok (.aload_n 0, 1) := by decide +kernel
theorem dX0_roomOfWay_120 : decode cX0_roomOfWay 120 = .ok (.getfield 7, 3) := by decide +kernel
theorem dX0_roomOfWay_123 : decode cX0_roomOfWay 123 = .ok (.iload 5, 2) := by decide +kernel
theorem dX0_roomOfWay_125 : decode cX0_roomOfWay 125 = .ok (.iaload, 1) := by decide +kernel
theorem dX0_roomOfWay_126 : decode cX0_roomOfWay 126 = .ok (.istore_n 2, 1) := by decide +kernel
theorem dX0_roomOfWay_127 : decode cX0_roomOfWay 127 = .ok (.iinc 3 1, 3) := by decide +kernel
theorem dX0_roomOfWay_130 : decode cX0_roomOfWay 130 = .ok (.goto (-123), 3) := by decide +kernel
theorem dX0_roomOfWay_133 : decode cX0_roomOfWay 133 = .ok (.iload_n 1, 1) := by decide +kernel
theorem dX0_roomOfWay_134 : decode cX0_roomOfWay 134 = .ok (.ireturn, 1) := by decide +kernel
theorem dX0_send_0 : decode cX0_send 0 = .ok (.iconst 4, 1) := by decide +kernel
theorem dX0_send_1 : decode cX0_send 1 = .ok (.istore_n 2, 1) := by decide +kernel
theorem dX0_send_2 : decode cX0_send 2 = .ok (.iconst 0, 1) := by decide +kernel
theorem dX0_send_3 : decode cX0_send 3 = .ok (.istore_n 3, 1) := by decide +kernel
theorem dX0_send_4 : decode cX0_send 4 = .ok (.iload_n 3, 1) := by decide +kernel
theorem dX0_send_5 : decode cX0_send 5 = .ok (.iconst 5, 1) := by decide +kernel
theorem dX0_send_6 : decode cX0_send 6 = .ok (.if_icmp .ge 100, 3) := by decide +kernel
theorem dX0_send_9 : decode cX0_send 9 = .ok (.iload_n 2, 1) := by decide +kernel
theorem dX0_send_10 : decode cX0_send 10 = .ok (.ifCond .eq 96, 3) := by decide +kernel
theorem dX0_send_13 : decode cX0_send 13 = .ok (.aload_n 0, 1) := by decide +kernel
theorem dX0_send_14 : decode cX0_send 14 = .ok (.getfield 32, 3) := by decide +kernel
theorem dX0_send_17 : decode cX0_send 17 = .ok (.iload_n 2, 1) := by decide +kernel
theorem dX0_send_18 : decode cX0_send 18 = .ok (.iaload, 1) := by decide +kernel
theorem dX0_send_19 : decode cX0_send 19 = .ok (.bipush 8, 2) := by decide +kernel
theorem dX0_send_21 : decode cX0_send 21 = .ok (.if_icmp .lt 7, 3) := by decide +kernel
theorem dX0_send_24 : decode cX0_send 24 = .ok (.iconst 1, 1) := by decide +kernel
theorem dX0_send_25 : decode cX0_send 25 = .ok (.goto 4, 3) := by decide +kernel
theorem dX0_send_28 : decode cX0_send 28 = .ok (.iconst 0, 1) := by decide +kernel
theorem dX0_send_29 : decode cX0_send 29 = .ok (.istore 4, 2) := by decide +kernel
theorem dX0_send_31 : decode cX0_send 31 = .ok (.iload 4, 2) := by decide +kernel
theorem dX0_send_33 : decode cX0_send 33 = .ok (.ifCond .eq 15, 3) := by decide +kernel
theorem dX0_send_36 : decode cX0_send 36 = .ok (.aload_n 0, 1) := by decide +kernel
theorem dX0_send_37 : decode cX0_send 37 = .ok (.getfield 32, 3) := by decide +kernel
theorem dX0_send_40 : decode cX0_send 40 = .ok (.iload_n 2, 1) := by decide +kernel
theorem dX0_send_41 : decode cX0_send 41 = .ok (.iaload, 1) := by decide +kernel
theorem dX0_send_42 : decode cX0_send 42 = .ok (.bipush 8, 2) := by decide +kernel
theorem dX0_send_44 : decode cX0_send 44 = .ok (.isub, 1) := by decide +kernel
theorem dX0_send_45 : decode cX0_send 45 = .ok (.goto 9, 3) := by decide +kernel
theorem dX0_send_48 : decode cX0_send 48 = .ok (.aload_n 0, 1) := by decide +kernel
theorem dX0_send_49 : decode cX0_send 49 = .ok (.getfield 32, 3) := by decide +kernel
theorem dX0_send_52 : decode cX0_send 52 = .ok (.iload_n 2, 1) := by decide +kernel
theorem dX0_send_53 : decode cX0_send 53 = .ok (.iaload, 1) := by decide +kernel
theorem dX0_send_54 : decode cX0_send 54 = .ok (.istore 5, 2) := by decide +kernel
theorem dX0_send_56 : decode cX0_send 56 = .ok (.aload_n 0, 1) := by decide +kernel
theorem dX0_send_57 : decode cX0_send 57 = .ok (.getfield 22, 3) := by decide +kernel
theorem dX0_send_60 : decode cX0_send 60 = .ok (.iload 5, 2) := by decide +kernel
theorem dX0_send_62 : decode cX0_send 62 = .ok (.dup2, 1) := by decide +kernel
theorem dX0_send_63 : decode cX0_send 63 = .ok (.iaload, 1) := by decide +kernel
theorem dX0_send_64 : decode cX0_send 64 = .ok (.iload 4, 2) := by decide +kernel
theorem dX0_send_66 : decode cX0_send 66 = .ok (.ifCond .eq 8, 3) := by decide +kernel
theorem dX0_send_69 : decode cX0_send 69 = .ok (.iload_n 1, 1) := by decide +kernel
theorem dX0_send_70 : decode cX0_send 70 = .ok (.ineg, 1) := by decide +kernel
theorem dX0_send_71 : decode cX0_send 71 = .ok (.goto 4, 3) := by decide +kernel
theorem dX0_send_74 : decode cX0_send 74 = .ok (.iload_n 1, 1) := by decide +kernel
theorem dX0_send_75 : decode cX0_send 75 = .ok (.iadd, 1) := by decide +kernel
theorem dX0_send_76 : decode cX0_send 76 = .ok (.iastore, 1) := by decide +kernel
theorem dX0_send_77 : decode cX0_send 77 = .ok (.iload 4, 2) := by decide +kernel
theorem dX0_send_79 : decode cX0_send 79 = .ok (.ifCond .eq 13, 3) := by decide +kernel
theorem dX0_send_82 : decode cX0_send 82 = .ok (.aload_n 0, 1) := by decide +kernel
theorem dX0_send_83 : decode cX0_send 83 = .ok (.getfield 13, 3) := by decide +kernel
theorem dX0_send_86 : decode cX0_send 86 = .ok (.iload 5, 2) := by decide +kernel
theorem dX0_send_88 : decode cX0_send 88 = .ok (.iaload, 1) := by decide +kernel
theorem dX0_send_89 : decode cX0_send 89 = .ok (.goto 10, 3) := by decide +kernel
theorem dX0_send_92 : decode cX0_send 92 = .ok (.aload_n 0, 1) := by decide +kernel
theorem dX0_send_93 : decode cX0_send 93 = .ok (.getfield 7, 3) := by decide +kernel
theorem dX0_send_96 : decode cX0_send 96 = .ok (.iload 5, 2) := by decide +kernel
theorem dX0_send_98 : decode cX0_send 98 = .ok (.iaload, 1) := by decide +kernel
theorem dX0_send_99 : decode cX0_send 99 = .ok (.istore_n 2, 1) := by decide +kernel
theorem dX0_send_100 : decode cX0_send 100 = .ok (.iinc 3 1, 3) := by decide +kernel
theorem dX0_send_103 : decode cX0_send 103 = .ok (.goto (-99), 3) := by decide +kernel
theorem dX0_send_106 : decode cX0_send 106 = .ok (.return_, 1) := by decide +kernel
theorem dX0_sumFor_0 : decode cX0_sumFor 0 = .ok (.iconst 0, 1) := by decide +kernel
theorem dX0_sumFor_1 : decode cX0_sumFor 1 = .ok (.istore_n 2, 1) := by decide +kernel
theorem dX0_sumFor_2 : decode cX0_sumFor 2 = .ok (.iconst 0, 1) := by decide +kernel
theorem dX0_sumFor_3 : decode cX0_sumFor 3 = .ok (.istore_n 3, 1) := by decide +kernel
theorem dX0_sumFor_4 : decode cX0_sumFor 4 = .ok (.iload_n 3, 1) := by decide +kernel
theorem dX0_sumFor_5 : decode cX0_sumFor 5 = .ok (.aload_n 0, 1) := by decide +kernel
theorem dX0_sumFor_6 : decode cX0_sumFor 6 = .ok (.getfield 52, 3) := by decide +kernel
theorem dX0_sumFor_9 : decode cX0_sumFor 9 = .ok (.if_icmp .ge 43, 3) := by decide +kernel
theorem dX0_sumFor_12 : decode cX0_sumFor 12 = .ok (.iload_n 2, 1) := by decide +kernel
theorem dX0_sumFor_13 : decode cX0_sumFor 13 = .ok (.aload_n 0, 1) := by decide +kernel
theorem dX0_sumFor_14 : decode cX0_sumFor 14 = .ok (.getfield 35, 3) := by decide +kernel
theorem dX0_sumFor_17 : decode cX0_sumFor 17 = .ok (.iload_n 3, 1) := by decide +kernel
theorem dX0_sumFor_18 : decode cX0_sumFor 18 = .ok (.iaload, 1) := by decide +kernel
theorem dX0_sumFor_19 : decode cX0_sumFor 19 = .ok (.iload_n 1, 1) := by decide +kernel
theorem dX0_sumFor_20 : decode cX0_sumFor 20 = .ok (.if_icmp .gt 23, 3) := by decide +kernel
theorem dX0_sumFor_23 : decode cX0_sumFor 23 = .ok (.aload_n 0, 1) := by decide +kernel
theorem dX0_sumFor_24 : decode cX0_sumFor 24 = .ok (.getfield 38, 3) := by decide +kernel
theorem dX0_sumFor_27 : decode cX0_sumFor 27 = .ok (.iload_n 3, 1) := by decide +kernel
theorem dX0_sumFor_28 : decode cX0_sumFor 28 = .ok (.iaload, 1) := by decide +kernel
theorem dX0_sumFor_29 : decode cX0_sumFor 29 = .ok (.iload_n 1, 1) := by decide +kernel
theorem dX0_sumFor_30 : decode cX0_sumFor 30 = .ok (.aload_n 0, 1) := by decide +kernel
theorem dX0_sumFor_31 : decode cX0_sumFor 31 = .ok (.getfield 35, 3) := by decide +kernel
theorem dX0_sumFor_34 : decode cX0_sumFor 34 = .ok (.iload_n 3, 1) := by decide +kernel
theorem dX0_sumFor_35 : decode cX0_sumFor 35 = .ok (.iaload, 1) := by decide +kernel
theorem dX0_sumFor_36 : decode cX0_sumFor 36 = .ok (.isub, 1) := by decide +kernel
theorem dX0_sumFor_37 : decode cX0_sumFor 37 = .ok (.iconst 1, 1) := by decide +kernel
theorem dX0_sumFor_38 : decode cX0_sumFor 38 = .ok (.iadd, 1) := by decide +kernel
theorem dX0_sumFor_39 : decode cX0_sumFor 39 = .ok (.imul, 1) := by decide +kernel
theorem dX0_sumFor_40 : decode cX0_sumFor 40 = .ok (.goto 4, 3) := by decide +kernel
theorem dX0_sumFor_43 : decode cX0_sumFor 43 = .ok (.iconst 0, 1) := by decide +kernel
theorem dX0_sumFor_44 : decode cX0_sumFor 44 = .ok (.iadd, 1) := by decide +kernel
theorem dX0_sumFor_45 : decode cX0_sumFor 45 = .ok (.istore_n 2, 1) := by decide +kernel
theorem dX0_sumFor_46 : decode cX0_sumFor 46 = .ok (.iinc 3 1, 3) := by decide +kernel
theorem dX0_sumFor_49 : decode cX0_sumFor 49 = .ok (.goto (-45), 3) := by decide +kernel
theorem dX0_sumFor_52 : decode cX0_sumFor 52 = .ok (.iload_n 2, 1) := by decide +kernel
theorem dX0_sumFor_53 : decode cX0_sumFor 53 = .ok (.ireturn, 1) := by decide +kernel
theorem dX0_quickest_0 : decode cX0_quickest 0 = .ok (.aload_n 0, 1) := by decide +kernel
theorem dX0_quickest_1 : decode cX0_quickest 1 = .ok (.invokevirtual 45, 3) := by decide +kernel
theorem dX0_quickest_4 : decode cX0_quickest 4 = .ok (.iconst 0, 1) := by decide +kernel
theorem dX0_quickest_5 : decode cX0_quickest 5 = .ok (.istore_n 2, 1) := by decide +kernel
theorem dX0_quickest_6 : decode cX0_quickest 6 = .ok (.iload_n 2, 1) := by decide +kernel
theorem dX0_quickest_7 : decode cX0_quickest 7 = .ok (.bipush 12, 2) := by decide +kernel
theorem dX0_quickest_9 : decode cX0_quickest 9 = .ok (.if_icmp .gt 22, 3) := by decide +kernel
theorem dX0_quickest_12 : decode cX0_quickest 12 = .ok (.aload_n 0, 1) := by decide +kernel
theorem dX0_quickest_13 : decode cX0_quickest 13 = .ok (.iload_n 2, 1) := by decide +kernel
theorem dX0_quickest_14 : decode cX0_quickest 14 = .ok (.invokevirtual 48, 3) := by decide +kernel
theorem dX0_quickest_17 : decode cX0_quickest 17 = .ok (.istore_n 3, 1) := by decide +kernel
theorem dX0_quickest_18 : decode cX0_quickest 18 = .ok (.iload_n 3, 1) := by decide +kernel
theorem dX0_quickest_19 : decode cX0_quickest 19 = .ok (.iload_n 1, 1) := by decide +kernel
theorem dX0_quickest_20 : decode cX0_quickest 20 = .ok (.if_icmp .lt 5, 3) := by decide +kernel
theorem dX0_quickest_23 : decode cX0_quickest 23 = .ok (.iload_n 2, 1) := by decide +kernel
theorem dX0_quickest_24 : decode cX0_quickest 24 = .ok (.ireturn, 1) := by decide +kernel
theorem dX0_quickest_25 : decode cX0_quickest 25 = .ok (.iinc 2 1, 3) := by decide +kernel
theorem dX0_quickest_28 : decode cX0_quickest 28 = .ok (.goto (-22), 3) := by decide +kernel
theorem dX0_quickest_31 : decode cX0_quickest 31 = .ok (.iconst (-1), 1) := by decide +kernel
theorem dX0_quickest_32 : decode cX0_quickest 32 = .ok (.ireturn, 1) := by decide +kernel
theorem dX0_first_0 : decode cX0_first 0 = .ok (.aload_n 0, 1) := by decide +kernel
theorem dX0_first_1 : decode cX0_first 1 = .ok (.invokevirtual 45, 3) := by decide +kernel
theorem dX0_first_4 : decode cX0_first 4 = .ok (.aload_n 0, 1) := by decide +kernel
theorem dX0_first_5 : decode cX0_first 5 = .ok (.getfield 52, 3) := by decide +kernel
theorem dX0_first_8 : decode cX0_first 8 = .ok (.ifCond .ne 7, 3) := by decide +kernel
theorem dX0_first_11 : decode cX0_first 11 = .ok (.iconst (-1), 1) := by decide +kernel
theorem dX0_first_12 : decode cX0_first 12 = .ok (.goto 9, 3) := by decide +kernel
theorem dX0_first_15 : decode cX0_first 15 = .ok (.aload_n 0, 1) := by decide +kernel
theorem dX0_first_16 : decode cX0_first 16 = .ok (.getfield 35, 3) := by decide +kernel
theorem dX0_first_19 : decode cX0_first 19 = .ok (.iconst 0, 1) := by decide +kernel
theorem dX0_first_20 : decode cX0_first 20 = .ok (.iaload, 1) := by decide +kernel
theorem dX0_first_21 : decode cX0_first 21 = .ok (.ireturn, 1) := by decide +kernel
theorem dX0_gain_0 : decode cX0_gain 0 = .ok (.iload_n 2, 1) := by decide +kernel
theorem dX0_gain_1 : decode cX0_gain 1 = .ok (.ifCond .lt 21, 3) := by decide +kernel
theorem dX0_gain_4 : decode cX0_gain 4 = .ok (.iload_n 2, 1) := by decide +kernel
theorem dX0_gain_5 : decode cX0_gain 5 = .ok (.bipush 12, 2) := by decide +kernel
theorem dX0_gain_7 : decode cX0_gain 7 = .ok (.if_icmp .gt 15, 3) := by decide +kernel
theorem dX0_gain_10 : decode cX0_gain 10 = .ok (.iload_n 1, 1) := by decide +kernel
theorem dX0_gain_11 : decode cX0_gain 11 = .ok (.ifCond .lt 11, 3) := by decide +kernel
theorem dX0_gain_14 : decode cX0_gain 14 = .ok (.iload_n 1, 1) := by decide +kernel
theorem dX0_gain_15 : decode cX0_gain 15 = .ok (.aload_n 0, 1) := by decide +kernel
theorem dX0_gain_16 : decode cX0_gain 16 = .ok (.getfield 41, 3) := by decide +kernel
theorem dX0_gain_19 : decode cX0_gain 19 = .ok (.if_icmp .lt 5, 3) := by decide +kernel
theorem dX0_gain_22 : decode cX0_gain 22 = .ok (.iconst (-1), 1) := by decide +kernel
theorem dX0_gain_23 : decode cX0_gain 23 = .ok (.ireturn, 1) := by decide +kernel
theorem dX0_gain_24 : decode cX0_gain 24 = .ok (.aload_n 0, 1) := by decide +kernel
theorem dX0_gain_25 : decode cX0_gain 25 = .ok (.invokevirtual 45, 3) := by decide +kernel
theorem dX0_gain_28 : decode cX0_gain 28 = .ok (.aload_n 0, 1) := by decide +kernel
theorem dX0_gain_29 : decode cX0_gain 29 = .ok (.iload_n 2, 1) := by decide +kernel
theorem dX0_gain_30 : decode cX0_gain 30 = .ok (.invokevirtual 48, 3) := by decide +kernel
theorem dX0_gain_33 : decode cX0_gain 33 = .ok (.istore_n 3, 1) := by decide +kernel
theorem dX0_gain_34 : decode cX0_gain 34 = .ok (.aload_n 0, 1) := by decide +kernel
theorem dX0_gain_35 : decode cX0_gain 35 = .ok (.getfield 16, 3) := by decide +kernel
theorem dX0_gain_38 : decode cX0_gain 38 = .ok (.iload_n 1, 1) := by decide +kernel
theorem dX0_gain_39 : decode cX0_gain 39 = .ok (.dup2, 1) := by decide +kernel
theorem dX0_gain_40 : decode cX0_gain 40 = .ok (.iaload, 1) := by decide +kernel
theorem dX0_gain_41 : decode cX0_gain 41 = .ok (.iconst 1, 1) := by decide +kernel
theorem dX0_gain_42 : decode cX0_gain 42 = .ok (.iadd, 1) := by decide +kernel
theorem dX0_gain_43 : decode cX0_gain 43 = .ok (.iastore, 1) := by decide +kernel
theorem dX0_gain_44 : decode cX0_gain 44 = .ok (.aload_n 0, 1) := by decide +kernel
theorem dX0_gain_45 : decode cX0_gain 45 = .ok (.invokevirtual 45, 3) := by decide +kernel
theorem dX0_gain_48 : decode cX0_gain 48 = .ok (.aload_n 0, 1) := by decide +kernel
theorem dX0_gain_49 : decode cX0_gain 49 = .ok (.iload_n 2, 1) := by decide +kernel
theorem dX0_gain_50 : decode cX0_gain 50 = .ok (.invokevirtual 48, 3) := by decide +kernel
theorem dX0_gain_53 : decode cX0_gain 53 = .ok (.istore 4, 2) := by decide +kernel
theorem dX0_gain_55 : decode cX0_gain 55 = .ok (.aload_n 0, 1) := by decide +kernel
theorem dX0_gain_56 : decode cX0_gain 56 = .ok (.getfield 16, 3) := by decide +kernel
theorem dX0_gain_59 : decode cX0_gain 59 = .ok (.iload_n 1, 1) := by decide +kernel
theorem dX0_gain_60 : decode cX0_gain 60 = .ok (.dup2, 1) := by decide +kernel
theorem dX0_gain_61 : decode cX0_gain 61 = .ok (.iaload, 1) := by decide +kernel
theorem dX0_gain_62 : decode cX0_gain 62 = .ok (.iconst 1, 1) := by decide +kernel
theorem dX0_gain_63 : decode cX0_gain 63 = .ok (.isub, 1) := by decide +kernel
theorem dX0_gain_64 : decode cX0_gain 64 = .ok (.iastore, 1) := by decide +kernel
theorem dX0_gain_65 : decode cX0_gain 65 = .ok (.iload 4, 2) := by decide +kernel
theorem dX0_gain_67 : decode cX0_gain 67 = .ok (.iload_n 3, 1) := by decide +kernel
theorem dX0_gain_68 : decode cX0_gain 68 = .ok (.isub, 1) := by decide +kernel
theorem dX0_gain_69 : decode cX0_gain 69 = .ok (.ireturn, 1) := by decide +kernel
theorem dX0_steady_0 : decode cX0_steady 0 = .ok (.aload_n 0, 1) := by decide +kernel
theorem dX0_steady_1 : decode cX0_steady 1 = .ok (.invokevirtual 45, 3) := by decide +kernel
theorem dX0_steady_4 : decode cX0_steady 4 = .ok (.iconst 0, 1) := by decide +kernel
theorem dX0_steady_5 : decode cX0_steady 5 = .ok (.istore_n 1, 1) := by decide +kernel
theorem dX0_steady_6 : decode cX0_steady 6 = .ok (.iconst 0, 1) := by decide +kernel
theorem dX0_steady_7 : decode cX0_steady 7 = .ok (.istore_n 2, 1) := by decide +kernel
theorem dX0_steady_8 : decode cX0_steady 8 = .ok (.iload_n 2, 1) := by decide +kernel
theorem dX0_steady_9 : decode cX0_steady 9 = .ok (.aload_n 0, 1) := by decide +kernel
theorem dX0_steady_10 : decode cX0_steady 10 = .ok (.getfield 52, 3) := by decide +kernel
theorem dX0_steady_13 : decode cX0_steady 13 = .ok (.if_icmp .ge 18, 3) := by decide +kernel
theorem dX0_steady_16 : decode cX0_steady 16 = .ok (.iload_n 1, 1) := by decide +kernel
theorem dX0_steady_17 : decode cX0_steady 17 = .ok (.aload_n 0, 1) := by decide +kernel
theorem dX0_steady_18 : decode cX0_steady 18 = .ok (.getfield 38, 3) := by decide +kernel
theorem dX0_steady_21 : decode cX0_steady 21 = .ok (.iload_n 2, 1) := by decide +kernel
theorem dX0_steady_22 : decode cX0_steady 22 = .ok (.iaload, 1) := by decide +kernel
theorem dX0_steady_23 : decode cX0_steady 23 = .ok (.iadd, 1) := by decide +kernel
theorem dX0_steady_24 : decode cX0_steady 24 = .ok (.istore_n 1, 1) := by decide +kernel
theorem dX0_steady_25 : decode cX0_steady 25 = .ok (.iinc 2 1, 3) := by decide +kernel
theorem dX0_steady_28 : decode cX0_steady 28 = .ok (.goto (-20), 3) := by decide +kernel
theorem dX0_steady_31 : decode cX0_steady 31 = .ok (.iload_n 1, 1) := by decide +kernel
theorem dX0_steady_32 : decode cX0_steady 32 = .ok (.ireturn, 1) := by decide +kernel
end
section
/-! QuickestFlowModel -/
set_option maxRecDepth 100000
def RX1 : String := "QuickestFlowModel"
def TX1 : u_T := fun k => match k with
  | 0 => ("QuickestFlowModel", "held", "I", false)
  | 1 => ("QuickestFlowModel", "froms", "[I", true)
  | 2 => ("QuickestFlowModel", "tos", "[I", true)
  | 3 => ("QuickestFlowModel", "widths", "[I", true)
  | 4 => ("QuickestFlowModel", "times", "[I", true)
  | 5 => ("QuickestFlowModel", "edges", "I", false)
  | 6 => ("QuickestFlowModel", "starts", "[I", true)
  | 7 => ("QuickestFlowModel", "ends", "[I", true)
  | 8 => ("QuickestFlowModel", "rooms", "[I", true)
  | 9 => ("QuickestFlowModel", "flows", "[I", true)
  | 10 => ("QuickestFlowModel", "came", "[I", true)
  | _ => ("QuickestFlowModel", "queue", "[I", true)
def tyX1 : Nat → FieldType := fun k => match k with
  | 0 => .int
  | 1 => .array .int
  | 2 => .array .int
  | 3 => .array .int
  | 4 => .array .int
  | 5 => .int
  | 6 => .array .int
  | 7 => .array .int
  | 8 => .array .int
  | 9 => .array .int
  | 10 => .array .int
  | _ => .array .int
abbrev wsX10 : List Cond := u_ws RX1 TX1 12
theorem nmX1 : ∀ a, a < 12 → ∀ b, b < 12 → a ≠ b → (TX1 a).2.1 ≠ (TX1 b).2.1 := by decide +kernel
theorem tyX1_ok : ∀ k, k < 12 → parseFieldDescriptor (TX1 k).2.2.1 = some (tyX1 k) := by decide +kernel
abbrev cX1_init : ByteArray := prog_3_method_1_code
def yX1_init : MethodName := ⟨RX1, "<init>", "()V"⟩
abbrev cX1_add : ByteArray := prog_3_method_3_code
def yX1_add : MethodName := ⟨RX1, "add", "(IIII)I"⟩
abbrev cX1_badPlace : ByteArray := prog_3_method_2_code
def yX1_badPlace : MethodName := ⟨RX1, "badPlace", "(I)Z"⟩
abbrev cX1_drop : ByteArray := prog_3_method_4_code
def yX1_drop : MethodName := ⟨RX1, "drop", "(I)I"⟩
abbrev cX1_arrived : ByteArray := prog_3_method_11_code
def yX1_arrived : MethodName := ⟨RX1, "arrived", "(I)I"⟩
abbrev cX1_badMoment : ByteArray := prog_3_method_10_code
def yX1_badMoment : MethodName := ⟨RX1, "badMoment", "(I)Z"⟩
abbrev cX1_flow : ByteArray := prog_3_method_9_code
def yX1_flow : MethodName := ⟨RX1, "flow", "(IZ)I"⟩
abbrev cX1_build : ByteArray := prog_3_method_6_code
def yX1_build : MethodName := ⟨RX1, "build", "(IZ)V"⟩
abbrev cX1_edge : ByteArray := prog_3_method_5_code
def yX1_edge : MethodName := ⟨RX1, "edge", "(III)V"⟩
abbrev cX1_search : ByteArray := prog_3_method_7_code
def yX1_search : MethodName := ⟨RX1, "search", "(I)Z"⟩
abbrev cX1_send : ByteArray := prog_3_method_8_code
def yX1_send : MethodName := ⟨RX1, "send", "(I)V"⟩
abbrev cX1_quickest : ByteArray := prog_3_method_12_code
def yX1_quickest : MethodName := ⟨RX1, "quickest", "(I)I"⟩
abbrev cX1_first : ByteArray := prog_3_method_13_code
def yX1_first : MethodName := ⟨RX1, "first", "()I"⟩
abbrev cX1_gain : ByteArray := prog_3_method_14_code
def yX1_gain : MethodName := ⟨RX1, "gain", "(II)I"⟩
abbrev cX1_steady : ByteArray := prog_3_method_15_code
def yX1_steady : MethodName := ⟨RX1, "steady", "()I"⟩
theorem q13 : (Jvm.Cond.initialized "QuickestFlowModel") ∈ lw_all := lw_g (lw_at lw_m0 2 rfl) rfl
theorem q114 : (Jvm.Cond.instantiable "QuickestFlowModel" (12 : Nat)) ∈ lw_all := lw_g (lw_at lw_m0 103 rfl) rfl
theorem q116 : (Jvm.Cond.instanceMethod ({ cls := "QuickestFlowModel", name := "<init>", desc := "()V" } : Jvm.MethodName)) ∈ lw_all := lw_g (lw_at lw_m0 105 rfl) rfl
theorem q117 : (Jvm.Cond.code ({ cls := "QuickestFlowModel", name := "<init>", desc := "()V" } : Jvm.MethodName) prog_3_method_1_code (1 : Nat) (Option.none : Option Jvm.ClassFile.FieldType)) ∈ lw_all := lw_g (lw_at lw_m0 106 rfl) rfl
theorem q118 : (Jvm.Cond.methodLink "QuickestFlowModel" (1 : Nat) ({ cls := "java/lang/Object", name := "<init>", desc := "()V" } : Jvm.MethodName)) ∈ lw_all := lw_g (lw_at lw_m0 107 rfl) rfl
theorem q119 : (Jvm.Cond.fieldLink "QuickestFlowModel" (40 : Nat) "QuickestFlowModel" "held" "I") ∈ lw_all := lw_g (lw_at lw_m0 108 rfl) rfl
theorem q120 : (Jvm.Cond.fieldLink "QuickestFlowModel" (7 : Nat) "QuickestFlowModel" "froms" "[I") ∈ lw_all := lw_g (lw_at lw_m0 109 rfl) rfl
theorem q121 : (Jvm.Cond.fieldLink "QuickestFlowModel" (13 : Nat) "QuickestFlowModel" "tos" "[I") ∈ lw_all := lw_g (lw_at lw_m0 110 rfl) rfl
theorem q122 : (Jvm.Cond.fieldLink "QuickestFlowModel" (16 : Nat) "QuickestFlowModel" "widths" "[I") ∈ lw_all := lw_g (lw_at lw_m0 111 rfl) rfl
theorem q123 : (Jvm.Cond.fieldLink "QuickestFlowModel" (19 : Nat) "QuickestFlowModel" "times" "[I") ∈ lw_all := lw_g (lw_at lw_m0 112 rfl) rfl
theorem q124 : (Jvm.Cond.fieldLink "QuickestFlowModel" (48 : Nat) "QuickestFlowModel" "edges" "I") ∈ lw_all := lw_g (lw_at lw_m0 113 rfl) rfl
theorem q125 : (Jvm.Cond.fieldLink "QuickestFlowModel" (22 : Nat) "QuickestFlowModel" "starts" "[I") ∈ lw_all := lw_g (lw_at lw_m0 114 rfl) rfl
theorem q126 : (Jvm.Cond.fieldLink "QuickestFlowModel" (25 : Nat) "QuickestFlowModel" "ends" "[I") ∈ lw_all := lw_g (lw_at lw_m0 115 rfl) rfl
theorem q127 : (Jvm.Cond.fieldLink "QuickestFlowModel" (28 : Nat) "QuickestFlowModel" "rooms" "[I") ∈ lw_all := lw_g (lw_at lw_m0 116 rfl) rfl
theorem q128 : (Jvm.Cond.fieldLink "QuickestFlowModel" (31 : Nat) "QuickestFlowModel" "flows" "[I") ∈ lw_all := lw_g (lw_at lw_m0 117 rfl) rfl
theorem q129 : (Jvm.Cond.fieldLink "QuickestFlowModel" (34 : Nat) "QuickestFlowModel" "came" "[I") ∈ lw_all := lw_g (lw_at lw_m0 118 rfl) rfl
theorem q130 : (Jvm.Cond.fieldLink "QuickestFlowModel" (37 : Nat) "QuickestFlowModel" "queue" "[I") ∈ lw_all := lw_g (lw_at lw_m0 119 rfl) rfl
theorem q131 : (Jvm.Cond.lays "QuickestFlowModel" "QuickestFlowModel" "held" "I") ∈ lw_all := lw_g (lw_at lw_m0 120 rfl) rfl
theorem q132 : (Jvm.Cond.soleField "QuickestFlowModel" "held") ∈ lw_all := lw_g (lw_at lw_m0 121 rfl) rfl
theorem q133 : (Jvm.Cond.laysFinal "QuickestFlowModel" "QuickestFlowModel" "froms" "[I") ∈ lw_all := lw_g (lw_at lw_m0 122 rfl) rfl
theorem q134 : (Jvm.Cond.soleField "QuickestFlowModel" "froms") ∈ lw_all := lw_g (lw_at lw_m0 123 rfl) rfl
theorem q135 : (Jvm.Cond.laysFinal "QuickestFlowModel" "QuickestFlowModel" "tos" "[I") ∈ lw_all := lw_g (lw_at lw_m0 124 rfl) rfl
theorem q136 : (Jvm.Cond.soleField "QuickestFlowModel" "tos") ∈ lw_all := lw_g (lw_at lw_m0 125 rfl) rfl
theorem q137 : (Jvm.Cond.laysFinal "QuickestFlowModel" "QuickestFlowModel" "widths" "[I") ∈ lw_all := lw_g (lw_at lw_m0 126 rfl) rfl
theorem q138 : (Jvm.Cond.soleField "QuickestFlowModel" "widths") ∈ lw_all := lw_g (lw_at lw_m0 127 rfl) rfl
theorem q139 : (Jvm.Cond.laysFinal "QuickestFlowModel" "QuickestFlowModel" "times" "[I") ∈ lw_all := lw_g (lw_at lw_m0 128 rfl) rfl
theorem q140 : (Jvm.Cond.soleField "QuickestFlowModel" "times") ∈ lw_all := lw_g (lw_at lw_m0 129 rfl) rfl
theorem q141 : (Jvm.Cond.lays "QuickestFlowModel" "QuickestFlowModel" "edges" "I") ∈ lw_all := lw_g (lw_at lw_m0 130 rfl) rfl
theorem q142 : (Jvm.Cond.soleField "QuickestFlowModel" "edges") ∈ lw_all := lw_g (lw_at lw_m0 131 rfl) rfl
theorem q143 : (Jvm.Cond.laysFinal "QuickestFlowModel" "QuickestFlowModel" "starts" "[I") ∈ lw_all := lw_g (lw_at lw_m0 132 rfl) rfl
theorem q144 : (Jvm.Cond.soleField "QuickestFlowModel" "starts") ∈ lw_all := lw_g (lw_at lw_m0 133 rfl) rfl
theorem q145 : (Jvm.Cond.laysFinal "QuickestFlowModel" "QuickestFlowModel" "ends" "[I") ∈ lw_all := lw_g (lw_at lw_m0 134 rfl) rfl
theorem q146 : (Jvm.Cond.soleField "QuickestFlowModel" "ends") ∈ lw_all := lw_g (lw_at lw_m0 135 rfl) rfl
theorem q147 : (Jvm.Cond.laysFinal "QuickestFlowModel" "QuickestFlowModel" "rooms" "[I") ∈ lw_all := lw_g (lw_at lw_m0 136 rfl) rfl
theorem q148 : (Jvm.Cond.soleField "QuickestFlowModel" "rooms") ∈ lw_all := lw_g (lw_at lw_m0 137 rfl) rfl
theorem q149 : (Jvm.Cond.laysFinal "QuickestFlowModel" "QuickestFlowModel" "flows" "[I") ∈ lw_all := lw_g (lw_at lw_m0 138 rfl) rfl
theorem q150 : (Jvm.Cond.soleField "QuickestFlowModel" "flows") ∈ lw_all := lw_g (lw_at lw_m0 139 rfl) rfl
theorem q151 : (Jvm.Cond.laysFinal "QuickestFlowModel" "QuickestFlowModel" "came" "[I") ∈ lw_all := lw_g (lw_at lw_m0 140 rfl) rfl
theorem q152 : (Jvm.Cond.soleField "QuickestFlowModel" "came") ∈ lw_all := lw_g (lw_at lw_m0 141 rfl) rfl
theorem q153 : (Jvm.Cond.laysFinal "QuickestFlowModel" "QuickestFlowModel" "queue" "[I") ∈ lw_all := lw_g (lw_at lw_m0 142 rfl) rfl
theorem q154 : (Jvm.Cond.soleField "QuickestFlowModel" "queue") ∈ lw_all := lw_g (lw_at lw_m0 143 rfl) rfl
theorem q155 : (Jvm.Cond.superclass "QuickestFlowModel" "java/lang/Object") ∈ lw_all := lw_g (lw_at lw_m0 144 rfl) rfl
theorem q157 : (Jvm.Cond.instanceMethod ({ cls := "QuickestFlowModel", name := "add", desc := "(IIII)I" } : Jvm.MethodName)) ∈ lw_all := lw_g (lw_at lw_m0 146 rfl) rfl
theorem q158 : (Jvm.Cond.selects "QuickestFlowModel" ({ cls := "QuickestFlowModel", name := "add", desc := "(IIII)I" } : Jvm.MethodName) ({ cls := "QuickestFlowModel", name := "add", desc := "(IIII)I" } : Jvm.MethodName)) ∈ lw_all := lw_g (lw_at lw_m0 147 rfl) rfl
theorem q159 : (Jvm.Cond.code ({ cls := "QuickestFlowModel", name := "add", desc := "(IIII)I" } : Jvm.MethodName) prog_3_method_3_code (5 : Nat) (Option.some Jvm.ClassFile.FieldType.int)) ∈ lw_all := lw_g (lw_at lw_m0 148 rfl) rfl
theorem q160 : (Jvm.Cond.methodLink "QuickestFlowModel" (44 : Nat) ({ cls := "QuickestFlowModel", name := "badPlace", desc := "(I)Z" } : Jvm.MethodName)) ∈ lw_all := lw_g (lw_at lw_m0 149 rfl) rfl
theorem q161 : (Jvm.Cond.static ({ cls := "QuickestFlowModel", name := "badPlace", desc := "(I)Z" } : Jvm.MethodName)) ∈ lw_all := lw_g (lw_at lw_m0 150 rfl) rfl
theorem q162 : (Jvm.Cond.code ({ cls := "QuickestFlowModel", name := "badPlace", desc := "(I)Z" } : Jvm.MethodName) prog_3_method_2_code (1 : Nat) (Option.some Jvm.ClassFile.FieldType.boolean)) ∈ lw_all := lw_g (lw_at lw_m0 151 rfl) rfl
theorem q164 : (Jvm.Cond.instanceMethod ({ cls := "QuickestFlowModel", name := "drop", desc := "(I)I" } : Jvm.MethodName)) ∈ lw_all := lw_g (lw_at lw_m0 153 rfl) rfl
theorem q165 : (Jvm.Cond.selects "QuickestFlowModel" ({ cls := "QuickestFlowModel", name := "drop", desc := "(I)I" } : Jvm.MethodName) ({ cls := "QuickestFlowModel", name := "drop", desc := "(I)I" } : Jvm.MethodName)) ∈ lw_all := lw_g (lw_at lw_m0 154 rfl) rfl
theorem q166 : (Jvm.Cond.code ({ cls := "QuickestFlowModel", name := "drop", desc := "(I)I" } : Jvm.MethodName) prog_3_method_4_code (3 : Nat) (Option.some Jvm.ClassFile.FieldType.int)) ∈ lw_all := lw_g (lw_at lw_m0 155 rfl) rfl
theorem q168 : (Jvm.Cond.instanceMethod ({ cls := "QuickestFlowModel", name := "arrived", desc := "(I)I" } : Jvm.MethodName)) ∈ lw_all := lw_g (lw_at lw_m0 157 rfl) rfl
theorem q169 : (Jvm.Cond.selects "QuickestFlowModel" ({ cls := "QuickestFlowModel", name := "arrived", desc := "(I)I" } : Jvm.MethodName) ({ cls := "QuickestFlowModel", name := "arrived", desc := "(I)I" } : Jvm.MethodName)) ∈ lw_all := lw_g (lw_at lw_m0 158 rfl) rfl
theorem q170 : (Jvm.Cond.code ({ cls := "QuickestFlowModel", name := "arrived", desc := "(I)I" } : Jvm.MethodName) prog_3_method_11_code (2 : Nat) (Option.some Jvm.ClassFile.FieldType.int)) ∈ lw_all := lw_g (lw_at lw_m0 159 rfl) rfl
theorem q171 : (Jvm.Cond.methodLink "QuickestFlowModel" (67 : Nat) ({ cls := "QuickestFlowModel", name := "badMoment", desc := "(I)Z" } : Jvm.MethodName)) ∈ lw_all := lw_g (lw_at lw_m0 160 rfl) rfl
theorem q172 : (Jvm.Cond.static ({ cls := "QuickestFlowModel", name := "badMoment", desc := "(I)Z" } : Jvm.MethodName)) ∈ lw_all := lw_g (lw_at lw_m0 161 rfl) rfl
theorem q173 : (Jvm.Cond.code ({ cls := "QuickestFlowModel", name := "badMoment", desc := "(I)Z" } : Jvm.MethodName) prog_3_method_10_code (1 : Nat) (Option.some Jvm.ClassFile.FieldType.boolean)) ∈ lw_all := lw_g (lw_at lw_m0 162 rfl) rfl
theorem q174 : (Jvm.Cond.methodLink "QuickestFlowModel" (70 : Nat) ({ cls := "QuickestFlowModel", name := "flow", desc := "(IZ)I" } : Jvm.MethodName)) ∈ lw_all := lw_g (lw_at lw_m0 163 rfl) rfl
theorem q175 : (Jvm.Cond.privateMethod ({ cls := "QuickestFlowModel", name := "flow", desc := "(IZ)I" } : Jvm.MethodName)) ∈ lw_tbl := lw_at lw_m0 164 rfl
theorem q176 : (Jvm.Cond.instanceMethod ({ cls := "QuickestFlowModel", name := "flow", desc := "(IZ)I" } : Jvm.MethodName)) ∈ lw_all := lw_g (lw_at lw_m0 165 rfl) rfl
theorem q177 : (Jvm.Cond.code ({ cls := "QuickestFlowModel", name := "flow", desc := "(IZ)I" } : Jvm.MethodName) prog_3_method_9_code (5 : Nat) (Option.some Jvm.ClassFile.FieldType.int)) ∈ lw_all := lw_g (lw_at lw_m0 166 rfl) rfl
theorem q178 : (Jvm.Cond.methodLink "QuickestFlowModel" (56 : Nat) ({ cls := "QuickestFlowModel", name := "build", desc := "(IZ)V" } : Jvm.MethodName)) ∈ lw_all := lw_g (lw_at lw_m0 167 rfl) rfl
theorem q179 : (Jvm.Cond.privateMethod ({ cls := "QuickestFlowModel", name := "build", desc := "(IZ)V" } : Jvm.MethodName)) ∈ lw_tbl := lw_at lw_m0 168 rfl
theorem q180 : (Jvm.Cond.instanceMethod ({ cls := "QuickestFlowModel", name := "build", desc := "(IZ)V" } : Jvm.MethodName)) ∈ lw_all := lw_g (lw_at lw_m0 169 rfl) rfl
theorem q181 : (Jvm.Cond.code ({ cls := "QuickestFlowModel", name := "build", desc := "(IZ)V" } : Jvm.MethodName) prog_3_method_6_code (6 : Nat) (Option.none : Option Jvm.ClassFile.FieldType)) ∈ lw_all := lw_g (lw_at lw_m0 170 rfl) rfl
theorem q182 : (Jvm.Cond.methodLink "QuickestFlowModel" (51 : Nat) ({ cls := "QuickestFlowModel", name := "edge", desc := "(III)V" } : Jvm.MethodName)) ∈ lw_all := lw_g (lw_at lw_m0 171 rfl) rfl
theorem q183 : (Jvm.Cond.privateMethod ({ cls := "QuickestFlowModel", name := "edge", desc := "(III)V" } : Jvm.MethodName)) ∈ lw_tbl := lw_at lw_m0 172 rfl
theorem q184 : (Jvm.Cond.instanceMethod ({ cls := "QuickestFlowModel", name := "edge", desc := "(III)V" } : Jvm.MethodName)) ∈ lw_all := lw_g (lw_at lw_m0 173 rfl) rfl
theorem q185 : (Jvm.Cond.code ({ cls := "QuickestFlowModel", name := "edge", desc := "(III)V" } : Jvm.MethodName) prog_3_method_5_code (4 : Nat) (Option.none : Option Jvm.ClassFile.FieldType)) ∈ lw_all := lw_g (lw_at lw_m0 174 rfl) rfl
theorem q186 : (Jvm.Cond.constant "QuickestFlowModel" (55 : Nat) (100000 : Int32)) ∈ lw_all := lw_g (lw_at lw_m0 175 rfl) rfl
theorem q187 : (Jvm.Cond.methodLink "QuickestFlowModel" (60 : Nat) ({ cls := "QuickestFlowModel", name := "search", desc := "(I)Z" } : Jvm.MethodName)) ∈ lw_all := lw_g (lw_at lw_m0 176 rfl) rfl
theorem q188 : (Jvm.Cond.privateMethod ({ cls := "QuickestFlowModel", name := "search", desc := "(I)Z" } : Jvm.MethodName)) ∈ lw_tbl := lw_at lw_m0 177 rfl
theorem q189 : (Jvm.Cond.instanceMethod ({ cls := "QuickestFlowModel", name := "search", desc := "(I)Z" } : Jvm.MethodName)) ∈ lw_all := lw_g (lw_at lw_m0 178 rfl) rfl
theorem q190 : (Jvm.Cond.code ({ cls := "QuickestFlowModel", name := "search", desc := "(I)Z" } : Jvm.MethodName) prog_3_method_7_code (8 : Nat) (Option.some Jvm.ClassFile.FieldType.boolean)) ∈ lw_all := lw_g (lw_at lw_m0 179 rfl) rfl
theorem q191 : (Jvm.Cond.methodLink "QuickestFlowModel" (63 : Nat) ({ cls := "QuickestFlowModel", name := "send", desc := "(I)V" } : Jvm.MethodName)) ∈ lw_all := lw_g (lw_at lw_m0 180 rfl) rfl
theorem q192 : (Jvm.Cond.privateMethod ({ cls := "QuickestFlowModel", name := "send", desc := "(I)V" } : Jvm.MethodName)) ∈ lw_tbl := lw_at lw_m0 181 rfl
theorem q193 : (Jvm.Cond.instanceMethod ({ cls := "QuickestFlowModel", name := "send", desc := "(I)V" } : Jvm.MethodName)) ∈ lw_all := lw_g (lw_at lw_m0 182 rfl) rfl
theorem q194 : (Jvm.Cond.code ({ cls := "QuickestFlowModel", name := "send", desc := "(I)V" } : Jvm.MethodName) prog_3_method_8_code (4 : Nat) (Option.none : Option Jvm.ClassFile.FieldType)) ∈ lw_all := lw_g (lw_at lw_m0 183 rfl) rfl
theorem q196 : (Jvm.Cond.instanceMethod ({ cls := "QuickestFlowModel", name := "quickest", desc := "(I)I" } : Jvm.MethodName)) ∈ lw_all := lw_g (lw_at lw_m0 185 rfl) rfl
theorem q197 : (Jvm.Cond.selects "QuickestFlowModel" ({ cls := "QuickestFlowModel", name := "quickest", desc := "(I)I" } : Jvm.MethodName) ({ cls := "QuickestFlowModel", name := "quickest", desc := "(I)I" } : Jvm.MethodName)) ∈ lw_all := lw_g (lw_at lw_m0 186 rfl) rfl
theorem q198 : (Jvm.Cond.code ({ cls := "QuickestFlowModel", name := "quickest", desc := "(I)I" } : Jvm.MethodName) prog_3_method_12_code (3 : Nat) (Option.some Jvm.ClassFile.FieldType.int)) ∈ lw_all := lw_g (lw_at lw_m0 187 rfl) rfl
theorem q200 : (Jvm.Cond.instanceMethod ({ cls := "QuickestFlowModel", name := "first", desc := "()I" } : Jvm.MethodName)) ∈ lw_all := lw_g (lw_at lw_m0 189 rfl) rfl
theorem q201 : (Jvm.Cond.selects "QuickestFlowModel" ({ cls := "QuickestFlowModel", name := "first", desc := "()I" } : Jvm.MethodName) ({ cls := "QuickestFlowModel", name := "first", desc := "()I" } : Jvm.MethodName)) ∈ lw_all := lw_g (lw_at lw_m0 190 rfl) rfl
theorem q202 : (Jvm.Cond.code ({ cls := "QuickestFlowModel", name := "first", desc := "()I" } : Jvm.MethodName) prog_3_method_13_code (1 : Nat) (Option.some Jvm.ClassFile.FieldType.int)) ∈ lw_all := lw_g (lw_at lw_m0 191 rfl) rfl
theorem q203 : (Jvm.Cond.methodLink "QuickestFlowModel" (74 : Nat) ({ cls := "QuickestFlowModel", name := "quickest", desc := "(I)I" } : Jvm.MethodName)) ∈ lw_all := lw_g (lw_at lw_m0 192 rfl) rfl
theorem q205 : (Jvm.Cond.instanceMethod ({ cls := "QuickestFlowModel", name := "gain", desc := "(II)I" } : Jvm.MethodName)) ∈ lw_all := lw_g (lw_at lw_m0 194 rfl) rfl
theorem q206 : (Jvm.Cond.selects "QuickestFlowModel" ({ cls := "QuickestFlowModel", name := "gain", desc := "(II)I" } : Jvm.MethodName) ({ cls := "QuickestFlowModel", name := "gain", desc := "(II)I" } : Jvm.MethodName)) ∈ lw_all := lw_g (lw_at lw_m0 195 rfl) rfl
theorem q207 : (Jvm.Cond.code ({ cls := "QuickestFlowModel", name := "gain", desc := "(II)I" } : Jvm.MethodName) prog_3_method_14_code (5 : Nat) (Option.some Jvm.ClassFile.FieldType.int)) ∈ lw_all := lw_g (lw_at lw_m0 196 rfl) rfl
theorem q209 : (Jvm.Cond.instanceMethod ({ cls := "QuickestFlowModel", name := "steady", desc := "()I" } : Jvm.MethodName)) ∈ lw_all := lw_g (lw_at lw_m0 198 rfl) rfl
theorem q210 : (Jvm.Cond.selects "QuickestFlowModel" ({ cls := "QuickestFlowModel", name := "steady", desc := "()I" } : Jvm.MethodName) ({ cls := "QuickestFlowModel", name := "steady", desc := "()I" } : Jvm.MethodName)) ∈ lw_all := lw_g (lw_at lw_m0 199 rfl) rfl
theorem q211 : (Jvm.Cond.code ({ cls := "QuickestFlowModel", name := "steady", desc := "()I" } : Jvm.MethodName) prog_3_method_15_code (1 : Nat) (Option.some Jvm.ClassFile.FieldType.int)) ∈ lw_all := lw_g (lw_at lw_m0 200 rfl) rfl
theorem in_X1 : ∀ w ∈ wsX10, w ∈ lw_all := lw_in wsX10 [131, 133, 135, 137, 139, 141, 143, 145, 147, 149, 151, 153] (by decide +kernel) (by decide +kernel)
end
section
set_option maxRecDepth 100000
theorem dX1_init_0 : decode cX1_init 0 = .ok (.aload_n 0, 1) := by decide +kernel
theorem dX1_init_1 : decode cX1_init 1 = .ok (.invokespecial 1, 3) := by decide +kernel
theorem dX1_init_4 : decode cX1_init 4 = .ok (.aload_n 0, 1) := by decide +kernel
theorem dX1_init_5 : decode cX1_init 5 = .ok (.bipush 8, 2) := by decide +kernel
theorem dX1_init_7 : decode cX1_init 7 = .ok (.newarray .int, 2) := by decide +kernel
theorem dX1_init_9 : decode cX1_init 9 = .ok (.putfield 7, 3) := by decide +kernel
theorem dX1_init_12 : decode cX1_init 12 = .ok (.aload_n 0, 1) := by decide +kernel
theorem dX1_init_13 : decode cX1_init 13 = .ok (.bipush 8, 2) := by decide +kernel
theorem dX1_init_15 : decode cX1_init 15 = .ok (.newarray .int, 2) := by decide +kernel
theorem dX1_init_17 : decode cX1_init 17 = .ok (.putfield 13, 3) := by decide +kernel
theorem dX1_init_20 : decode cX1_init 20 = .ok (.aload_n 0, 1) := by decide +kernel
theorem dX1_init_21 : decode cX1_init 21 = .ok (.bipush 8, 2) := by decide +kernel
theorem dX1_init_23 : decode cX1_init 23 = .ok (.newarray .int, 2) := by decide +kernel
theorem dX1_init_25 : decode cX1_init 25 = .ok (.putfield 16, 3) := by decide +kernel
theorem dX1_init_28 : decode cX1_init 28 = .ok (.aload_n 0, 1) := by decide +kernel
theorem dX1_init_29 : decode cX1_init 29 = .ok (.bipush 8, 2) := by decide +kernel
theorem dX1_init_31 : decode cX1_init 31 = .ok (.newarray .int, 2) := by decide +kernel
theorem dX1_init_33 : decode cX1_init 33 = .ok (.putfield 19, 3) := by decide +kernel
theorem dX1_init_36 : decode cX1_init 36 = .ok (.aload_n 0, 1) := by decide +kernel
theorem dX1_init_37 : decode cX1_init 37 = .ok (.sipush 170, 3) := by decide +kernel
theorem dX1_init_40 : decode cX1_init 40 = .ok (.newarray .int, 2) := by decide +kernel
theorem dX1_init_42 : decode cX1_init 42 = .ok (.putfield 22, 3) := by decide +kernel
theorem dX1_init_45 : decode cX1_init 45 = .ok (.aload_n 0, 1) := by decide +kernel
theorem dX1_init_46 : decode cX1_init 46 = .ok (.sipush 170, 3) := by decide +kernel
theorem dX1_init_49 : decode cX1_init 49 = .ok (.newarray .int, 2) := by decide +kernel
theorem dX1_init_51 : decode cX1_init 51 = .ok (.putfield 25, 3) := by decide +kernel
theorem dX1_init_54 : decode cX1_init 54 = .ok (.aload_n 0, 1) := by decide +kernel
theorem dX1_init_55 : decode cX1_init 55 = .ok (.sipush 170, 3) := by decide +kernel
theorem dX1_init_58 : decode cX1_init 58 = .ok (.newarray .int, 2) := by decide +kernel
theorem dX1_init_60 : decode cX1_init 60 = .ok (.putfield 28, 3) := by decide +kernel
theorem dX1_init_63 : decode cX1_init 63 = .ok (.aload_n 0, 1) := by decide +kernel
theorem dX1_init_64 : decode cX1_init 64 = .ok (.sipush 170, 3) := by decide +kernel
theorem dX1_init_67 : decode cX1_init 67 = .ok (.newarray .int, 2) := by decide +kernel
theorem dX1_init_69 : decode cX1_init 69 = .ok (.putfield 31, 3) := by decide +kernel
theorem dX1_init_72 : decode cX1_init 72 = .ok (.aload_n 0, 1) := by decide +kernel
theorem dX1_init_73 : decode cX1_init 73 = .ok (.bipush 65, 2) := by decide +kernel
theorem dX1_init_75 : decode cX1_init 75 = .ok (.newarray .int, 2) := by decide +kernel
theorem dX1_init_77 : decode cX1_init 77 = .ok (.putfield 34, 3) := by decide +kernel
theorem dX1_init_80 : decode cX1_init 80 = .ok (.aload_n 0, 1) := by decide +kernel
theorem dX1_init_81 : decode cX1_init 81 = .ok (.bipush 65, 2) := by decide +kernel
theorem dX1_init_83 : decode cX1_init 83 = .ok (.newarray .int, 2) := by decide +kernel
theorem dX1_init_85 : decode cX1_init 85 = .ok (.putfield 37, 3) := by decide +kernel
theorem dX1_init_88 : decode cX1_init 88 = .ok (.return_, 1) := by decide +kernel
theorem dX1_add_0 : decode cX1_add 0 = .ok (.aload_n 0, 1) := by decide +kernel
theorem dX1_add_1 : decode cX1_add 1 = .ok (.getfield 40, 3) := by decide +kernel
theorem dX1_add_4 : decode cX1_add 4 = .ok (.bipush 8, 2) := by decide +kernel
theorem dX1_add_6 : decode cX1_add 6 = .ok (.if_icmp .eq 43, 3) := by decide +kernel
theorem dX1_add_9 : decode cX1_add 9 = .ok (.iload_n 1, 1) := by decide +kernel
theorem dX1_add_10 : decode cX1_add 10 = .ok (.invokestatic 44, 3) := by decide +kernel
theorem dX1_add_13 : decode cX1_add 13 = .ok (.ifCond .ne 36, 3) := by decide +kernel
theorem dX1_add_16 : decode cX1_add 16 = .ok (.iload_n 2, 1) := by decide +kernel
theorem dX1_add_17 : decode cX1_add 17 = .ok (.invokestatic 44, 3) := by decide +kernel
theorem dX1_add_20 : decode cX1_add 20 = .ok (.ifCond .ne 29, 3) := by decide +kernel
theorem dX1_add_23 : decode cX1_add 23 = .ok (.iload_n 1, 1) := by decide +kernel
theorem dX1_add_24 : decode cX1_add 24 = .ok (.iload_n 2, 1) := by decide +kernel
theorem dX1_add_25 : decode cX1_add 25 = .ok (.if_icmp .eq 24, 3) := by decide +kernel
theorem dX1_add_28 : decode cX1_add 28 = .ok (.iload_n 3, 1) := by decide +kernel
theorem dX1_add_29 : decode cX1_add 29 = .ok (.iconst 1, 1) := by decide +kernel
theorem dX1_add_30 : decode cX1_add 30 = .ok (.if_icmp .lt 19, 3) := by decide +kernel
theorem dX1_add_33 : decode cX1_add 33 = .ok (.iload_n 3, 1) := by decide +kernel
theorem dX1_add_34 : decode cX1_add 34 = .ok (.iconst 4, 1) := by decide +kernel
theorem dX1_add_35 : decode cX1_add 35 = .ok (.if_icmp .gt 14, 3) := by decide +kernel
theorem dX1_add_38 : decode cX1_add 38 = .ok (.iload 4, 2) := by decide +kernel
theorem dX1_add_40 : decode cX1_add 40 = .ok (.ifCond .lt 9, 3) := by decide +kernel
theorem dX1_add_43 : decode cX1_add 43 = .ok (.iload 4, 2) := by decide +kernel
theorem dX1_add_45 : decode cX1_add 45 = .ok (.iconst 3, 1) := by decide +kernel
theorem dX1_add_46 : decode cX1_add 46 = .ok (.if_icmp .le 5, 3) := by decide +kernel
theorem dX1_add_49 : decode cX1_add 49 = .ok (.iconst (-1), 1) := by decide +kernel
theorem dX1_add_50 : decode cX1_add 50 = .ok (.ireturn, 1) := by decide +kernel
theorem dX1_add_51 : decode cX1_add 51 = .ok (.aload_n 0, 1) := by decide +kernel
theorem dX1_add_52 : decode cX1_add 52 = .ok (.getfield 7, 3) := by decide +kernel
theorem dX1_add_55 : decode cX1_add 55 = .ok (.aload_n 0, 1) := by decide +kernel
theorem dX1_add_56 : decode cX1_add 56 = .ok (.getfield 40, 3) := by decide +kernel
theorem dX1_add_59 : decode cX1_add 59 = .ok (.iload_n 1, 1) := by decide +kernel
theorem dX1_add_60 : decode cX1_add 60 = .ok (.iastore, 1) := by decide +kernel
theorem dX1_add_61 : decode cX1_add 61 = .ok (.aload_n 0, 1) := by decide +kernel
theorem dX1_add_62 : decode cX1_add 62 = .ok (.getfield 13, 3) := by decide +kernel
theorem dX1_add_65 : decode cX1_add 65 = .ok (.aload_n 0, 1) := by decide +kernel
theorem dX1_add_66 : decode cX1_add 66 = .ok (.getfield 40, 3) := by decide +kernel
theorem dX1_add_69 : decode cX1_add 69 = .ok (.iload_n 2, 1) := by decide +kernel
theorem dX1_add_70 : decode cX1_add 70 = .ok (.iastore, 1) := by decide +kernel
theorem dX1_add_71 : decode cX1_add 71 = .ok (.aload_n 0, 1) := by decide +kernel
theorem dX1_add_72 : decode cX1_add 72 = .ok (.getfield 16, 3) := by decide +kernel
theorem dX1_add_75 : decode cX1_add 75 = .ok (.aload_n 0, 1) := by decide +kernel
theorem dX1_add_76 : decode cX1_add 76 = .ok (.getfield 40, 3) := by decide +kernel
theorem dX1_add_79 : decode cX1_add 79 = .ok (.iload_n 3, 1) := by decide +kernel
theorem dX1_add_80 : decode cX1_add 80 = .ok (.iastore, 1) := by decide +kernel
theorem dX1_add_81 : decode cX1_add 81 = .ok (.aload_n 0, 1) := by decide +kernel
theorem dX1_add_82 : decode cX1_add 82 = .ok (.getfield 19, 3) := by decide +kernel
theorem dX1_add_85 : decode cX1_add 85 = .ok (.aload_n 0, 1) := by decide +kernel
theorem dX1_add_86 : decode cX1_add 86 = .ok (.getfield 40, 3) := by decide +kernel
theorem dX1_add_89 : decode cX1_add 89 = .ok (.iload 4, 2) := by decide +kernel
theorem dX1_add_91 : decode cX1_add 91 = .ok (.iastore, 1) := by decide +kernel
theorem dX1_add_92 : decode cX1_add 92 = .ok (.aload_n 0, 1) := by decide +kernel
theorem dX1_add_93 : decode cX1_add 93 = .ok (.dup, 1) := by decide +kernel
theorem dX1_add_94 : decode cX1_add 94 = .ok (.getfield 40, 3) := by decide +kernel
theorem dX1_add_97 : decode cX1_add 97 = .ok (.iconst 1, 1) := by decide +kernel
theorem dX1_add_98 : decode cX1_add 98 = .ok (.iadd, 1) := by decide +kernel
theorem dX1_add_99 : decode cX1_add 99 = .ok (.putfield 40, 3) := by decide +kernel
theorem dX1_add_102 : decode cX1_add 102 = .ok (.aload_n 0, 1) := by decide +kernel
theorem dX1_add_103 : decode cX1_add 103 = .ok (.getfield 40, 3) := by decide +kernel
theorem dX1_add_106 : decode cX1_add 106 = .ok (.ireturn, 1) := by decide +kernel
theorem dX1_badPlace_0 : decode cX1_badPlace 0 = .ok (.iload_n 0, 1) := by decide +kernel
theorem dX1_badPlace_1 : decode cX1_badPlace 1 = .ok (.ifCond .lt 8, 3) := by decide +kernel
theorem dX1_badPlace_4 : decode cX1_badPlace 4 = .ok (.iload_n 0, 1) := by decide +kernel
theorem dX1_badPlace_5 : decode cX1_badPlace 5 = .ok (.iconst 4, 1) := by decide +kernel
theorem dX1_badPlace_6 : decode cX1_badPlace 6 = .ok (.if_icmp .le 7, 3) := by decide +kernel
theorem dX1_badPlace_9 : decode cX1_badPlace 9 = .ok (.iconst 1, 1) := by decide +kernel
theorem dX1_badPlace_10 : decode cX1_badPlace 10 = .ok (.goto 4, 3) := by decide +kernel
theorem dX1_badPlace_13 : decode cX1_badPlace 13 = .ok (.iconst 0, 1) := by decide +kernel
theorem dX1_badPlace_14 : decode cX1_badPlace 14 = .ok (.ireturn, 1) := by decide +kernel
theorem dX1_drop_0 : decode cX1_drop 0 = .ok (.iload_n 1, 1) := by decide +kernel
theorem dX1_drop_1 : decode cX1_drop 1 = .ok (.ifCond .lt 11, 3) := by decide +kernel
theorem dX1_drop_4 : decode cX1_drop 4 = .ok (.iload_n 1, 1) := by decide +kernel
theorem dX1_drop_5 : decode cX1_drop 5 = .ok (.aload_n 0, 1) := by decide +kernel
theorem dX1_drop_6 : decode cX1_drop 6 = .ok (.getfield 40, 3) := by decide +kernel
theorem dX1_drop_9 : decode cX1_drop 9 = .ok (.if_icmp .lt 5, 3) := by decide +kernel
theorem dX1_drop_12 : decode cX1_drop 12 = .ok (.iconst (-1), 1) := by decide +kernel
theorem dX1_drop_13 : decode cX1_drop 13 = .ok (.ireturn, 1) := by decide +kernel
theorem dX1_drop_14 : decode cX1_drop 14 = .ok (.aload_n 0, 1) := by decide +kernel
theorem dX1_drop_15 : decode cX1_drop 15 = .ok (.dup, 1) := by decide +kernel
theorem dX1_drop_16 : decode cX1_drop 16 = .ok (.getfield 40, 3) := by decide +kernel
theorem dX1_drop_19 : decode cX1_drop 19 = .ok (.iconst 1, 1) := by decide +kernel
theorem dX1_drop_20 : decode cX1_drop 20 = .ok (.isub, 1) := by decide +kernel
theorem dX1_drop_21 : decode cX1_drop 21 = .ok (.putfield 40, 3) := by decide +kernel
theorem dX1_drop_24 : decode cX1_drop 24 = .ok (.iload_n 1, 1) := by decide +kernel
theorem dX1_drop_25 : decode cX1_drop 25 = .ok (.istore_n 2, 1) := by decide +kernel
theorem dX1_drop_26 : decode cX1_drop 26 = .ok (.iload_n 2, 1) := by decide +kernel
theorem dX1_drop_27 : decode cX1_drop 27 = .ok (.aload_n 0, 1) := by decide +kernel
theorem dX1_drop_28 : decode cX1_drop 28 = .ok (.getfield 40, 3) := by decide +kernel
theorem dX1_drop_31 : decode cX1_drop 31 = .ok (.if_icmp .ge 65, 3) := by decide +kernel
theorem dX1_drop_34 : decode cX1_drop 34 = .ok (.aload_n 0, 1) := by decide +kernel
theorem dX1_drop_35 : decode cX1_drop 35 = .ok (.getfield 7, 3) := by decide +kernel
theorem dX1_drop_38 : decode cX1_drop 38 = .ok (.iload_n 2, 1) := by decide +kernel
theorem dX1_drop_39 : decode cX1_drop 39 = .ok (.aload_n 0, 1) := by decide +kernel
theorem dX1_drop_40 : decode cX1_drop 40 = .ok (.getfield 7, 3) := by decide +kernel
theorem dX1_drop_43 : decode cX1_drop 43 = .ok (.iload_n 2, 1) := by decide +kernel
theorem dX1_drop_44 : decode cX1_drop 44 = .ok (.iconst 1, 1) := by decide +kernel
theorem dX1_drop_45 : decode cX1_drop 45 = .ok (.iadd, 1) := by decide +kernel
theorem dX1_drop_46 : decode cX1_drop 46 = .ok (.iaload, 1) := by decide +kernel
theorem dX1_drop_47 : decode cX1_drop 47 = .ok (.iastore, 1) := by decide +kernel
theorem dX1_drop_48 : decode cX1_drop 48 = .ok (.aload_n 0, 1) := by decide +kernel
theorem dX1_drop_49 : decode cX1_drop 49 = .ok (.getfield 13, 3) := by decide +kernel
theorem dX1_drop_52 : decode cX1_drop 52 = .ok (.iload_n 2, 1) := by decide +kernel
theorem dX1_drop_53 : decode cX1_drop 53 = .ok (.aload_n 0, 1) := by decide +kernel
theorem dX1_drop_54 : decode cX1_drop 54 = .ok (.getfield 13, 3) := by decide +kernel
theorem dX1_drop_57 : decode cX1_drop 57 = .ok (.iload_n 2, 1) := by decide +kernel
theorem dX1_drop_58 : decode cX1_drop 58 = .ok (.iconst 1, 1) := by decide +kernel
theorem dX1_drop_59 : decode cX1_drop 59 = .ok (.iadd, 1) := by decide +kernel
theorem dX1_drop_60 : decode cX1_drop 60 = .ok (.iaload, 1) := by decide +kernel
theorem dX1_drop_61 : decode cX1_drop 61 = .ok (.iastore, 1) := by decide +kernel
theorem dX1_drop_62 : decode cX1_drop 62 = .ok (.aload_n 0, 1) := by decide +kernel
theorem dX1_drop_63 : decode cX1_drop 63 = .ok (.getfield 16, 3) := by decide +kernel
theorem dX1_drop_66 : decode cX1_drop 66 = .ok (.iload_n 2, 1) := by decide +kernel
theorem dX1_drop_67 : decode cX1_drop 67 = .ok (.aload_n 0, 1) := by decide +kernel
theorem dX1_drop_68 : decode cX1_drop 68 = .ok (.getfield 16, 3) := by decide +kernel
theorem dX1_drop_71 : decode cX1_drop 71 = .ok (.iload_n 2, 1) := by decide +kernel
theorem dX1_drop_72 : decode cX1_drop 72 = .ok (.iconst 1, 1) := by decide +kernel
theorem dX1_drop_73 : decode cX1_drop 73 = .ok (.iadd, 1) := by decide +kernel
theorem dX1_drop_74 : decode cX1_drop 74 = .ok (.iaload, 1) := by decide +kernel
theorem dX1_drop_75 : decode cX1_drop 75 = .ok (.iastore, 1) := by decide +kernel
theorem dX1_drop_76 : decode cX1_drop 76 = .ok (.aload_n 0, 1) := by decide +kernel
theorem dX1_drop_77 : decode cX1_drop 77 = .ok (.getfield 19, 3) := by decide +kernel
theorem dX1_drop_80 : decode cX1_drop 80 = .ok (.iload_n 2, 1) := by decide +kernel
theorem dX1_drop_81 : decode cX1_drop 81 = .ok (.aload_n 0, 1) := by decide +kernel
theorem dX1_drop_82 : decode cX1_drop 82 = .ok (.getfield 19, 3) := by decide +kernel
theorem dX1_drop_85 : decode cX1_drop 85 = .ok (.iload_n 2, 1) := by decide +kernel
theorem dX1_drop_86 : decode cX1_drop 86 = .ok (.iconst 1, 1) := by decide +kernel
theorem dX1_drop_87 : decode cX1_drop 87 = .ok (.iadd, 1) := by decide +kernel
theorem dX1_drop_88 : decode cX1_drop 88 = .ok (.iaload, 1) := by decide +kernel
theorem dX1_drop_89 : decode cX1_drop 89 = .ok (.iastore, 1) := by decide +kernel
theorem dX1_drop_90 : decode cX1_drop 90 = .ok (.iinc 2 1, 3) := by decide +kernel
theorem dX1_drop_93 : decode cX1_drop 93 = .ok (.goto (-67), 3) := by decide +kernel
theorem dX1_drop_96 : decode cX1_drop 96 = .ok (.aload_n 0, 1) := by decide +kernel
theorem dX1_drop_97 : decode cX1_drop 97 = .ok (.getfield 40, 3) := by decide +kernel
theorem dX1_drop_100 : decode cX1_drop 100 = .ok (.ireturn, 1) := by decide +kernel
theorem dX1_arrived_0 : decode cX1_arrived 0 = .ok (.iload_n 1, 1) := by decide +kernel
theorem dX1_arrived_1 : decode cX1_arrived 1 = .ok (.invokestatic 67, 3) := by decide +kernel
theorem dX1_arrived_4 : decode cX1_arrived 4 = .ok (.ifCond .eq 7, 3) := by decide +kernel
theorem dX1_arrived_7 : decode cX1_arrived 7 = .ok (.iconst (-1), 1) := by decide +kernel
theorem dX1_arrived_8 : decode cX1_arrived 8 = .ok (.goto 9, 3) := by decide +kernel
theorem dX1_arrived_11 : decode cX1_arrived 11 = .ok (.aload_n 0, 1) := by decide +kernel
theorem dX1_arrived_12 : decode cX1_arrived 12 = .ok (.iload_n 1, 1) := by decide +kernel
theorem dX1_arrived_13 : decode cX1_arrived 13 = .ok (.iconst 1, 1) := by decide +kernel
theorem dX1_arrived_14 : decode cX1_arrived 14 = .ok (.invokevirtual 70, 3) := by decide +kernel
theorem dX1_arrived_17 : decode cX1_arrived 17 = .ok (.ireturn, 1) := by decide +kernel
theorem dX1_badMoment_0 : decode cX1_badMoment 0 = .ok (.iload_n 0, 1) := by decide +kernel
theorem dX1_badMoment_1 : decode cX1_badMoment 1 = .ok (.ifCond .lt 9, 3) := by decide +kernel
theorem dX1_badMoment_4 : decode cX1_badMoment 4 = .ok (.iload_n 0, 1) := by decide +kernel
theorem dX1_badMoment_5 : decode cX1_badMoment 5 = .ok (.bipush 12, 2) := by decide +kernel
theorem dX1_badMoment_7 : decode cX1_badMoment 7 = .ok (.if_icmp .le 7, 3) := by decide +kernel
theorem dX1_badMoment_10 : decode cX1_badMoment 10 = .ok (.iconst 1, 1) := by decide +kernel
theorem dX1_badMoment_11 : decode cX1_badMoment 11 = .ok (.goto 4, 3) := by decide +kernel
theorem dX1_badMoment_14 : decode cX1_badMoment 14 = .ok (.iconst 0, 1) := by decide +kernel
theorem dX1_badMoment_15 : decode cX1_badMoment 15 = .ok (.ireturn, 1) := by decide +kernel
theorem dX1_flow_0 : decode cX1_flow 0 = .ok (.aload_n 0, 1) := by decide +kernel
theorem dX1_flow_1 : decode cX1_flow 1 = .ok (.iload_n 1, 1) := by decide +kernel
theorem dX1_flow_2 : decode cX1_flow 2 = .ok (.iload_n 2, 1) := by decide +kernel
theorem dX1_flow_3 : decode cX1_flow 3 = .ok (.invokevirtual 56, 3) := by decide +kernel
theorem dX1_flow_6 : decode cX1_flow 6 = .ok (.bipush 52, 2) := by decide +kernel
theorem dX1_flow_8 : decode cX1_flow 8 = .ok (.iload_n 1, 1) := by decide +kernel
theorem dX1_flow_9 : decode cX1_flow 9 = .ok (.iadd, 1) := by decide +kernel
theorem dX1_flow_10 : decode cX1_flow 10 = .ok (.istore_n 3, 1) := by decide +kernel
theorem dX1_flow_11 : decode cX1_flow 11 = .ok (.iconst 0, 1) := by decide +kernel
theorem dX1_flow_12 : decode cX1_flow 12 = .ok (.istore 4, 2) := by decide +kernel
theorem dX1_flow_14 : decode cX1_flow 14 = .ok (.iload 4, 2) := by decide +kernel
theorem dX1_flow_16 : decode cX1_flow 16 = .ok (.sipush 1000, 3) := by decide +kernel
theorem dX1_flow_19 : decode cX1_flow 19 = .ok (.if_icmp .ge 22, 3) := by decide +kernel
theorem dX1_flow_22 : decode cX1_flow 22 = .ok (.aload_n 0, 1) := by decide +kernel
theorem dX1_flow_23 : decode cX1_flow 23 = .ok (.iload_n 3, 1) := by decide +kernel
theorem dX1_flow_24 : decode cX1_flow 24 = .ok (.invokevirtual 60, 3) := by decide +kernel
theorem dX1_flow_27 : decode cX1_flow 27 = .ok (.ifCond .eq 14, 3) := by decide +kernel
theorem dX1_flow_30 : decode cX1_flow 30 = .ok (.aload_n 0, 1) := by decide +kernel
theorem dX1_flow_31 : decode cX1_flow 31 = .ok (.iload_n 3, 1) := by decide +kernel
theorem dX1_flow_32 : decode cX1_flow 32 = .ok (.invokevirtual 63, 3) := by decide +kernel
theorem dX1_flow_35 : decode cX1_flow 35 = .ok (.iinc 4 1, 3) := by decide +kernel
theorem dX1_flow_38 : decode cX1_flow 38 = .ok (.goto (-24), 3) := by decide +kernel
theorem dX1_flow_41 : decode cX1_flow 41 = .ok (.iload 4, 2) := by decide +kernel
theorem dX1_flow_43 : decode cX1_flow 43 = .ok (.ireturn, 1) := by decide +kernel
theorem dX1_build_0 : decode cX1_build 0 = .ok (.aload_n 0, 1) := by decide +kernel
theorem dX1_build_1 : decode cX1_build 1 = .ok (.iconst 0, 1) := by decide +kernel
theorem dX1_build_2 : decode cX1_build 2 = .ok (.putfield 48, 3) := by decide +kernel
theorem dX1_build_5 : decode cX1_build 5 = .ok (.iconst 0, 1) := by decide +kernel
theorem dX1_build_6 : decode cX1_build 6 = .ok (.istore_n 3, 1) := by decide +kernel
theorem dX1_build_7 : decode cX1_build 7 = .ok (.iload_n 3, 1) := by decide +kernel
theorem dX1_build_8 : decode cX1_build 8 = .ok (.aload_n 0, 1) := by decide +kernel
theorem dX1_build_9 : decode cX1_build 9 = .ok (.getfield 40, 3) := by decide +kernel
theorem dX1_build_12 : decode cX1_build 12 = .ok (.if_icmp .ge 80, 3) := by decide +kernel
theorem dX1_build_15 : decode cX1_build 15 = .ok (.iload_n 2, 1) := by decide +kernel
theorem dX1_build_16 : decode cX1_build 16 = .ok (.ifCond .eq 12, 3) := by decide +kernel
theorem dX1_build_19 : decode cX1_build 19 = .ok (.aload_n 0, 1) := by decide +kernel
theorem dX1_build_20 : decode cX1_build 20 = .ok (.getfield 19, 3) := by decide +kernel
theorem dX1_build_23 : decode cX1_build 23 = .ok (.iload_n 3, 1) := by decide +kernel
theorem dX1_build_24 : decode cX1_build 24 = .ok (.iaload, 1) := by decide +kernel
theorem dX1_build_25 : decode cX1_build 25 = .ok (.goto 4, 3) := by decide +kernel
theorem dX1_build_28 : decode cX1_build 28 = .ok (.iconst 0, 1) := by decide +kernel
theorem dX1_build_29 : decode cX1_build 29 = .ok (.istore 4, 2) := by decide +kernel
theorem dX1_build_31 : decode cX1_build 31 = .ok (.iconst 0, 1) := by decide +kernel
theorem dX1_build_32 : decode cX1_build 32 = .ok (.istore 5, 2) := by decide +kernel
theorem dX1_build_34 : decode cX1_build 34 = .ok (.iload 5, 2) := by decide +kernel
theorem dX1_build_36 : decode cX1_build 36 = .ok (.iload 4, 2) := by decide +kernel
theorem dX1_build_38 : decode cX1_build 38 = .ok (.iadd, 1) := by decide +kernel
theorem dX1_build_39 : decode cX1_build 39 = .ok (.iload_n 1, 1) := by decide +kernel
theorem dX1_build_40 : decode cX1_build 40 = .ok (.if_icmp .gt 46, 3) := by decide +kernel
theorem dX1_build_43 : decode cX1_build 43 = .ok (.aload_n 0, 1) := by decide +kernel
theorem dX1_build_44 : decode cX1_build 44 = .ok (.bipush 13, 2) := by decide +kernel
theorem dX1_build_46 : decode cX1_build 46 = .ok (.aload_n 0, 1) := by decide +kernel
theorem dX1_build_47 : decode cX1_build 47 = .ok (.getfield 7, 3) := by decide +kernel
theorem dX1_build_50 : decode cX1_build 50 = .ok (.iload_n 3, 1) := by decide +kernel
theorem dX1_build_51 : decode cX1_build 51 = .ok (.iaload, 1) := by decide +kernel
theorem dX1_build_52 : decode cX1_build 52 = .ok (.imul, 1) := by decide +kernel
theorem dX1_build_53 : decode cX1_build 53 = .ok (.iload 5, 2) := by decide +kernel
theorem dX1_build_55 : decode cX1_build 55 = .ok (.iadd, 1) := by decide +kernel
theorem dX1_build_56 : decode cX1_build 56 = .ok (.bipush 13, 2) := by decide +kernel
theorem dX1_build_58 : decode cX1_build 58 = .ok (.aload_n 0, 1) := by decide +kernel
theorem dX1_build_59 : decode cX1_build 59 = .ok (.getfield 13, 3) := by decide +kernel
theorem dX1_build_62 : decode cX1_build 62 = .ok (.iload_n 3, 1) := by decide +kernel
theorem dX1_build_63 : decode cX1_build 63 = .ok (.iaload, 1) := by decide +kernel
theorem dX1_build_64 : decode cX1_build 64 = .ok (.imul, 1) := by decide +kernel
theorem dX1_build_65 : decode cX1_build 65 = .ok (.iload 5, 2) := by decide +kernel
theorem dX1_build_67 : decode cX1_build 67 = .ok (.iadd, 1) := by decide +kernel
theorem dX1_build_68 : decode cX1_build 68 = .ok (.iload 4, 2) := by decide +kernel
theorem dX1_build_70 : decode cX1_build 70 = .ok (.iadd, 1) := by decide +kernel
theorem dX1_build_71 : decode cX1_build 71 = .ok (.aload_n 0, 1) := by decide +kernel
theorem dX1_build_72 : decode cX1_build 72 = .ok (.getfield 16, 3) := by decide +kernel
theorem dX1_build_75 : decode cX1_build 75 = .ok (.iload_n 3, 1) := by decide +kernel
theorem dX1_build_76 : decode cX1_build 76 = .ok (.iaload, 1) := by decide +kernel
theorem dX1_build_77 : decode cX1_build 77 = .ok (.invokevirtual 51, 3) := by decide +kernel
theorem dX1_build_80 : decode cX1_build 80 = .ok (.iinc 5 1, 3) := by decide +kernel
theorem dX1_build_83 : decode cX1_build 83 = .ok (.goto (-49), 3) := by decide +kernel
theorem dX1_build_86 : decode cX1_build 86 = .ok (.iinc 3 1, 3) := by decide +kernel
theorem dX1_build_89 : decode cX1_build 89 = .ok (.goto (-82), 3) := by decide +kernel
theorem dX1_build_92 : decode cX1_build 92 = .ok (.iconst 0, 1) := by decide +kernel
theorem dX1_build_93 : decode cX1_build 93 = .ok (.istore_n 3, 1) := by decide +kernel
theorem dX1_build_94 : decode cX1_build 94 = .ok (.iload_n 3, 1) := by decide +kernel
theorem dX1_build_95 : decode cX1_build 95 = .ok (.iconst 5, 1) := by decide +kernel
theorem dX1_build_96 : decode cX1_build 96 = .ok (.if_icmp .ge 46, 3) := by decide +kernel
theorem dX1_build_99 : decode cX1_build 99 = .ok (.iconst 0, 1) := by decide +kernel
theorem dX1_build_100 : decode cX1_build 100 = .ok (.istore 4, 2) := by decide +kernel
theorem dX1_build_102 : decode cX1_build 102 = .ok (.iload 4, 2) := by decide +kernel
theorem dX1_build_104 : decode cX1_build 104 = .ok (.iload_n 1, 1) := by decide +kernel
theorem dX1_build_105 : decode cX1_build 105 = .ok (.if_icmp .ge 31, 3) := by decide +kernel
theorem dX1_build_108 : decode cX1_build 108 = .ok (.aload_n 0, 1) := by decide +kernel
theorem dX1_build_109 : decode cX1_build 109 = .ok (.bipush 13, 2) := by decide +kernel
theorem dX1_build_111 : decode cX1_build 111 = .ok (.iload_n 3, 1) := by decide +kernel
theorem dX1_build_112 : decode cX1_build 112 = .ok (.imul, 1) := by decide +kernel
theorem dX1_build_113 : decode cX1_build 113 = .ok (.iload 4, 2) := by decide +kernel
theorem dX1_build_115 : decode cX1_build 115 = .ok (.iadd, 1) := by decide +kernel
theorem dX1_build_116 : decode cX1_build 116 = .ok (.bipush 13, 2) := by decide +kernel
theorem dX1_build_118 : decode cX1_build 118 = .ok (.iload_n 3, 1) := by decide +kernel
theorem dX1_build_119 : decode cX1_build 119 = .ok (.imul, 1) := by decide +kernel
theorem dX1_build_120 : decode cX1_build 120 = .ok (.iload 4, 2) := by decide +kernel
theorem dX1_build_122 : decode cX1_build 122 = .ok (.iadd, 1) := by decide +kernel
theorem dX1_build_123 : decode cX1_build 123 = .ok (.iconst 1, 1) := by decide +kernel
theorem dX1_build_124 : decode cX1_build 124 = .ok (.iadd, 1) := by decide +kernel
theorem dX1_build_125 : decode cX1_build 125 = .ok (.ldc 55, 2) := by decide +kernel
theorem dX1_build_127 : decode cX1_build 127 = .ok (.invokevirtual 51, 3) := by decide +kernel
theorem dX1_build_130 : decode cX1_build 130 = .ok (.iinc 4 1, 3) := by decide +kernel
theorem dX1_build_133 : decode cX1_build 133 = .ok (.goto (-31), 3) := by decide +kernel
theorem dX1_build_136 : decode cX1_build 136 = .ok (.iinc 3 1, 3) := by decide +kernel
end
section
set_option maxRecDepth 100000
theorem dX1_build_139 : decode cX1_build 139 = .ok (.goto (-45), 3) := by decide +kernel
theorem dX1_build_142 : decode cX1_build 142 = .ok (.return_, 1) := by decide +kernel
theorem dX1_edge_0 : decode cX1_edge 0 = .ok (.aload_n 0, 1) := by decide +kernel
theorem dX1_edge_1 : decode cX1_edge 1 = .ok (.getfield 22, 3) := by decide +kernel
theorem dX1_edge_4 : decode cX1_edge 4 = .ok (.aload_n 0, 1) := by decide +kernel
theorem dX1_edge_5 : decode cX1_edge 5 = .ok (.getfield 48, 3) := by decide +kernel
theorem dX1_edge_8 : decode cX1_edge 8 = .ok (.iload_n 1, 1) := by decide +kernel
theorem dX1_edge_9 : decode cX1_edge 9 = .ok (.iastore, 1) := by decide +kernel
theorem dX1_edge_10 : decode cX1_edge 10 = .ok (.aload_n 0, 1) := by decide +kernel
theorem dX1_edge_11 : decode cX1_edge 11 = .ok (.getfield 25, 3) := by decide +kernel
theorem dX1_edge_14 : decode cX1_edge 14 = .ok (.aload_n 0, 1) := by decide +kernel
theorem dX1_edge_15 : decode cX1_edge 15 = .ok (.getfield 48, 3) := by decide +kernel
theorem dX1_edge_18 : decode cX1_edge 18 = .ok (.iload_n 2, 1) := by decide +kernel
theorem dX1_edge_19 : decode cX1_edge 19 = .ok (.iastore, 1) := by decide +kernel
theorem dX1_edge_20 : decode cX1_edge 20 = .ok (.aload_n 0, 1) := by decide +kernel
theorem dX1_edge_21 : decode cX1_edge 21 = .ok (.getfield 28, 3) := by decide +kernel
theorem dX1_edge_24 : decode cX1_edge 24 = .ok (.aload_n 0, 1) := by decide +kernel
theorem dX1_edge_25 : decode cX1_edge 25 = .ok (.getfield 48, 3) := by decide +kernel
theorem dX1_edge_28 : decode cX1_edge 28 = .ok (.iload_n 3, 1) := by decide +kernel
theorem dX1_edge_29 : decode cX1_edge 29 = .ok (.iastore, 1) := by decide +kernel
theorem dX1_edge_30 : decode cX1_edge 30 = .ok (.aload_n 0, 1) := by decide +kernel
theorem dX1_edge_31 : decode cX1_edge 31 = .ok (.getfield 31, 3) := by decide +kernel
theorem dX1_edge_34 : decode cX1_edge 34 = .ok (.aload_n 0, 1) := by decide +kernel
theorem dX1_edge_35 : decode cX1_edge 35 = .ok (.getfield 48, 3) := by decide +kernel
theorem dX1_edge_38 : decode cX1_edge 38 = .ok (.iconst 0, 1) := by decide +kernel
theorem dX1_edge_39 : decode cX1_edge 39 = .ok (.iastore, 1) := by decide +kernel
theorem dX1_edge_40 : decode cX1_edge 40 = .ok (.aload_n 0, 1) := by decide +kernel
theorem dX1_edge_41 : decode cX1_edge 41 = .ok (.dup, 1) := by decide +kernel
theorem dX1_edge_42 : decode cX1_edge 42 = .ok (.getfield 48, 3) := by decide +kernel
theorem dX1_edge_45 : decode cX1_edge 45 = .ok (.iconst 1, 1) := by decide +kernel
theorem dX1_edge_46 : decode cX1_edge 46 = .ok (.iadd, 1) := by decide +kernel
theorem dX1_edge_47 : decode cX1_edge 47 = .ok (.putfield 48, 3) := by decide +kernel
theorem dX1_edge_50 : decode cX1_edge 50 = .ok (.return_, 1) := by decide +kernel
theorem dX1_search_0 : decode cX1_search 0 = .ok (.iconst 0, 1) := by decide +kernel
theorem dX1_search_1 : decode cX1_search 1 = .ok (.istore_n 2, 1) := by decide +kernel
theorem dX1_search_2 : decode cX1_search 2 = .ok (.iload_n 2, 1) := by decide +kernel
theorem dX1_search_3 : decode cX1_search 3 = .ok (.bipush 65, 2) := by decide +kernel
theorem dX1_search_5 : decode cX1_search 5 = .ok (.if_icmp .ge 16, 3) := by decide +kernel
theorem dX1_search_8 : decode cX1_search 8 = .ok (.aload_n 0, 1) := by decide +kernel
theorem dX1_search_9 : decode cX1_search 9 = .ok (.getfield 34, 3) := by decide +kernel
theorem dX1_search_12 : decode cX1_search 12 = .ok (.iload_n 2, 1) := by decide +kernel
theorem dX1_search_13 : decode cX1_search 13 = .ok (.iconst (-1), 1) := by decide +kernel
theorem dX1_search_14 : decode cX1_search 14 = .ok (.iastore, 1) := by decide +kernel
theorem dX1_search_15 : decode cX1_search 15 = .ok (.iinc 2 1, 3) := by decide +kernel
theorem dX1_search_18 : decode cX1_search 18 = .ok (.goto (-16), 3) := by decide +kernel
theorem dX1_search_21 : decode cX1_search 21 = .ok (.aload_n 0, 1) := by decide +kernel
theorem dX1_search_22 : decode cX1_search 22 = .ok (.getfield 34, 3) := by decide +kernel
theorem dX1_search_25 : decode cX1_search 25 = .ok (.iconst 0, 1) := by decide +kernel
theorem dX1_search_26 : decode cX1_search 26 = .ok (.sipush 999, 3) := by decide +kernel
theorem dX1_search_29 : decode cX1_search 29 = .ok (.iastore, 1) := by decide +kernel
theorem dX1_search_30 : decode cX1_search 30 = .ok (.aload_n 0, 1) := by decide +kernel
theorem dX1_search_31 : decode cX1_search 31 = .ok (.getfield 37, 3) := by decide +kernel
theorem dX1_search_34 : decode cX1_search 34 = .ok (.iconst 0, 1) := by decide +kernel
theorem dX1_search_35 : decode cX1_search 35 = .ok (.iconst 0, 1) := by decide +kernel
theorem dX1_search_36 : decode cX1_search 36 = .ok (.iastore, 1) := by decide +kernel
theorem dX1_search_37 : decode cX1_search 37 = .ok (.iconst 1, 1) := by decide +kernel
theorem dX1_search_38 : decode cX1_search 38 = .ok (.istore_n 2, 1) := by decide +kernel
theorem dX1_search_39 : decode cX1_search 39 = .ok (.iconst 0, 1) := by decide +kernel
theorem dX1_search_40 : decode cX1_search 40 = .ok (.istore_n 3, 1) := by decide +kernel
theorem dX1_search_41 : decode cX1_search 41 = .ok (.iload_n 3, 1) := by decide +kernel
theorem dX1_search_42 : decode cX1_search 42 = .ok (.iload_n 2, 1) := by decide +kernel
theorem dX1_search_43 : decode cX1_search 43 = .ok (.if_icmp .ge 198, 3) := by decide +kernel
theorem dX1_search_46 : decode cX1_search 46 = .ok (.iconst 0, 1) := by decide +kernel
theorem dX1_search_47 : decode cX1_search 47 = .ok (.istore 4, 2) := by decide +kernel
theorem dX1_search_49 : decode cX1_search 49 = .ok (.iload 4, 2) := by decide +kernel
theorem dX1_search_51 : decode cX1_search 51 = .ok (.aload_n 0, 1) := by decide +kernel
theorem dX1_search_52 : decode cX1_search 52 = .ok (.getfield 48, 3) := by decide +kernel
theorem dX1_search_55 : decode cX1_search 55 = .ok (.if_icmp .ge 180, 3) := by decide +kernel
theorem dX1_search_58 : decode cX1_search 58 = .ok (.aload_n 0, 1) := by decide +kernel
theorem dX1_search_59 : decode cX1_search 59 = .ok (.getfield 22, 3) := by decide +kernel
theorem dX1_search_62 : decode cX1_search 62 = .ok (.iload 4, 2) := by decide +kernel
theorem dX1_search_64 : decode cX1_search 64 = .ok (.iaload, 1) := by decide +kernel
theorem dX1_search_65 : decode cX1_search 65 = .ok (.aload_n 0, 1) := by decide +kernel
theorem dX1_search_66 : decode cX1_search 66 = .ok (.getfield 37, 3) := by decide +kernel
theorem dX1_search_69 : decode cX1_search 69 = .ok (.iload_n 3, 1) := by decide +kernel
theorem dX1_search_70 : decode cX1_search 70 = .ok (.iaload, 1) := by decide +kernel
theorem dX1_search_71 : decode cX1_search 71 = .ok (.if_icmp .ne 39, 3) := by decide +kernel
theorem dX1_search_74 : decode cX1_search 74 = .ok (.aload_n 0, 1) := by decide +kernel
theorem dX1_search_75 : decode cX1_search 75 = .ok (.getfield 31, 3) := by decide +kernel
theorem dX1_search_78 : decode cX1_search 78 = .ok (.iload 4, 2) := by decide +kernel
theorem dX1_search_80 : decode cX1_search 80 = .ok (.iaload, 1) := by decide +kernel
theorem dX1_search_81 : decode cX1_search 81 = .ok (.aload_n 0, 1) := by decide +kernel
theorem dX1_search_82 : decode cX1_search 82 = .ok (.getfield 28, 3) := by decide +kernel
theorem dX1_search_85 : decode cX1_search 85 = .ok (.iload 4, 2) := by decide +kernel
theorem dX1_search_87 : decode cX1_search 87 = .ok (.iaload, 1) := by decide +kernel
theorem dX1_search_88 : decode cX1_search 88 = .ok (.if_icmp .ge 22, 3) := by decide +kernel
theorem dX1_search_91 : decode cX1_search 91 = .ok (.aload_n 0, 1) := by decide +kernel
theorem dX1_search_92 : decode cX1_search 92 = .ok (.getfield 34, 3) := by decide +kernel
theorem dX1_search_95 : decode cX1_search 95 = .ok (.aload_n 0, 1) := by decide +kernel
theorem dX1_search_96 : decode cX1_search 96 = .ok (.getfield 25, 3) := by decide +kernel
theorem dX1_search_99 : decode cX1_search 99 = .ok (.iload 4, 2) := by decide +kernel
theorem dX1_search_101 : decode cX1_search 101 = .ok (.iaload, 1) := by decide +kernel
theorem dX1_search_102 : decode cX1_search 102 = .ok (.iaload, 1) := by decide +kernel
theorem dX1_search_103 : decode cX1_search 103 = .ok (.ifCond .ge 7, 3) := by decide +kernel
theorem dX1_search_106 : decode cX1_search 106 = .ok (.iconst 1, 1) := by decide +kernel
theorem dX1_search_107 : decode cX1_search 107 = .ok (.goto 4, 3) := by decide +kernel
theorem dX1_search_110 : decode cX1_search 110 = .ok (.iconst 0, 1) := by decide +kernel
theorem dX1_search_111 : decode cX1_search 111 = .ok (.istore 5, 2) := by decide +kernel
theorem dX1_search_113 : decode cX1_search 113 = .ok (.aload_n 0, 1) := by decide +kernel
theorem dX1_search_114 : decode cX1_search 114 = .ok (.getfield 25, 3) := by decide +kernel
theorem dX1_search_117 : decode cX1_search 117 = .ok (.iload 4, 2) := by decide +kernel
theorem dX1_search_119 : decode cX1_search 119 = .ok (.iaload, 1) := by decide +kernel
theorem dX1_search_120 : decode cX1_search 120 = .ok (.aload_n 0, 1) := by decide +kernel
theorem dX1_search_121 : decode cX1_search 121 = .ok (.getfield 37, 3) := by decide +kernel
theorem dX1_search_124 : decode cX1_search 124 = .ok (.iload_n 3, 1) := by decide +kernel
theorem dX1_search_125 : decode cX1_search 125 = .ok (.iaload, 1) := by decide +kernel
theorem dX1_search_126 : decode cX1_search 126 = .ok (.if_icmp .ne 32, 3) := by decide +kernel
theorem dX1_search_129 : decode cX1_search 129 = .ok (.aload_n 0, 1) := by decide +kernel
theorem dX1_search_130 : decode cX1_search 130 = .ok (.getfield 31, 3) := by decide +kernel
theorem dX1_search_133 : decode cX1_search 133 = .ok (.iload 4, 2) := by decide +kernel
theorem dX1_search_135 : decode cX1_search 135 = .ok (.iaload, 1) := by decide +kernel
theorem dX1_search_136 : decode cX1_search 136 = .ok (.ifCond .le 22, 3) := by decide +kernel
theorem dX1_search_139 : decode cX1_search 139 = .ok (.aload_n 0, 1) := by decide +kernel
theorem dX1_search_140 : decode cX1_search 140 = .ok (.getfield 34, 3) := by decide +kernel
theorem dX1_search_143 : decode cX1_search 143 = .ok (.aload_n 0, 1) := by decide +kernel
theorem dX1_search_144 : decode cX1_search 144 = .ok (.getfield 22, 3) := by decide +kernel
theorem dX1_search_147 : decode cX1_search 147 = .ok (.iload 4, 2) := by decide +kernel
theorem dX1_search_149 : decode cX1_search 149 = .ok (.iaload, 1) := by decide +kernel
theorem dX1_search_150 : decode cX1_search 150 = .ok (.iaload, 1) := by decide +kernel
theorem dX1_search_151 : decode cX1_search 151 = .ok (.ifCond .ge 7, 3) := by decide +kernel
theorem dX1_search_154 : decode cX1_search 154 = .ok (.iconst 1, 1) := by decide +kernel
theorem dX1_search_155 : decode cX1_search 155 = .ok (.goto 4, 3) := by decide +kernel
theorem dX1_search_158 : decode cX1_search 158 = .ok (.iconst 0, 1) := by decide +kernel
theorem dX1_search_159 : decode cX1_search 159 = .ok (.istore 6, 2) := by decide +kernel
theorem dX1_search_161 : decode cX1_search 161 = .ok (.iload 5, 2) := by decide +kernel
theorem dX1_search_163 : decode cX1_search 163 = .ok (.ifCond .eq 13, 3) := by decide +kernel
theorem dX1_search_166 : decode cX1_search 166 = .ok (.aload_n 0, 1) := by decide +kernel
theorem dX1_search_167 : decode cX1_search 167 = .ok (.getfield 25, 3) := by decide +kernel
theorem dX1_search_170 : decode cX1_search 170 = .ok (.iload 4, 2) := by decide +kernel
theorem dX1_search_172 : decode cX1_search 172 = .ok (.iaload, 1) := by decide +kernel
theorem dX1_search_173 : decode cX1_search 173 = .ok (.goto 10, 3) := by decide +kernel
theorem dX1_search_176 : decode cX1_search 176 = .ok (.aload_n 0, 1) := by decide +kernel
theorem dX1_search_177 : decode cX1_search 177 = .ok (.getfield 22, 3) := by decide +kernel
theorem dX1_search_180 : decode cX1_search 180 = .ok (.iload 4, 2) := by decide +kernel
theorem dX1_search_182 : decode cX1_search 182 = .ok (.iaload, 1) := by decide +kernel
theorem dX1_search_183 : decode cX1_search 183 = .ok (.istore 7, 2) := by decide +kernel
theorem dX1_search_185 : decode cX1_search 185 = .ok (.iload 5, 2) := by decide +kernel
theorem dX1_search_187 : decode cX1_search 187 = .ok (.ifCond .ne 8, 3) := by decide +kernel
theorem dX1_search_190 : decode cX1_search 190 = .ok (.iload 6, 2) := by decide +kernel
theorem dX1_search_192 : decode cX1_search 192 = .ok (.ifCond .eq 37, 3) := by decide +kernel
theorem dX1_search_195 : decode cX1_search 195 = .ok (.aload_n 0, 1) := by decide +kernel
theorem dX1_search_196 : decode cX1_search 196 = .ok (.getfield 34, 3) := by decide +kernel
theorem dX1_search_199 : decode cX1_search 199 = .ok (.iload 7, 2) := by decide +kernel
theorem dX1_search_201 : decode cX1_search 201 = .ok (.iload 5, 2) := by decide +kernel
theorem dX1_search_203 : decode cX1_search 203 = .ok (.ifCond .eq 8, 3) := by decide +kernel
theorem dX1_search_206 : decode cX1_search 206 = .ok (.iload 4, 2) := by decide +kernel
theorem dX1_search_208 : decode cX1_search 208 = .ok (.goto 9, 3) := by decide +kernel
theorem dX1_search_211 : decode cX1_search 211 = .ok (.sipush 200, 3) := by decide +kernel
theorem dX1_search_214 : decode cX1_search 214 = .ok (.iload 4, 2) := by decide +kernel
theorem dX1_search_216 : decode cX1_search 216 = .ok (.iadd, 1) := by decide +kernel
theorem dX1_search_217 : decode cX1_search 217 = .ok (.iastore, 1) := by decide +kernel
theorem dX1_search_218 : decode cX1_search 218 = .ok (.aload_n 0, 1) := by decide +kernel
theorem dX1_search_219 : decode cX1_search 219 = .ok (.getfield 37, 3) := by decide +kernel
theorem dX1_search_222 : decode cX1_search 222 = .ok (.iload_n 2, 1) := by decide +kernel
theorem dX1_search_223 : decode cX1_search 223 = .ok (.iload 7, 2) := by decide +kernel
theorem dX1_search_225 : decode cX1_search 225 = .ok (.iastore, 1) := by decide +kernel
theorem dX1_search_226 : decode cX1_search 226 = .ok (.iinc 2 1, 3) := by decide +kernel
theorem dX1_search_229 : decode cX1_search 229 = .ok (.iinc 4 1, 3) := by decide +kernel
theorem dX1_search_232 : decode cX1_search 232 = .ok (.goto (-183), 3) := by decide +kernel
theorem dX1_search_235 : decode cX1_search 235 = .ok (.iinc 3 1, 3) := by decide +kernel
theorem dX1_search_238 : decode cX1_search 238 = .ok (.goto (-197), 3) := by decide +kernel
theorem dX1_search_241 : decode cX1_search 241 = .ok (.aload_n 0, 1) := by decide +kernel
theorem dX1_search_242 : decode cX1_search 242 = .ok (.getfield 34, 3) := by decide +kernel
theorem dX1_search_245 : decode cX1_search 245 = .ok (.iload_n 1, 1) := by decide +kernel
theorem dX1_search_246 : decode cX1_search 246 = .ok (.iaload, 1) := by decide +kernel
theorem dX1_search_247 : decode cX1_search 247 = .ok (.ifCond .lt 7, 3) := by decide +kernel
theorem dX1_search_250 : decode cX1_search 250 = .ok (.iconst 1, 1) := by decide +kernel
theorem dX1_search_251 : decode cX1_search 251 = .ok (.goto 4, 3) := by decide +kernel
theorem dX1_search_254 : decode cX1_search 254 = .ok (.iconst 0, 1) := by decide +kernel
theorem dX1_search_255 : decode cX1_search 255 = .ok (.ireturn, 1) := by decide +kernel
theorem dX1_send_0 : decode cX1_send 0 = .ok (.iload_n 1, 1) := by decide +kernel
theorem dX1_send_1 : decode cX1_send 1 = .ok (.istore_n 2, 1) := by decide +kernel
theorem dX1_send_2 : decode cX1_send 2 = .ok (.iload_n 2, 1) := by decide +kernel
theorem dX1_send_3 : decode cX1_send 3 = .ok (.ifCond .eq 65, 3) := by decide +kernel
theorem dX1_send_6 : decode cX1_send 6 = .ok (.aload_n 0, 1) := by decide +kernel
theorem dX1_send_7 : decode cX1_send 7 = .ok (.getfield 34, 3) := by decide +kernel
theorem dX1_send_10 : decode cX1_send 10 = .ok (.iload_n 2, 1) := by decide +kernel
theorem dX1_send_11 : decode cX1_send 11 = .ok (.iaload, 1) := by decide +kernel
theorem dX1_send_12 : decode cX1_send 12 = .ok (.istore_n 3, 1) := by decide +kernel
theorem dX1_send_13 : decode cX1_send 13 = .ok (.iload_n 3, 1) := by decide +kernel
theorem dX1_send_14 : decode cX1_send 14 = .ok (.sipush 200, 3) := by decide +kernel
theorem dX1_send_17 : decode cX1_send 17 = .ok (.if_icmp .ge 23, 3) := by decide +kernel
theorem dX1_send_20 : decode cX1_send 20 = .ok (.aload_n 0, 1) := by decide +kernel
theorem dX1_send_21 : decode cX1_send 21 = .ok (.getfield 31, 3) := by decide +kernel
theorem dX1_send_24 : decode cX1_send 24 = .ok (.iload_n 3, 1) := by decide +kernel
theorem dX1_send_25 : decode cX1_send 25 = .ok (.dup2, 1) := by decide +kernel
theorem dX1_send_26 : decode cX1_send 26 = .ok (.iaload, 1) := by decide +kernel
theorem dX1_send_27 : decode cX1_send 27 = .ok (.iconst 1, 1) := by decide +kernel
theorem dX1_send_28 : decode cX1_send 28 = .ok (.iadd, 1) := by decide +kernel
theorem dX1_send_29 : decode cX1_send 29 = .ok (.iastore, 1) := by decide +kernel
theorem dX1_send_30 : decode cX1_send 30 = .ok (.aload_n 0, 1) := by decide +kernel
theorem dX1_send_31 : decode cX1_send 31 = .ok (.getfield 22, 3) := by decide +kernel
theorem dX1_send_34 : decode cX1_send 34 = .ok (.iload_n 3, 1) := by decide +kernel
theorem dX1_send_35 : decode cX1_send 35 = .ok (.iaload, 1) := by decide +kernel
theorem dX1_send_36 : decode cX1_send 36 = .ok (.istore_n 2, 1) := by decide +kernel
theorem dX1_send_37 : decode cX1_send 37 = .ok (.goto 28, 3) := by decide +kernel
theorem dX1_send_40 : decode cX1_send 40 = .ok (.aload_n 0, 1) := by decide +kernel
theorem dX1_send_41 : decode cX1_send 41 = .ok (.getfield 31, 3) := by decide +kernel
theorem dX1_send_44 : decode cX1_send 44 = .ok (.iload_n 3, 1) := by decide +kernel
theorem dX1_send_45 : decode cX1_send 45 = .ok (.sipush 200, 3) := by decide +kernel
theorem dX1_send_48 : decode cX1_send 48 = .ok (.isub, 1) := by decide +kernel
theorem dX1_send_49 : decode cX1_send 49 = .ok (.dup2, 1) := by decide +kernel
theorem dX1_send_50 : decode cX1_send 50 = .ok (.iaload, 1) := by decide +kernel
theorem dX1_send_51 : decode cX1_send 51 = .ok (.iconst 1, 1) := by decide +kernel
theorem dX1_send_52 : decode cX1_send 52 = .ok (.isub, 1) := by decide +kernel
theorem dX1_send_53 : decode cX1_send 53 = .ok (.iastore, 1) := by decide +kernel
theorem dX1_send_54 : decode cX1_send 54 = .ok (.aload_n 0, 1) := by decide +kernel
theorem dX1_send_55 : decode cX1_send 55 = .ok (.getfield 25, 3) := by decide +kernel
theorem dX1_send_58 : decode cX1_send 58 = .ok (.iload_n 3, 1) := by decide +kernel
theorem dX1_send_59 : decode cX1_send 59 = .ok (.sipush 200, 3) := by decide +kernel
theorem dX1_send_62 : decode cX1_send 62 = .ok (.isub, 1) := by decide +kernel
theorem dX1_send_63 : decode cX1_send 63 = .ok (.iaload, 1) := by decide +kernel
theorem dX1_send_64 : decode cX1_send 64 = .ok (.istore_n 2, 1) := by decide +kernel
theorem dX1_send_65 : decode cX1_send 65 = .ok (.goto (-63), 3) := by decide +kernel
theorem dX1_send_68 : decode cX1_send 68 = .ok (.return_, 1) := by decide +kernel
theorem dX1_quickest_0 : decode cX1_quickest 0 = .ok (.iconst 0, 1) := by decide +kernel
theorem dX1_quickest_1 : decode cX1_quickest 1 = .ok (.istore_n 2, 1) := by decide +kernel
theorem dX1_quickest_2 : decode cX1_quickest 2 = .ok (.iload_n 2, 1) := by decide +kernel
theorem dX1_quickest_3 : decode cX1_quickest 3 = .ok (.bipush 12, 2) := by decide +kernel
theorem dX1_quickest_5 : decode cX1_quickest 5 = .ok (.if_icmp .gt 21, 3) := by decide +kernel
theorem dX1_quickest_8 : decode cX1_quickest 8 = .ok (.aload_n 0, 1) := by decide +kernel
theorem dX1_quickest_9 : decode cX1_quickest 9 = .ok (.iload_n 2, 1) := by decide +kernel
theorem dX1_quickest_10 : decode cX1_quickest 10 = .ok (.iconst 1, 1) := by decide +kernel
theorem dX1_quickest_11 : decode cX1_quickest 11 = .ok (.invokevirtual 70, 3) := by decide +kernel
theorem dX1_quickest_14 : decode cX1_quickest 14 = .ok (.iload_n 1, 1) := by decide +kernel
theorem dX1_quickest_15 : decode cX1_quickest 15 = .ok (.if_icmp .lt 5, 3) := by decide +kernel
theorem dX1_quickest_18 : decode cX1_quickest 18 = .ok (.iload_n 2, 1) := by decide +kernel
theorem dX1_quickest_19 : decode cX1_quickest 19 = .ok (.ireturn, 1) := by decide +kernel
theorem dX1_quickest_20 : decode cX1_quickest 20 = .ok (.iinc 2 1, 3) := by decide +kernel
theorem dX1_quickest_23 : decode cX1_quickest 23 = .ok (.goto (-21), 3) := by decide +kernel
theorem dX1_quickest_26 : decode cX1_quickest 26 = .ok (.iconst (-1), 1) := by decide +kernel
theorem dX1_quickest_27 : decode cX1_quickest 27 = .ok (.ireturn, 1) := by decide +kernel
theorem dX1_first_0 : decode cX1_first 0 = .ok (.aload_n 0, 1) := by decide +kernel
theorem dX1_first_1 : decode cX1_first 1 = .ok (.iconst 1, 1) := by decide +kernel
theorem dX1_first_2 : decode cX1_first 2 = .ok (.invokevirtual 74, 3) := by decide +kernel
theorem dX1_first_5 : decode cX1_first 5 = .ok (.ireturn, 1) := by decide +kernel
theorem dX1_gain_0 : decode cX1_gain 0 = .ok (.iload_n 2, 1) := by decide +kernel
theorem dX1_gain_1 : decode cX1_gain 1 = .ok (.invokestatic 67, 3) := by decide +kernel
theorem dX1_gain_4 : decode cX1_gain 4 = .ok (.ifCond .ne 15, 3) := by decide +kernel
theorem dX1_gain_7 : decode cX1_gain 7 = .ok (.iload_n 1, 1) := by decide +kernel
theorem dX1_gain_8 : decode cX1_gain 8 = .ok (.ifCond .lt 11, 3) := by decide +kernel
theorem dX1_gain_11 : decode cX1_gain 11 = .ok (.iload_n 1, 1) := by decide +kernel
theorem dX1_gain_12 : decode cX1_gain 12 = .ok (.aload_n 0, 1) := by decide +kernel
theorem dX1_gain_13 : decode cX1_gain 13 = .ok (.getfield 40, 3) := by decide +kernel
theorem dX1_gain_16 : decode cX1_gain 16 = .ok (.if_icmp .lt 5, 3) := by decide +kernel
theorem dX1_gain_19 : decode cX1_gain 19 = .ok (.iconst (-1), 1) := by decide +kernel
theorem dX1_gain_20 : decode cX1_gain 20 = .ok (.ireturn, 1) := by decide +kernel
theorem dX1_gain_21 : decode cX1_gain 21 = .ok (.aload_n 0, 1) := by decide +kernel
theorem dX1_gain_22 : decode cX1_gain 22 = .ok (.iload_n 2, 1) := by decide +kernel
theorem dX1_gain_23 : decode cX1_gain 23 = .ok (.iconst 1, 1) := by decide +kernel
theorem dX1_gain_24 : decode cX1_gain 24 = .ok (.invokevirtual 70, 3) := by decide +kernel
theorem dX1_gain_27 : decode cX1_gain 27 = .ok (.istore_n 3, 1) := by decide +kernel
theorem dX1_gain_28 : decode cX1_gain 28 = .ok (.aload_n 0, 1) := by decide +kernel
theorem dX1_gain_29 : decode cX1_gain 29 = .ok (.getfield 16, 3) := by decide +kernel
theorem dX1_gain_32 : decode cX1_gain 32 = .ok (.iload_n 1, 1) := by decide +kernel
theorem dX1_gain_33 : decode cX1_gain 33 = .ok (.dup2, 1) := by decide +kernel
theorem dX1_gain_34 : decode cX1_gain 34 = .ok (.iaload, 1) := by decide +kernel
theorem dX1_gain_35 : decode cX1_gain 35 = .ok (.iconst 1, 1) := by decide +kernel
theorem dX1_gain_36 : decode cX1_gain 36 = .ok (.iadd, 1) := by decide +kernel
theorem dX1_gain_37 : decode cX1_gain 37 = .ok (.iastore, 1) := by decide +kernel
theorem dX1_gain_38 : decode cX1_gain 38 = .ok (.aload_n 0, 1) := by decide +kernel
theorem dX1_gain_39 : decode cX1_gain 39 = .ok (.iload_n 2, 1) := by decide +kernel
theorem dX1_gain_40 : decode cX1_gain 40 = .ok (.iconst 1, 1) := by decide +kernel
theorem dX1_gain_41 : decode cX1_gain 41 = .ok (.invokevirtual 70, 3) := by decide +kernel
theorem dX1_gain_44 : decode cX1_gain 44 = .ok (.istore 4, 2) := by decide +kernel
theorem dX1_gain_46 : decode cX1_gain 46 = .ok (.aload_n 0, 1) := by decide +kernel
theorem dX1_gain_47 : decode cX1_gain 47 = .ok (.getfield 16, 3) := by decide +kernel
theorem dX1_gain_50 : decode cX1_gain 50 = .ok (.iload_n 1, 1) := by decide +kernel
theorem dX1_gain_51 : decode cX1_gain 51 = .ok (.dup2, 1) := by decide +kernel
theorem dX1_gain_52 : decode cX1_gain 52 = .ok (.iaload, 1) := by decide +kernel
theorem dX1_gain_53 : decode cX1_gain 53 = .ok (.iconst 1, 1) := by decide +kernel
theorem dX1_gain_54 : decode cX1_gain 54 = .ok (.isub, 1) := by decide +kernel
theorem dX1_gain_55 : decode cX1_gain 55 = .ok (.iastore, 1) := by decide +kernel
theorem dX1_gain_56 : decode cX1_gain 56 = .ok (.iload 4, 2) := by decide +kernel
theorem dX1_gain_58 : decode cX1_gain 58 = .ok (.iload_n 3, 1) := by decide +kernel
theorem dX1_gain_59 : decode cX1_gain 59 = .ok (.isub, 1) := by decide +kernel
theorem dX1_gain_60 : decode cX1_gain 60 = .ok (.ireturn, 1) := by decide +kernel
theorem dX1_steady_0 : decode cX1_steady 0 = .ok (.aload_n 0, 1) := by decide +kernel
theorem dX1_steady_1 : decode cX1_steady 1 = .ok (.iconst 0, 1) := by decide +kernel
theorem dX1_steady_2 : decode cX1_steady 2 = .ok (.iconst 0, 1) := by decide +kernel
theorem dX1_steady_3 : decode cX1_steady 3 = .ok (.invokevirtual 70, 3) := by decide +kernel
theorem dX1_steady_6 : decode cX1_steady 6 = .ok (.ireturn, 1) := by decide +kernel
end
section
/-! java/lang/Object -/
set_option maxRecDepth 100000
def RJ0 : String := "java/lang/Object"
abbrev cJ0_init : ByteArray := object_method_1_code
def yJ0_init : MethodName := ⟨RJ0, "<init>", "()V"⟩
theorem q20 : (Jvm.Cond.instanceMethod ({ cls := "java/lang/Object", name := "<init>", desc := "()V" } : Jvm.MethodName)) ∈ lw_all := lw_g (lw_at lw_m0 9 rfl) rfl
theorem q21 : (Jvm.Cond.code ({ cls := "java/lang/Object", name := "<init>", desc := "()V" } : Jvm.MethodName) object_method_1_code (1 : Nat) (Option.none : Option Jvm.ClassFile.FieldType)) ∈ lw_all := lw_g (lw_at lw_m0 10 rfl) rfl

theorem dJ0_init_0 : decode cJ0_init 0 = .ok (.return_, 1) := by decide +kernel
theorem q59 : (Jvm.Cond.arrayClass Jvm.ClassFile.FieldType.int) ∈ lw_all := lw_g (lw_at lw_m0 48 rfl) rfl
set_option maxRecDepth 100000
theorem q60 : (Jvm.Cond.arrayClass Jvm.ClassFile.FieldType.boolean) ∈ lw_all := lw_g (lw_at lw_m0 49 rfl) rfl

theorem q11 : (Jvm.Cond.initialized "QuickestFlowLaw") ∈ lw_all := lw_g (lw_at lw_m0 0 rfl) rfl
set_option maxRecDepth 100000
theorem q14 : (Jvm.Cond.classLink "QuickestFlowLaw" (7 : Nat) "QuickestFlow") ∈ lw_all := lw_g (lw_at lw_m0 3 rfl) rfl
theorem q16 : (Jvm.Cond.methodLink "QuickestFlowLaw" (9 : Nat) ({ cls := "QuickestFlow", name := "<init>", desc := "()V" } : Jvm.MethodName)) ∈ lw_all := lw_g (lw_at lw_m0 5 rfl) rfl
theorem q61 : (Jvm.Cond.methodLink "QuickestFlowLaw" (13 : Nat) ({ cls := "QuickestFlow", name := "add", desc := "(IIII)I" } : Jvm.MethodName)) ∈ lw_all := lw_g (lw_at lw_m0 50 rfl) rfl
theorem q65 : (Jvm.Cond.methodLink "QuickestFlowLaw" (18 : Nat) ({ cls := "QuickestFlow", name := "drop", desc := "(I)I" } : Jvm.MethodName)) ∈ lw_all := lw_g (lw_at lw_m0 54 rfl) rfl
theorem q69 : (Jvm.Cond.methodLink "QuickestFlowLaw" (23 : Nat) ({ cls := "QuickestFlow", name := "arrived", desc := "(I)I" } : Jvm.MethodName)) ∈ lw_all := lw_g (lw_at lw_m0 58 rfl) rfl
theorem q97 : (Jvm.Cond.methodLink "QuickestFlowLaw" (27 : Nat) ({ cls := "QuickestFlow", name := "quickest", desc := "(I)I" } : Jvm.MethodName)) ∈ lw_all := lw_g (lw_at lw_m0 86 rfl) rfl
theorem q101 : (Jvm.Cond.methodLink "QuickestFlowLaw" (31 : Nat) ({ cls := "QuickestFlow", name := "first", desc := "()I" } : Jvm.MethodName)) ∈ lw_all := lw_g (lw_at lw_m0 90 rfl) rfl
theorem q105 : (Jvm.Cond.methodLink "QuickestFlowLaw" (36 : Nat) ({ cls := "QuickestFlow", name := "gain", desc := "(II)I" } : Jvm.MethodName)) ∈ lw_all := lw_g (lw_at lw_m0 94 rfl) rfl
theorem q109 : (Jvm.Cond.methodLink "QuickestFlowLaw" (41 : Nat) ({ cls := "QuickestFlow", name := "steady", desc := "()I" } : Jvm.MethodName)) ∈ lw_all := lw_g (lw_at lw_m0 98 rfl) rfl
theorem q113 : (Jvm.Cond.classLink "QuickestFlowLaw" (10 : Nat) "QuickestFlowModel") ∈ lw_all := lw_g (lw_at lw_m0 102 rfl) rfl
theorem q115 : (Jvm.Cond.methodLink "QuickestFlowLaw" (12 : Nat) ({ cls := "QuickestFlowModel", name := "<init>", desc := "()V" } : Jvm.MethodName)) ∈ lw_all := lw_g (lw_at lw_m0 104 rfl) rfl
theorem q156 : (Jvm.Cond.methodLink "QuickestFlowLaw" (17 : Nat) ({ cls := "QuickestFlowModel", name := "add", desc := "(IIII)I" } : Jvm.MethodName)) ∈ lw_all := lw_g (lw_at lw_m0 145 rfl) rfl
theorem q163 : (Jvm.Cond.methodLink "QuickestFlowLaw" (22 : Nat) ({ cls := "QuickestFlowModel", name := "drop", desc := "(I)I" } : Jvm.MethodName)) ∈ lw_all := lw_g (lw_at lw_m0 152 rfl) rfl
theorem q167 : (Jvm.Cond.methodLink "QuickestFlowLaw" (26 : Nat) ({ cls := "QuickestFlowModel", name := "arrived", desc := "(I)I" } : Jvm.MethodName)) ∈ lw_all := lw_g (lw_at lw_m0 156 rfl) rfl
theorem q195 : (Jvm.Cond.methodLink "QuickestFlowLaw" (30 : Nat) ({ cls := "QuickestFlowModel", name := "quickest", desc := "(I)I" } : Jvm.MethodName)) ∈ lw_all := lw_g (lw_at lw_m0 184 rfl) rfl
theorem q199 : (Jvm.Cond.methodLink "QuickestFlowLaw" (35 : Nat) ({ cls := "QuickestFlowModel", name := "first", desc := "()I" } : Jvm.MethodName)) ∈ lw_all := lw_g (lw_at lw_m0 188 rfl) rfl
theorem q204 : (Jvm.Cond.methodLink "QuickestFlowLaw" (40 : Nat) ({ cls := "QuickestFlowModel", name := "gain", desc := "(II)I" } : Jvm.MethodName)) ∈ lw_all := lw_g (lw_at lw_m0 193 rfl) rfl
theorem q208 : (Jvm.Cond.methodLink "QuickestFlowLaw" (44 : Nat) ({ cls := "QuickestFlowModel", name := "steady", desc := "()I" } : Jvm.MethodName)) ∈ lw_all := lw_g (lw_at lw_m0 197 rfl) rfl

/-! the law's own entry -/
set_option maxRecDepth 100000
abbrev cL_law : ByteArray := code

theorem dL_law_0 : decode cL_law 0 = .ok (.new 7, 3) := by decide +kernel
theorem dL_law_3 : decode cL_law 3 = .ok (.dup, 1) := by decide +kernel
theorem dL_law_4 : decode cL_law 4 = .ok (.invokespecial 9, 3) := by decide +kernel
theorem dL_law_7 : decode cL_law 7 = .ok (.astore_n 1, 1) := by decide +kernel
theorem dL_law_8 : decode cL_law 8 = .ok (.new 10, 3) := by decide +kernel
theorem dL_law_11 : decode cL_law 11 = .ok (.dup, 1) := by decide +kernel
theorem dL_law_12 : decode cL_law 12 = .ok (.invokespecial 12, 3) := by decide +kernel
theorem dL_law_15 : decode cL_law 15 = .ok (.astore_n 2, 1) := by decide +kernel
theorem dL_law_16 : decode cL_law 16 = .ok (.iconst 0, 1) := by decide +kernel
theorem dL_law_17 : decode cL_law 17 = .ok (.istore_n 3, 1) := by decide +kernel
theorem dL_law_18 : decode cL_law 18 = .ok (.iload_n 3, 1) := by decide +kernel
theorem dL_law_19 : decode cL_law 19 = .ok (.aload_n 0, 1) := by decide +kernel
theorem dL_law_20 : decode cL_law 20 = .ok (.arraylength, 1) := by decide +kernel
theorem dL_law_21 : decode cL_law 21 = .ok (.iconst 5, 1) := by decide +kernel
theorem dL_law_22 : decode cL_law 22 = .ok (.isub, 1) := by decide +kernel
theorem dL_law_23 : decode cL_law 23 = .ok (.if_icmp .gt 240, 3) := by decide +kernel
theorem dL_law_26 : decode cL_law 26 = .ok (.aload_n 0, 1) := by decide +kernel
theorem dL_law_27 : decode cL_law 27 = .ok (.iload_n 3, 1) := by decide +kernel
theorem dL_law_28 : decode cL_law 28 = .ok (.iaload, 1) := by decide +kernel
theorem dL_law_29 : decode cL_law 29 = .ok (.bipush 7, 2) := by decide +kernel
theorem dL_law_31 : decode cL_law 31 = .ok (.iand, 1) := by decide +kernel
theorem dL_law_32 : decode cL_law 32 = .ok (.tableswitch 225 0 6 #[44, 97, 120, 143, 166, 179, 212], 44) := by decide +kernel
theorem dL_law_76 : decode cL_law 76 = .ok (.aload_n 1, 1) := by decide +kernel
theorem dL_law_77 : decode cL_law 77 = .ok (.aload_n 0, 1) := by decide +kernel
theorem dL_law_78 : decode cL_law 78 = .ok (.iload_n 3, 1) := by decide +kernel
theorem dL_law_79 : decode cL_law 79 = .ok (.iconst 1, 1) := by decide +kernel
theorem dL_law_80 : decode cL_law 80 = .ok (.iadd, 1) := by decide +kernel
theorem dL_law_81 : decode cL_law 81 = .ok (.iaload, 1) := by decide +kernel
theorem dL_law_82 : decode cL_law 82 = .ok (.aload_n 0, 1) := by decide +kernel
theorem dL_law_83 : decode cL_law 83 = .ok (.iload_n 3, 1) := by decide +kernel
theorem dL_law_84 : decode cL_law 84 = .ok (.iconst 2, 1) := by decide +kernel
theorem dL_law_85 : decode cL_law 85 = .ok (.iadd, 1) := by decide +kernel
theorem dL_law_86 : decode cL_law 86 = .ok (.iaload, 1) := by decide +kernel
theorem dL_law_87 : decode cL_law 87 = .ok (.aload_n 0, 1) := by decide +kernel
theorem dL_law_88 : decode cL_law 88 = .ok (.iload_n 3, 1) := by decide +kernel
theorem dL_law_89 : decode cL_law 89 = .ok (.iconst 3, 1) := by decide +kernel
theorem dL_law_90 : decode cL_law 90 = .ok (.iadd, 1) := by decide +kernel
theorem dL_law_91 : decode cL_law 91 = .ok (.iaload, 1) := by decide +kernel
theorem dL_law_92 : decode cL_law 92 = .ok (.aload_n 0, 1) := by decide +kernel
theorem dL_law_93 : decode cL_law 93 = .ok (.iload_n 3, 1) := by decide +kernel
theorem dL_law_94 : decode cL_law 94 = .ok (.iconst 4, 1) := by decide +kernel
theorem dL_law_95 : decode cL_law 95 = .ok (.iadd, 1) := by decide +kernel
theorem dL_law_96 : decode cL_law 96 = .ok (.iaload, 1) := by decide +kernel
theorem dL_law_97 : decode cL_law 97 = .ok (.invokevirtual 13, 3) := by decide +kernel
theorem dL_law_100 : decode cL_law 100 = .ok (.aload_n 2, 1) := by decide +kernel
theorem dL_law_101 : decode cL_law 101 = .ok (.aload_n 0, 1) := by decide +kernel
theorem dL_law_102 : decode cL_law 102 = .ok (.iload_n 3, 1) := by decide +kernel
theorem dL_law_103 : decode cL_law 103 = .ok (.iconst 1, 1) := by decide +kernel
theorem dL_law_104 : decode cL_law 104 = .ok (.iadd, 1) := by decide +kernel
theorem dL_law_105 : decode cL_law 105 = .ok (.iaload, 1) := by decide +kernel
theorem dL_law_106 : decode cL_law 106 = .ok (.aload_n 0, 1) := by decide +kernel
theorem dL_law_107 : decode cL_law 107 = .ok (.iload_n 3, 1) := by decide +kernel
theorem dL_law_108 : decode cL_law 108 = .ok (.iconst 2, 1) := by decide +kernel
theorem dL_law_109 : decode cL_law 109 = .ok (.iadd, 1) := by decide +kernel
theorem dL_law_110 : decode cL_law 110 = .ok (.iaload, 1) := by decide +kernel
theorem dL_law_111 : decode cL_law 111 = .ok (.aload_n 0, 1) := by decide +kernel
theorem dL_law_112 : decode cL_law 112 = .ok (.iload_n 3, 1) := by decide +kernel
theorem dL_law_113 : decode cL_law 113 = .ok (.iconst 3, 1) := by decide +kernel
theorem dL_law_114 : decode cL_law 114 = .ok (.iadd, 1) := by decide +kernel
theorem dL_law_115 : decode cL_law 115 = .ok (.iaload, 1) := by decide +kernel
theorem dL_law_116 : decode cL_law 116 = .ok (.aload_n 0, 1) := by decide +kernel
theorem dL_law_117 : decode cL_law 117 = .ok (.iload_n 3, 1) := by decide +kernel
theorem dL_law_118 : decode cL_law 118 = .ok (.iconst 4, 1) := by decide +kernel
theorem dL_law_119 : decode cL_law 119 = .ok (.iadd, 1) := by decide +kernel
theorem dL_law_120 : decode cL_law 120 = .ok (.iaload, 1) := by decide +kernel
theorem dL_law_121 : decode cL_law 121 = .ok (.invokevirtual 17, 3) := by decide +kernel
theorem dL_law_124 : decode cL_law 124 = .ok (.if_icmp .eq 133, 3) := by decide +kernel
theorem dL_law_127 : decode cL_law 127 = .ok (.iconst 0, 1) := by decide +kernel
theorem dL_law_128 : decode cL_law 128 = .ok (.ireturn, 1) := by decide +kernel
theorem dL_law_129 : decode cL_law 129 = .ok (.aload_n 1, 1) := by decide +kernel
theorem dL_law_130 : decode cL_law 130 = .ok (.aload_n 0, 1) := by decide +kernel
theorem dL_law_131 : decode cL_law 131 = .ok (.iload_n 3, 1) := by decide +kernel
theorem dL_law_132 : decode cL_law 132 = .ok (.iconst 1, 1) := by decide +kernel
theorem dL_law_133 : decode cL_law 133 = .ok (.iadd, 1) := by decide +kernel
theorem dL_law_134 : decode cL_law 134 = .ok (.iaload, 1) := by decide +kernel
theorem dL_law_135 : decode cL_law 135 = .ok (.invokevirtual 18, 3) := by decide +kernel
theorem dL_law_138 : decode cL_law 138 = .ok (.aload_n 2, 1) := by decide +kernel
theorem dL_law_139 : decode cL_law 139 = .ok (.aload_n 0, 1) := by decide +kernel
theorem dL_law_140 : decode cL_law 140 = .ok (.iload_n 3, 1) := by decide +kernel
theorem dL_law_141 : decode cL_law 141 = .ok (.iconst 1, 1) := by decide +kernel
theorem dL_law_142 : decode cL_law 142 = .ok (.iadd, 1) := by decide +kernel
theorem dL_law_143 : decode cL_law 143 = .ok (.iaload, 1) := by decide +kernel
theorem dL_law_144 : decode cL_law 144 = .ok (.invokevirtual 22, 3) := by decide +kernel
theorem dL_law_147 : decode cL_law 147 = .ok (.if_icmp .eq 110, 3) := by decide +kernel
theorem dL_law_150 : decode cL_law 150 = .ok (.iconst 0, 1) := by decide +kernel
theorem dL_law_151 : decode cL_law 151 = .ok (.ireturn, 1) := by decide +kernel
theorem dL_law_152 : decode cL_law 152 = .ok (.aload_n 1, 1) := by decide +kernel
theorem dL_law_153 : decode cL_law 153 = .ok (.aload_n 0, 1) := by decide +kernel
theorem dL_law_154 : decode cL_law 154 = .ok (.iload_n 3, 1) := by decide +kernel
theorem dL_law_155 : decode cL_law 155 = .ok (.iconst 1, 1) := by decide +kernel
theorem dL_law_156 : decode cL_law 156 = .ok (.iadd, 1) := by decide +kernel
theorem dL_law_157 : decode cL_law 157 = .ok (.iaload, 1) := by decide +kernel
theorem dL_law_158 : decode cL_law 158 = .ok (.invokevirtual 23, 3) := by decide +kernel
theorem dL_law_161 : decode cL_law 161 = .ok (.aload_n 2, 1) := by decide +kernel
theorem dL_law_162 : decode cL_law 162 = .ok (.aload_n 0, 1) := by decide +kernel
theorem dL_law_163 : decode cL_law 163 = .ok (.iload_n 3, 1) := by decide +kernel
theorem dL_law_164 : decode cL_law 164 = .ok (.iconst 1, 1) := by decide +kernel
theorem dL_law_165 : decode cL_law 165 = .ok (.iadd, 1) := by decide +kernel
theorem dL_law_166 : decode cL_law 166 = .ok (.iaload, 1) := by decide +kernel
theorem dL_law_167 : decode cL_law 167 = .ok (.invokevirtual 26, 3) := by decide +kernel
theorem dL_law_170 : decode cL_law 170 = .ok (.if_icmp .eq 87, 3) := by decide +kernel
theorem dL_law_173 : decode cL_law 173 = .ok (.iconst 0, 1) := by decide +kernel
theorem dL_law_174 : decode cL_law 174 = .ok (.ireturn, 1) := by decide +kernel
theorem dL_law_175 : decode cL_law 175 = .ok (.aload_n 1, 1) := by decide +kernel
theorem dL_law_176 : decode cL_law 176 = .ok (.aload_n 0, 1) := by decide +kernel
theorem dL_law_177 : decode cL_law 177 = .ok (.iload_n 3, 1) := by decide +kernel
theorem dL_law_178 : decode cL_law 178 = .ok (.iconst 1, 1) := by decide +kernel
theorem dL_law_179 : decode cL_law 179 = .ok (.iadd, 1) := by decide +kernel
theorem dL_law_180 : decode cL_law 180 = .ok (.iaload, 1) := by decide +kernel
theorem dL_law_181 : decode cL_law 181 = .ok (.invokevirtual 27, 3) := by decide +kernel
theorem dL_law_184 : decode cL_law 184 = .ok (.aload_n 2, 1) := by decide +kernel
theorem dL_law_185 : decode cL_law 185 = .ok (.aload_n 0, 1) := by decide +kernel
theorem dL_law_186 : decode cL_law 186 = .ok (.iload_n 3, 1) := by decide +kernel
theorem dL_law_187 : decode cL_law 187 = .ok (.iconst 1, 1) := by decide +kernel
theorem dL_law_188 : decode cL_law 188 = .ok (.iadd, 1) := by decide +kernel
theorem dL_law_189 : decode cL_law 189 = .ok (.iaload, 1) := by decide +kernel
theorem dL_law_190 : decode cL_law 190 = .ok (.invokevirtual 30, 3) := by decide +kernel
theorem dL_law_193 : decode cL_law 193 = .ok (.if_icmp .eq 64, 3) := by decide +kernel
theorem dL_law_196 : decode cL_law 196 = .ok (.iconst 0, 1) := by decide +kernel
theorem dL_law_197 : decode cL_law 197 = .ok (.ireturn, 1) := by decide +kernel
theorem dL_law_198 : decode cL_law 198 = .ok (.aload_n 1, 1) := by decide +kernel
theorem dL_law_199 : decode cL_law 199 = .ok (.invokevirtual 31, 3) := by decide +kernel
theorem dL_law_202 : decode cL_law 202 = .ok (.aload_n 2, 1) := by decide +kernel
theorem dL_law_203 : decode cL_law 203 = .ok (.invokevirtual 35, 3) := by decide +kernel
theorem dL_law_206 : decode cL_law 206 = .ok (.if_icmp .eq 51, 3) := by decide +kernel
theorem dL_law_209 : decode cL_law 209 = .ok (.iconst 0, 1) := by decide +kernel
theorem dL_law_210 : decode cL_law 210 = .ok (.ireturn, 1) := by decide +kernel
theorem dL_law_211 : decode cL_law 211 = .ok (.aload_n 1, 1) := by decide +kernel
theorem dL_law_212 : decode cL_law 212 = .ok (.aload_n 0, 1) := by decide +kernel
theorem dL_law_213 : decode cL_law 213 = .ok (.iload_n 3, 1) := by decide +kernel
theorem dL_law_214 : decode cL_law 214 = .ok (.iconst 1, 1) := by decide +kernel
theorem dL_law_215 : decode cL_law 215 = .ok (.iadd, 1) := by decide +kernel
theorem dL_law_216 : decode cL_law 216 = .ok (.iaload, 1) := by decide +kernel
theorem dL_law_217 : decode cL_law 217 = .ok (.aload_n 0, 1) := by decide +kernel
theorem dL_law_218 : decode cL_law 218 = .ok (.iload_n 3, 1) := by decide +kernel
theorem dL_law_219 : decode cL_law 219 = .ok (.iconst 2, 1) := by decide +kernel
theorem dL_law_220 : decode cL_law 220 = .ok (.iadd, 1) := by decide +kernel
theorem dL_law_221 : decode cL_law 221 = .ok (.iaload, 1) := by decide +kernel
theorem dL_law_222 : decode cL_law 222 = .ok (.invokevirtual 36, 3) := by decide +kernel
theorem dL_law_225 : decode cL_law 225 = .ok (.aload_n 2, 1) := by decide +kernel
theorem dL_law_226 : decode cL_law 226 = .ok (.aload_n 0, 1) := by decide +kernel
theorem dL_law_227 : decode cL_law 227 = .ok (.iload_n 3, 1) := by decide +kernel
theorem dL_law_228 : decode cL_law 228 = .ok (.iconst 1, 1) := by decide +kernel
theorem dL_law_229 : decode cL_law 229 = .ok (.iadd, 1) := by decide +kernel
theorem dL_law_230 : decode cL_law 230 = .ok (.iaload, 1) := by decide +kernel
theorem dL_law_231 : decode cL_law 231 = .ok (.aload_n 0, 1) := by decide +kernel
theorem dL_law_232 : decode cL_law 232 = .ok (.iload_n 3, 1) := by decide +kernel
theorem dL_law_233 : decode cL_law 233 = .ok (.iconst 2, 1) := by decide +kernel
theorem dL_law_234 : decode cL_law 234 = .ok (.iadd, 1) := by decide +kernel
theorem dL_law_235 : decode cL_law 235 = .ok (.iaload, 1) := by decide +kernel
theorem dL_law_236 : decode cL_law 236 = .ok (.invokevirtual 40, 3) := by decide +kernel
theorem dL_law_239 : decode cL_law 239 = .ok (.if_icmp .eq 18, 3) := by decide +kernel
theorem dL_law_242 : decode cL_law 242 = .ok (.iconst 0, 1) := by decide +kernel
theorem dL_law_243 : decode cL_law 243 = .ok (.ireturn, 1) := by decide +kernel
theorem dL_law_244 : decode cL_law 244 = .ok (.aload_n 1, 1) := by decide +kernel
theorem dL_law_245 : decode cL_law 245 = .ok (.invokevirtual 41, 3) := by decide +kernel
theorem dL_law_248 : decode cL_law 248 = .ok (.aload_n 2, 1) := by decide +kernel
theorem dL_law_249 : decode cL_law 249 = .ok (.invokevirtual 44, 3) := by decide +kernel
theorem dL_law_252 : decode cL_law 252 = .ok (.if_icmp .eq 5, 3) := by decide +kernel
theorem dL_law_255 : decode cL_law 255 = .ok (.iconst 0, 1) := by decide +kernel
theorem dL_law_256 : decode cL_law 256 = .ok (.ireturn, 1) := by decide +kernel
theorem dL_law_257 : decode cL_law 257 = .ok (.iinc 3 5, 3) := by decide +kernel
theorem dL_law_260 : decode cL_law 260 = .ok (.goto (-242), 3) := by decide +kernel
theorem dL_law_263 : decode cL_law 263 = .ok (.iconst 1, 1) := by decide +kernel
theorem dL_law_264 : decode cL_law 264 = .ok (.ireturn, 1) := by decide +kernel
end
section
/-! ROWS OVER WHOLE NUMBERS: zI z is the int of z; an array of ints is zF of a function; every row of the walk speaks of z -/
set_option maxRecDepth 100000
def zI (z : Int) : Int32 := Int32.ofInt z
def zF (f : Nat → Int) : Nat → Int32 := fun j => zI (f j)
theorem zI_of (x : Int32) : x = zI x.toInt := (Int32.ofInt_toInt x).symm
theorem zI_toInt {z : Int} (h : -2147483648 ≤ z ∧ z ≤ 2147483647) : (zI z).toInt = z := Int32.toInt_ofInt_of_le (by omega) (by omega)
theorem zI_rg (x : Int32) : -2147483648 ≤ x.toInt ∧ x.toInt ≤ 2147483647 := ⟨by have := x.le_toInt; omega, by have := x.toInt_lt; omega⟩
theorem zI_eq {a b : Int} (ha : -2147483648 ≤ a ∧ a ≤ 2147483647) (hb : -2147483648 ≤ b ∧ b ≤ 2147483647) : zI a = zI b ↔ a = b := by
  rw [← Int32.toInt_inj, zI_toInt ha, zI_toInt hb]
theorem zI_le {a b : Int} (ha : -2147483648 ≤ a ∧ a ≤ 2147483647) (hb : -2147483648 ≤ b ∧ b ≤ 2147483647) : zI a ≤ zI b ↔ a ≤ b := by
  rw [Int32.le_iff_toInt_le, zI_toInt ha, zI_toInt hb]
theorem zI_lt {a b : Int} (ha : -2147483648 ≤ a ∧ a ≤ 2147483647) (hb : -2147483648 ≤ b ∧ b ≤ 2147483647) : zI a < zI b ↔ a < b := by
  rw [Int32.lt_iff_toInt_lt, zI_toInt ha, zI_toInt hb]
theorem zI_z : (0 : Int32) = zI 0 := by decide
theorem zI_cl {z : Int} (h : 0 ≤ z ∧ z ≤ 2147483647) : (zI z).toNatClampNeg = z.toNat := Int32.toNatClampNeg_ofInt_of_le (by omega) (by omega)
theorem zI_in {z : Int} {n : Nat} (h : 0 ≤ z ∧ z < n) (hn : n ≤ 2000000) : vp_in (zI z) n := vp_in_iff.mpr (by rw [zI_toInt (by omega)]; exact h)
theorem zF_upd {f : Nat → Int} {k : Nat} {v : Int} : upd (zF f) k (zI v) = zF (va_up f k v) := by
  funext j
  show (if j = k then zI v else zI (f j)) = zI (if j = k then v else f j)
  split <;> rfl
theorem zI_nar {v : Int} (h : v = 0 ∨ v = 1) : vp_nar .boolean (zI v) = zI v := by
  rcases h with rfl | rfl <;> decide
theorem zI_nar' {v : Int} (h : v = 0 ∨ v = 1) : narrow .boolean (.int (zI v)) = .int (zI v) := by
  rcases h with rfl | rfl <;> rfl
section ZR
variable {p : Program} {l : Launch} {e : Env} {R : Room} {s : State} {m : MethodId} {args : Array Value} {below : List Frame} {meth : Method} {c : Code} {H : Heap} {locs : List Loc} {cells slots : Nat} {Q : State → Prop}
variable {cc : ByteArray} {pc : Nat} {ls : Array Slot} {rest : List Value} {D : va_G} {cl : List vw_C} {A : Nat → Prop} {a : Nat} {tys : List (ClassId × FieldType)} {ws : va_W} {H0 : Heap}
theorem z_iconst (hx : p.tables.exec = Jvm.exec) (hb : c.code = cc) {n : Int} (hdg : decode cc pc = .ok (.iconst n, 1)) (k : W p l e R s m args below meth c H locs cells slots Q (F0 m (pc + 1) ls (.int (zI n) :: rest))) : W p l e R s m args below meth c H locs cells slots Q (F0 m pc ls rest) := lv_iconst hx hb hdg rfl k
theorem z_bipush (hx : p.tables.exec = Jvm.exec) (hb : c.code = cc) {n : Int} (hdg : decode cc pc = .ok (.bipush n, 2)) (hv : (Int8.ofInt n).toInt32 = zI n) (k : W p l e R s m args below meth c H locs cells slots Q (F0 m (pc + 2) ls (.int (zI n) :: rest))) : W p l e R s m args below meth c H locs cells slots Q (F0 m pc ls rest) := lv_bipush hx hb hdg hv k
theorem z_sipush (hx : p.tables.exec = Jvm.exec) (hb : c.code = cc) {n : Int} (hdg : decode cc pc = .ok (.sipush n, 3)) (hv : (Int16.ofInt n).toInt32 = zI n) (k : W p l e R s m args below meth c H locs cells slots Q (F0 m (pc + 3) ls (.int (zI n) :: rest))) : W p l e R s m args below meth c H locs cells slots Q (F0 m pc ls rest) := lv_sipush hx hb hdg hv k
theorem z_iadd (hx : p.tables.exec = Jvm.exec) (hb : c.code = cc) {x y : Int} (hdg : decode cc pc = .ok (.iadd, 1)) (k : W p l e R s m args below meth c H locs cells slots Q (F0 m (pc + 1) ls (.int (zI (x + y)) :: rest))) : W p l e R s m args below meth c H locs cells slots Q (F0 m pc ls (.int (zI y) :: .int (zI x) :: rest)) := by
  refine lv_iadd hx hb hdg ?_
  rw [show zI x + zI y = zI (x + y) from (Int32.ofInt_add x y).symm]
  exact k
theorem z_isub (hx : p.tables.exec = Jvm.exec) (hb : c.code = cc) {x y : Int} (hdg : decode cc pc = .ok (.isub, 1)) (k : W p l e R s m args below meth c H locs cells slots Q (F0 m (pc + 1) ls (.int (zI (x - y)) :: rest))) : W p l e R s m args below meth c H locs cells slots Q (F0 m pc ls (.int (zI y) :: .int (zI x) :: rest)) := by
  refine lv_isub hx hb hdg ?_
  rw [show zI x - zI y = zI (x - y) from (Int32.ofInt_sub x y).symm]
  exact k
theorem z_imul (hx : p.tables.exec = Jvm.exec) (hb : c.code = cc) {x y : Int} (hdg : decode cc pc = .ok (.imul, 1)) (k : W p l e R s m args below meth c H locs cells slots Q (F0 m (pc + 1) ls (.int (zI (x * y)) :: rest))) : W p l e R s m args below meth c H locs cells slots Q (F0 m pc ls (.int (zI y) :: .int (zI x) :: rest)) := by
  refine lv_imul hx hb hdg ?_
  rw [show zI x * zI y = zI (x * y) from (Int32.ofInt_mul x y).symm]
  exact k
theorem z_ineg (hx : p.tables.exec = Jvm.exec) (hb : c.code = cc) {x : Int} (hdg : decode cc pc = .ok (.ineg, 1)) (k : W p l e R s m args below meth c H locs cells slots Q (F0 m (pc + 1) ls (.int (zI (-x)) :: rest))) : W p l e R s m args below meth c H locs cells slots Q (F0 m pc ls (.int (zI x) :: rest)) := by
  refine lv_ineg hx hb hdg ?_
  rw [show -zI x = zI (-x) from (Int32.ofInt_neg x).symm]
  exact k
/-- the number on top by another name -/
theorem z_top {x y : Int} (h : x = y) (k : W p l e R s m args below meth c H locs cells slots Q (F0 m pc ls (.int (zI y) :: rest))) : W p l e R s m args below meth c H locs cells slots Q (F0 m pc ls (.int (zI x) :: rest)) := by
  rw [h]; exact k
theorem z_iinc (hx : p.tables.exec = Jvm.exec) (hb : c.code = cc) {i nL k : Nat} {n x y : Int} {lv lv' : List (Nat × Value)} (hdg : decode cc pc = .ok (.iinc i n, 3)) (h : lv_has ls nL lv) (hk : lv[k]? = some (i, .int (zI x))) (hv : x + n = y) (hn : i < nL) (hl : (i, Value.int (zI y)) :: lv.filter (fun q => !(q.1 == i) && !(q.1 + 1 == i && q.2.category == 2)) = lv')
    (kk : ∀ ls' : Array Slot, lv_has ls' nL lv' → W p l e R s m args below meth c H locs cells slots Q (F0 m (pc + 3) ls' rest)) : W p l e R s m args below meth c H locs cells slots Q (F0 m pc ls rest) := by
  refine lv_iinc (v := zI y) hx hb hdg h hk ?_ hn hl kk
  rw [← hv]
  exact (Int32.ofInt_add x n).symm
theorem z_icmp_eq (hx : p.tables.exec = Jvm.exec) (hb : c.code = cc) {x y off : Int} {tgt : Nat} (hdg : decode cc pc = .ok (.if_icmp .eq off, 3)) (ht : (pc : Int) + off = (tgt : Int)) (rx : -2147483648 ≤ x ∧ x ≤ 2147483647) (ry : -2147483648 ≤ y ∧ y ≤ 2147483647)
    (kt : x = y → W p l e R s m args below meth c H locs cells slots Q (F0 m tgt ls rest)) (kf : ¬ x = y → W p l e R s m args below meth c H locs cells slots Q (F0 m (pc + 3) ls rest)) : W p l e R s m args below meth c H locs cells slots Q (F0 m pc ls (.int (zI y) :: .int (zI x) :: rest)) :=
  lv_icmp_eq hx hb hdg ht (fun h => kt ((zI_eq rx ry).mp h)) (fun h => kf (fun q => h ((zI_eq rx ry).mpr q)))
theorem z_if_eq (hx : p.tables.exec = Jvm.exec) (hb : c.code = cc) {x off : Int} {tgt : Nat} (hdg : decode cc pc = .ok (.ifCond .eq off, 3)) (ht : (pc : Int) + off = (tgt : Int)) (rx : -2147483648 ≤ x ∧ x ≤ 2147483647)
    (kt : x = 0 → W p l e R s m args below meth c H locs cells slots Q (F0 m tgt ls rest)) (kf : ¬ x = 0 → W p l e R s m args below meth c H locs cells slots Q (F0 m (pc + 3) ls rest)) : W p l e R s m args below meth c H locs cells slots Q (F0 m pc ls (.int (zI x) :: rest)) := by
  have ry : -2147483648 ≤ (0 : Int) ∧ (0 : Int) ≤ 2147483647 := by omega
  refine lv_if_eq hx hb hdg ht (fun h => ?_) (fun h => ?_)
  · rw [zI_z] at h
    exact kt ((zI_eq rx ry).mp h)
  · rw [zI_z] at h
    exact kf (fun q => h ((zI_eq rx ry).mpr q))
theorem z_icmp_ne (hx : p.tables.exec = Jvm.exec) (hb : c.code = cc) {x y off : Int} {tgt : Nat} (hdg : decode cc pc = .ok (.if_icmp .ne off, 3)) (ht : (pc : Int) + off = (tgt : Int)) (rx : -2147483648 ≤ x ∧ x ≤ 2147483647) (ry : -2147483648 ≤ y ∧ y ≤ 2147483647)
    (kt : ¬ x = y → W p l e R s m args below meth c H locs cells slots Q (F0 m tgt ls rest)) (kf : x = y → W p l e R s m args below meth c H locs cells slots Q (F0 m (pc + 3) ls rest)) : W p l e R s m args below meth c H locs cells slots Q (F0 m pc ls (.int (zI y) :: .int (zI x) :: rest)) :=
  lv_icmp_ne hx hb hdg ht (fun h => kt (fun q => h ((zI_eq rx ry).mpr q))) (fun h => kf ((zI_eq rx ry).mp h))
theorem z_if_ne (hx : p.tables.exec = Jvm.exec) (hb : c.code = cc) {x off : Int} {tgt : Nat} (hdg : decode cc pc = .ok (.ifCond .ne off, 3)) (ht : (pc : Int) + off = (tgt : Int)) (rx : -2147483648 ≤ x ∧ x ≤ 2147483647)
    (kt : ¬ x = 0 → W p l e R s m args below meth c H locs cells slots Q (F0 m tgt ls rest)) (kf : x = 0 → W p l e R s m args below meth c H locs cells slots Q (F0 m (pc + 3) ls rest)) : W p l e R s m args below meth c H locs cells slots Q (F0 m pc ls (.int (zI x) :: rest)) := by
  have ry : -2147483648 ≤ (0 : Int) ∧ (0 : Int) ≤ 2147483647 := by omega
  refine lv_if_ne hx hb hdg ht (fun h => ?_) (fun h => ?_)
  · rw [zI_z] at h
    exact kt (fun q => h ((zI_eq rx ry).mpr q))
  · rw [zI_z] at h
    exact kf ((zI_eq rx ry).mp h)
theorem z_icmp_lt (hx : p.tables.exec = Jvm.exec) (hb : c.code = cc) {x y off : Int} {tgt : Nat} (hdg : decode cc pc = .ok (.if_icmp .lt off, 3)) (ht : (pc : Int) + off = (tgt : Int)) (rx : -2147483648 ≤ x ∧ x ≤ 2147483647) (ry : -2147483648 ≤ y ∧ y ≤ 2147483647)
    (kt : x < y → W p l e R s m args below meth c H locs cells slots Q (F0 m tgt ls rest)) (kf : ¬ x < y → W p l e R s m args below meth c H locs cells slots Q (F0 m (pc + 3) ls rest)) : W p l e R s m args below meth c H locs cells slots Q (F0 m pc ls (.int (zI y) :: .int (zI x) :: rest)) :=
  lv_icmp_lt hx hb hdg ht (fun h => kt ((zI_lt rx ry).mp h)) (fun h => kf (fun q => h ((zI_lt rx ry).mpr q)))
theorem z_if_lt (hx : p.tables.exec = Jvm.exec) (hb : c.code = cc) {x off : Int} {tgt : Nat} (hdg : decode cc pc = .ok (.ifCond .lt off, 3)) (ht : (pc : Int) + off = (tgt : Int)) (rx : -2147483648 ≤ x ∧ x ≤ 2147483647)
    (kt : x < 0 → W p l e R s m args below meth c H locs cells slots Q (F0 m tgt ls rest)) (kf : ¬ x < 0 → W p l e R s m args below meth c H locs cells slots Q (F0 m (pc + 3) ls rest)) : W p l e R s m args below meth c H locs cells slots Q (F0 m pc ls (.int (zI x) :: rest)) := by
  have ry : -2147483648 ≤ (0 : Int) ∧ (0 : Int) ≤ 2147483647 := by omega
  refine lv_if_lt hx hb hdg ht (fun h => ?_) (fun h => ?_)
  · rw [zI_z] at h
    exact kt ((zI_lt rx ry).mp h)
  · rw [zI_z] at h
    exact kf (fun q => h ((zI_lt rx ry).mpr q))
theorem z_icmp_ge (hx : p.tables.exec = Jvm.exec) (hb : c.code = cc) {x y off : Int} {tgt : Nat} (hdg : decode cc pc = .ok (.if_icmp .ge off, 3)) (ht : (pc : Int) + off = (tgt : Int)) (rx : -2147483648 ≤ x ∧ x ≤ 2147483647) (ry : -2147483648 ≤ y ∧ y ≤ 2147483647)
    (kt : y ≤ x → W p l e R s m args below meth c H locs cells slots Q (F0 m tgt ls rest)) (kf : ¬ y ≤ x → W p l e R s m args below meth c H locs cells slots Q (F0 m (pc + 3) ls rest)) : W p l e R s m args below meth c H locs cells slots Q (F0 m pc ls (.int (zI y) :: .int (zI x) :: rest)) :=
  lv_icmp_ge hx hb hdg ht (fun h => kt ((zI_le ry rx).mp h)) (fun h => kf (fun q => h ((zI_le ry rx).mpr q)))
theorem z_if_ge (hx : p.tables.exec = Jvm.exec) (hb : c.code = cc) {x off : Int} {tgt : Nat} (hdg : decode cc pc = .ok (.ifCond .ge off, 3)) (ht : (pc : Int) + off = (tgt : Int)) (rx : -2147483648 ≤ x ∧ x ≤ 2147483647)
    (kt : 0 ≤ x → W p l e R s m args below meth c H locs cells slots Q (F0 m tgt ls rest)) (kf : ¬ 0 ≤ x → W p l e R s m args below meth c H locs cells slots Q (F0 m (pc + 3) ls rest)) : W p l e R s m args below meth c H locs cells slots Q (F0 m pc ls (.int (zI x) :: rest)) := by
  have ry : -2147483648 ≤ (0 : Int) ∧ (0 : Int) ≤ 2147483647 := by omega
  refine lv_if_ge hx hb hdg ht (fun h => ?_) (fun h => ?_)
  · rw [zI_z] at h
    exact kt ((zI_le ry rx).mp h)
  · rw [zI_z] at h
    exact kf (fun q => h ((zI_le ry rx).mpr q))
theorem z_icmp_gt (hx : p.tables.exec = Jvm.exec) (hb : c.code = cc) {x y off : Int} {tgt : Nat} (hdg : decode cc pc = .ok (.if_icmp .gt off, 3)) (ht : (pc : Int) + off = (tgt : Int)) (rx : -2147483648 ≤ x ∧ x ≤ 2147483647) (ry : -2147483648 ≤ y ∧ y ≤ 2147483647)
    (kt : y < x → W p l e R s m args below meth c H locs cells slots Q (F0 m tgt ls rest)) (kf : ¬ y < x → W p l e R s m args below meth c H locs cells slots Q (F0 m (pc + 3) ls rest)) : W p l e R s m args below meth c H locs cells slots Q (F0 m pc ls (.int (zI y) :: .int (zI x) :: rest)) :=
  lv_icmp_gt hx hb hdg ht (fun h => kt ((zI_lt ry rx).mp h)) (fun h => kf (fun q => h ((zI_lt ry rx).mpr q)))
theorem z_if_gt (hx : p.tables.exec = Jvm.exec) (hb : c.code = cc) {x off : Int} {tgt : Nat} (hdg : decode cc pc = .ok (.ifCond .gt off, 3)) (ht : (pc : Int) + off = (tgt : Int)) (rx : -2147483648 ≤ x ∧ x ≤ 2147483647)
    (kt : 0 < x → W p l e R s m args below meth c H locs cells slots Q (F0 m tgt ls rest)) (kf : ¬ 0 < x → W p l e R s m args below meth c H locs cells slots Q (F0 m (pc + 3) ls rest)) : W p l e R s m args below meth c H locs cells slots Q (F0 m pc ls (.int (zI x) :: rest)) := by
  have ry : -2147483648 ≤ (0 : Int) ∧ (0 : Int) ≤ 2147483647 := by omega
  refine lv_if_gt hx hb hdg ht (fun h => ?_) (fun h => ?_)
  · rw [zI_z] at h
    exact kt ((zI_lt ry rx).mp h)
  · rw [zI_z] at h
    exact kf (fun q => h ((zI_lt ry rx).mpr q))
theorem z_icmp_le (hx : p.tables.exec = Jvm.exec) (hb : c.code = cc) {x y off : Int} {tgt : Nat} (hdg : decode cc pc = .ok (.if_icmp .le off, 3)) (ht : (pc : Int) + off = (tgt : Int)) (rx : -2147483648 ≤ x ∧ x ≤ 2147483647) (ry : -2147483648 ≤ y ∧ y ≤ 2147483647)
    (kt : x ≤ y → W p l e R s m args below meth c H locs cells slots Q (F0 m tgt ls rest)) (kf : ¬ x ≤ y → W p l e R s m args below meth c H locs cells slots Q (F0 m (pc + 3) ls rest)) : W p l e R s m args below meth c H locs cells slots Q (F0 m pc ls (.int (zI y) :: .int (zI x) :: rest)) :=
  lv_icmp_le hx hb hdg ht (fun h => kt ((zI_le rx ry).mp h)) (fun h => kf (fun q => h ((zI_le rx ry).mpr q)))
theorem z_if_le (hx : p.tables.exec = Jvm.exec) (hb : c.code = cc) {x off : Int} {tgt : Nat} (hdg : decode cc pc = .ok (.ifCond .le off, 3)) (ht : (pc : Int) + off = (tgt : Int)) (rx : -2147483648 ≤ x ∧ x ≤ 2147483647)
    (kt : x ≤ 0 → W p l e R s m args below meth c H locs cells slots Q (F0 m tgt ls rest)) (kf : ¬ x ≤ 0 → W p l e R s m args below meth c H locs cells slots Q (F0 m (pc + 3) ls rest)) : W p l e R s m args below meth c H locs cells slots Q (F0 m pc ls (.int (zI x) :: rest)) := by
  have ry : -2147483648 ≤ (0 : Int) ∧ (0 : Int) ≤ 2147483647 := by omega
  refine lv_if_le hx hb hdg ht (fun h => ?_) (fun h => ?_)
  · rw [zI_z] at h
    exact kt ((zI_le rx ry).mp h)
  · rw [zI_z] at h
    exact kf (fun q => h ((zI_le rx ry).mpr q))
theorem z_iald (hx : p.tables.exec = Jvm.exec) (hb : c.code = cc) (hK : va_K D cl tys s) (hP : va_P D cl ws H) (q0 t0 : Nat) {cA : ClassId} {n : Nat} {f : Nat → Int} (ha : ws[q0]? = some (a, .inl (cA, n, .inl (zF f)))) (ht : tys[t0]? = some (cA, .int)) {i : Int} (hin : 0 ≤ i ∧ i < (n : Int)) (hn : n ≤ 2000000) {v : Int} (hv : f i.toNat = v) (hdg : decode cc pc = .ok (.iaload, 1))
    (kk : W p l e R s m args below meth c H locs cells slots Q (F0 m (pc + 1) ls (.int (zI v) :: rest))) : W p l e R s m args below meth c H locs cells slots Q (F0 m pc ls (.int (zI i) :: .ref a :: rest)) := by
  refine va_iald hx hb hK hP q0 t0 ha ht (zI_in hin hn) hdg ?_
  rw [zI_cl (by omega), show zF f i.toNat = zI v by rw [← hv]; rfl]
  exact kk
theorem z_zald (hx : p.tables.exec = Jvm.exec) (hb : c.code = cc) (hK : va_K D cl tys s) (hP : va_P D cl ws H) (q0 t0 : Nat) {cA : ClassId} {n : Nat} {f : Nat → Int} (ha : ws[q0]? = some (a, .inl (cA, n, .inl (zF f)))) (ht : tys[t0]? = some (cA, .boolean)) {i : Int} (hin : 0 ≤ i ∧ i < (n : Int)) (hn : n ≤ 2000000) {v : Int} (hv : f i.toNat = v) (hdg : decode cc pc = .ok (.baload, 1))
    (kk : W p l e R s m args below meth c H locs cells slots Q (F0 m (pc + 1) ls (.int (zI v) :: rest))) : W p l e R s m args below meth c H locs cells slots Q (F0 m pc ls (.int (zI i) :: .ref a :: rest)) := by
  refine va_zald hx hb hK hP q0 t0 ha ht (zI_in hin hn) hdg ?_
  rw [zI_cl (by omega), show zF f i.toNat = zI v by rw [← hv]; rfl]
  exact kk
theorem z_iast (hx : p.tables.exec = Jvm.exec) (hb : c.code = cc) (hK : va_K D cl tys s) (hP : va_P D cl ws H) (hD : va_D A ws) (hS : va_S A H0 H locs) (q0 t0 : Nat) {cA : ClassId} {n : Nat} {f : Nat → Int} (ha : ws[q0]? = some (a, .inl (cA, n, .inl (zF f)))) (ht : tys[t0]? = some (cA, .int)) {i x : Int} (hin : 0 ≤ i ∧ i < (n : Int)) (hn : n ≤ 2000000) {k : Nat} (hk : i.toNat = k) (hdg : decode cc pc = .ok (.iastore, 1))
    (kk : ∀ (H1 : Heap) (locs1 : List Loc), va_P D cl (ws.set q0 (a, .inl (cA, n, .inl (zF (va_up f k x))))) H1 → va_D A (ws.set q0 (a, .inl (cA, n, .inl (zF (va_up f k x))))) → va_S A H0 H1 locs1 → W p l e R s m args below meth c H1 locs1 cells slots Q (F0 m (pc + 1) ls rest)) : W p l e R s m args below meth c H locs cells slots Q (F0 m pc ls (.int (zI x) :: .int (zI i) :: .ref a :: rest)) := by
  refine va_iast hx hb hK hP hD hS q0 t0 ha ht (zI_in hin hn) hdg (fun H1 locs1 h1 h2 h3 => ?_)
  rw [zI_cl (by omega), zF_upd, hk] at h1 h2
  exact kk H1 locs1 h1 h2 h3
theorem z_zast (hx : p.tables.exec = Jvm.exec) (hb : c.code = cc) (hK : va_K D cl tys s) (hP : va_P D cl ws H) (hD : va_D A ws) (hS : va_S A H0 H locs) (q0 t0 : Nat) {cA : ClassId} {n : Nat} {f : Nat → Int} (ha : ws[q0]? = some (a, .inl (cA, n, .inl (zF f)))) (ht : tys[t0]? = some (cA, .boolean)) {i x : Int} (h01 : x = 0 ∨ x = 1) (hin : 0 ≤ i ∧ i < (n : Int)) (hn : n ≤ 2000000) {k : Nat} (hk : i.toNat = k) (hdg : decode cc pc = .ok (.bastore, 1))
    (kk : ∀ (H1 : Heap) (locs1 : List Loc), va_P D cl (ws.set q0 (a, .inl (cA, n, .inl (zF (va_up f k x))))) H1 → va_D A (ws.set q0 (a, .inl (cA, n, .inl (zF (va_up f k x))))) → va_S A H0 H1 locs1 → W p l e R s m args below meth c H1 locs1 cells slots Q (F0 m (pc + 1) ls rest)) : W p l e R s m args below meth c H locs cells slots Q (F0 m pc ls (.int (zI x) :: .int (zI i) :: .ref a :: rest)) := by
  refine va_zast hx hb hK hP hD hS q0 t0 ha ht (zI_in hin hn) hdg (fun H1 locs1 h1 h2 h3 => ?_)
  rw [zI_nar h01, zI_cl (by omega), zF_upd, hk] at h1 h2
  exact kk H1 locs1 h1 h2 h3
end ZR
/-! contracts: the start, the end, the whole -/
abbrev zP (D : va_G) (cl : List vw_C) (tys : List (ClassId × FieldType)) (sz : Nat) (w : va_W) : State → Prop := fun U => U.heap.size = sz ∧ va_P D cl w U.heap ∧ va_K D cl tys U ∧ va_D (fun _ => True) w
abbrev zB {S : Type} (D : va_G) (cl : List vw_C) (tys : List (ClassId × FieldType)) (A : Nat → Prop) (mk : S → va_W) (u : S) (t : State) : Prop := va_P D cl (mk u) t.heap ∧ va_K D cl tys t ∧ va_D A (mk u)
abbrev zQi {S : Type} (D : va_G) (cl : List vw_C) (tys : List (ClassId × FieldType)) (post : Int32 → S → Prop) (mk : S → va_W) (A : Nat → Prop) := va_Qi post (zB D cl tys A mk) A
abbrev zQv {S : Type} (D : va_G) (cl : List vw_C) (tys : List (ClassId × FieldType)) (post : S → Prop) (mk : S → va_W) (A : Nat → Prop) := va_Qv post (zB D cl tys A mk) A
abbrev zRm (f k : Nat) : Room := { frames := f, cells := 0, slots := 0, locals := k }
/-- a method that answers an int: from the world w to the world mk u -/
def zMI (l : Launch) (y : MethodName) (code : ByteArray) (L : Nat) (ret : Option FieldType) (rm : Room) (av : List Value) (D : va_G) (cl : List vw_C) (tys : List (ClassId × FieldType)) (sz : Nat) (w : va_W) {S : Type} (post : Int32 → S → Prop) (mk : S → va_W) : Prop := Met l y (ws_ y code L ret) rm (va_Pc av (zP D cl tys sz w)) (zQi D cl tys post mk (va_A w sz)) 0 0 (va_A w sz)
def zMV (l : Launch) (y : MethodName) (code : ByteArray) (L : Nat) (rm : Room) (av : List Value) (D : va_G) (cl : List vw_C) (tys : List (ClassId × FieldType)) (sz : Nat) (w : va_W) {S : Type} (post : S → Prop) (mk : S → va_W) : Prop := Met l y (ws_ y code L none) rm (va_Pc av (zP D cl tys sz w)) (zQv D cl tys post mk (va_A w sz)) 0 0 (va_A w sz)
/-- what a walk has at its start -/
def zG (p : Program) (s : State) (m : MethodId) (meth : Method) (c : Code) (av : List Value) (code : ByteArray) (L : Nat) (ret : Option FieldType) (own : String) (D : va_G) (cl : List vw_C) (tys : List (ClassId × FieldType)) (w : va_W) (A : Nat → Prop) (ls : Array Slot) : Prop :=
  p.tables.exec = Jvm.exec ∧ c.code = code ∧ meth.sig.returnType = ret ∧ meth.locks = false ∧ c.maxLocals = L ∧ s.vm.findClass own = some m.cls ∧ (∀ x ∈ lw_all, x.before av.toArray s = true) ∧ va_P D cl w s.heap ∧ va_K D cl tys s ∧ va_D A w ∧ va_S A s.heap s.heap [] ∧ (∀ q, s.heap.size ≤ q → A q) ∧ lv_has ls L (lv_args 0 av)
theorem z_metI {l : Launch} {y : MethodName} {code : ByteArray} {L : Nat} {ret : Option FieldType} {rm : Room} {av : List Value} {D : va_G} {cl : List vw_C} {tys : List (ClassId × FieldType)} {sz : Nat} {w : va_W} {S : Type} {post : Int32 → S → Prop} {mk : S → va_W} (hy : plainName y.cls = true) (hlen : (lg_sl av).length ≤ L)
    (body : ∀ (p : Program) (e : Env) (s : State) (m : MethodId) (below : List Frame) (meth : Method) (c : Code) (A : Nat → Prop) (ls : Array Slot), zG p s m meth c av code L ret y.cls D cl tys w A ls → W p l e rm s m av.toArray below meth c s.heap [] 0 0 (MQ below (zQi D cl tys post mk A) av.toArray s 0 0 A) (F0 m 0 ls [])) : zMI l y code L ret rm av D cl tys sz w post mk := by
  refine Met.ofW (cc := code) (maxL := L) (ret := ret) hy rfl ?_
  intro p e s m args below meth c s₁ B hml hv
  obtain ⟨rfl, hsz, hP, hK, hD0⟩ := hv
  have hts := atoms_spec (ws := ws_ y code L ret) B.pre
  have hts : ∀ w ∈ lw_all, w.before _ s = true := fun w h => hts w (List.mem_cons_of_mem _ h)
  have hown : s.vm.findClass y.cls = some m.cls := findClass_of_methodNamed B.named
  subst hsz
  have hD := hD0.self (sz := s.heap.size)
  have hl := lv_entry av (n := L) hlen
  rw [lg_entry_eq]
  exact body p e s m below meth c _ _ ⟨B.exec, B.bytes, B.returns, B.notSynchronized, hml, hown, hts, hP, hK, hD, va_S.rf, fun q h => Or.inr h, hl⟩
theorem z_metV {l : Launch} {y : MethodName} {code : ByteArray} {L : Nat} {rm : Room} {av : List Value} {D : va_G} {cl : List vw_C} {tys : List (ClassId × FieldType)} {sz : Nat} {w : va_W} {S : Type} {post : S → Prop} {mk : S → va_W} (hy : plainName y.cls = true) (hlen : (lg_sl av).length ≤ L)
    (body : ∀ (p : Program) (e : Env) (s : State) (m : MethodId) (below : List Frame) (meth : Method) (c : Code) (A : Nat → Prop) (ls : Array Slot), zG p s m meth c av code L none y.cls D cl tys w A ls → W p l e rm s m av.toArray below meth c s.heap [] 0 0 (MQ below (zQv D cl tys post mk A) av.toArray s 0 0 A) (F0 m 0 ls [])) : zMV l y code L rm av D cl tys sz w post mk := by
  refine Met.ofW (cc := code) (maxL := L) (ret := none) hy rfl ?_
  intro p e s m args below meth c s₁ B hml hv
  obtain ⟨rfl, hsz, hP, hK, hD0⟩ := hv
  have hts := atoms_spec (ws := ws_ y code L none) B.pre
  have hts : ∀ w ∈ lw_all, w.before _ s = true := fun w h => hts w (List.mem_cons_of_mem _ h)
  have hown : s.vm.findClass y.cls = some m.cls := findClass_of_methodNamed B.named
  subst hsz
  have hD := hD0.self (sz := s.heap.size)
  have hl := lv_entry av (n := L) hlen
  rw [lg_entry_eq]
  exact body p e s m below meth c _ _ ⟨B.exec, B.bytes, B.returns, B.notSynchronized, hml, hown, hts, hP, hK, hD, va_S.rf, fun q h => Or.inr h, hl⟩
section ZE
variable {p : Program} {l : Launch} {e : Env} {R : Room} {s : State} {m : MethodId} {args : Array Value} {below : List Frame} {meth : Method} {c : Code} {H : Heap} {locs : List Loc} {cells slots : Nat} {Q : State → Prop}
variable {cc : ByteArray} {pc : Nat} {ls : Array Slot} {rest : List Value} {D : va_G} {cl : List vw_C} {A : Nat → Prop} {a : Nat} {tys : List (ClassId × FieldType)} {ws : va_W} {H0 : Heap}
variable {S : Type}
theorem z_iret {post : Int32 → S → Prop} {mk : S → va_W} (hx : p.tables.exec = Jvm.exec) (hb : c.code = cc) (hr : meth.sig.returnType = some .int) (hlocks : meth.locks = false) {v : Int} (u : S) (hS : va_S A s.heap H locs) (hP : va_P D cl (mk u) H) (hK : va_K D cl tys s) (hD : va_D A (mk u)) (hpost : post (zI v) u) (hdg : decode cc pc = .ok (.ireturn, 1)) : W p l e R s m args below meth c H locs cells slots (MQ below (zQi D cl tys post mk A) args s cells slots A) (F0 m pc ls [.int (zI v)]) :=
  W.iret hx hb hr (fun t ht hW => ⟨⟨zI v, u, rfl, hpost, by rw [ht]; exact hP, va_K.moved hW.alike hK, hD⟩, hS.F ht⟩) hS.2.2 hdg hlocks
theorem z_zret {post : Int32 → S → Prop} {mk : S → va_W} (hx : p.tables.exec = Jvm.exec) (hb : c.code = cc) (hr : meth.sig.returnType = some .boolean) (hlocks : meth.locks = false) {v : Int} (h01 : v = 0 ∨ v = 1) (u : S) (hS : va_S A s.heap H locs) (hP : va_P D cl (mk u) H) (hK : va_K D cl tys s) (hD : va_D A (mk u)) (hpost : post (zI v) u) (hdg : decode cc pc = .ok (.ireturn, 1)) : W p l e R s m args below meth c H locs cells slots (MQ below (zQi D cl tys post mk A) args s cells slots A) (F0 m pc ls [.int (zI v)]) :=
  W.zret hx hb hr (zI_nar' h01) (fun t ht hW => ⟨⟨zI v, u, rfl, hpost, by rw [ht]; exact hP, va_K.moved hW.alike hK, hD⟩, hS.F ht⟩) hS.2.2 hdg hlocks
theorem z_vret {post : S → Prop} {mk : S → va_W} (hx : p.tables.exec = Jvm.exec) (hb : c.code = cc) (hr : meth.sig.returnType = none) (hlocks : meth.locks = false) (u : S) (hS : va_S A s.heap H locs) (hP : va_P D cl (mk u) H) (hK : va_K D cl tys s) (hD : va_D A (mk u)) (hpost : post u) (hdg : decode cc pc = .ok (.return_, 1)) : W p l e R s m args below meth c H locs cells slots (MQ below (zQv D cl tys post mk A) args s cells slots A) (F0 m pc ls []) :=
  W.vret hx hb hr (fun t ht hW => ⟨⟨u, rfl, hpost, by rw [ht]; exact hP, va_K.moved hW.alike hK, hD⟩, hS.F ht⟩) hS.2.2 hdg hlocks
/-- the callee's cells are the caller's -/
theorem z_sub (hD : va_D A ws) (hS : va_S A H0 H locs) (hA : ∀ q, H0.size ≤ q → A q) : ∀ q, va_A ws H.size q → A q := by
  intro q h
  rcases h with ⟨k, e, h⟩ | h
  · exact hD.2 k (q, e) h
  · exact hA q (Nat.le_trans hS.1 h)
theorem z_blind {av : List Value} {sz : Nat} {w : va_W} : FrameBlind (va_Pc av (zP D cl tys sz w)) := fun a U g mk q => by
  obtain ⟨q0, q1, qP, qK, qD⟩ := q
  exact ⟨q0, q1, qP, va_K.moved (u := U) (U := U.calling g mk a) (Vm.Alike.refl U.vm) qK, qD⟩
variable {y : MethodName} {code : ByteArray} {L nL n idx ci : Nat} {ret : Option FieldType} {rm : Room} {own C : String} {T : u_T} {N : Nat} {fs As : List Value} {b : Addr} {st0 : List Value}
/-- a call of a method of the object at the head of the world; the callee's world is the caller's -/
theorem z_calli {post : Int32 → S → Prop} {mk : S → va_W} (hx : p.tables.exec = Jvm.exec) (hb : c.code = cc) (hml : c.maxLocals = nL) (hown : s.vm.findClass own = some m.cls) (hts : ∀ x ∈ lw_all, x.before args s = true) (hK : va_K D cl tys s) (hP : va_P D cl ws H) (hD : va_D A ws) (hS : va_S A H0 H locs) (hA : ∀ q, H0.size ≤ q → A q)
    (hM : zMI l y code L ret rm (.ref b :: As) D cl tys H.size ws post mk) (hG : GoodIn lw_all (wsV own idx C y (ws_ y code L ret))) (hrc : rm.cells = 0) (hrs : rm.slots = 0) (hd : y.cls = C ∧ y.cls ≠ "java/lang/invoke/MethodHandle" ∧ y.cls ≠ "java/lang/invoke/VarHandle" ∧ (parseMethodDescriptor y.desc).map (fun d => d.parameters.length) = some n) (hR : rm.frames + 1 ≤ R.frames ∧ 8 + (L + 11) + rm.locals ≤ R.locals)
    (he : ws[0]? = some (b, .inr (ci, fs))) (hc : cl[ci]? = some (C, T, N)) (hn : As.length = n) (hsz : ls.size = nL) (hst : st0 = As.reverse ++ .ref b :: rest) (hroom : (rest.map fun v => v.category).sum ≤ 8) (hdg : decode cc pc = .ok (.invokevirtual idx, 3)) (hf : cells ≤ R.cells ∧ slots ≤ R.slots)
    (kk : ∀ (r : Int32) (u : S) (H1 : Heap) (locs1 : List Loc), post r u → va_P D cl (mk u) H1 → va_D A (mk u) → va_S A H0 H1 locs1 → W p l e R s m args below meth c H1 locs1 cells slots Q (F0 m (pc + 3) ls (.int r :: rest))) : W p l e R s m args below meth c H locs cells slots Q (F0 m pc ls st0) := by
  have hF := z_sub hD hS hA
  refine va_calli (va_runV (As := As) (rest := rest) ⟨hx, hb, hml, hown, hts⟩ hM (cwV n hts hG rfl hrc hrs hd hR) ⟨z_blind, va_recv hK hP hc he, fun U hU hW => ⟨rfl, by rw [hU], by rw [hU]; exact hP, va_K.moved hW.alike hK, hD.weaken (fun _ _ _ _ => trivial)⟩⟩ rfl hn hsz hst (lv_room hroom) hdg hf) hS (fun q _ h => hF q h) hF (fun r u t H1 locs1 ht hvm hw hB hz1 hk1 hS1 => ?_)
  obtain ⟨hP1, hK1, hD1⟩ := hB
  rw [ht] at hP1
  exact kk r u H1 locs1 hw hP1 (hD1.weaken (fun _ q _ h => hF q.1 h)) hS1
theorem z_callv {post : S → Prop} {mk : S → va_W} (hx : p.tables.exec = Jvm.exec) (hb : c.code = cc) (hml : c.maxLocals = nL) (hown : s.vm.findClass own = some m.cls) (hts : ∀ x ∈ lw_all, x.before args s = true) (hK : va_K D cl tys s) (hP : va_P D cl ws H) (hD : va_D A ws) (hS : va_S A H0 H locs) (hA : ∀ q, H0.size ≤ q → A q)
    (hM : zMV l y code L rm (.ref b :: As) D cl tys H.size ws post mk) (hG : GoodIn lw_all (wsV own idx C y (ws_ y code L none))) (hrc : rm.cells = 0) (hrs : rm.slots = 0) (hd : y.cls = C ∧ y.cls ≠ "java/lang/invoke/MethodHandle" ∧ y.cls ≠ "java/lang/invoke/VarHandle" ∧ (parseMethodDescriptor y.desc).map (fun d => d.parameters.length) = some n) (hR : rm.frames + 1 ≤ R.frames ∧ 8 + (L + 11) + rm.locals ≤ R.locals)
    (he : ws[0]? = some (b, .inr (ci, fs))) (hc : cl[ci]? = some (C, T, N)) (hn : As.length = n) (hsz : ls.size = nL) (hst : st0 = As.reverse ++ .ref b :: rest) (hroom : (rest.map fun v => v.category).sum ≤ 8) (hdg : decode cc pc = .ok (.invokevirtual idx, 3)) (hf : cells ≤ R.cells ∧ slots ≤ R.slots)
    (kk : ∀ (u : S) (H1 : Heap) (locs1 : List Loc), post u → va_P D cl (mk u) H1 → va_D A (mk u) → va_S A H0 H1 locs1 → W p l e R s m args below meth c H1 locs1 cells slots Q (F0 m (pc + 3) ls rest)) : W p l e R s m args below meth c H locs cells slots Q (F0 m pc ls st0) := by
  have hF := z_sub hD hS hA
  refine va_callv (va_runV (As := As) (rest := rest) ⟨hx, hb, hml, hown, hts⟩ hM (cwV n hts hG rfl hrc hrs hd hR) ⟨z_blind, va_recv hK hP hc he, fun U hU hW => ⟨rfl, by rw [hU], by rw [hU]; exact hP, va_K.moved hW.alike hK, hD.weaken (fun _ _ _ _ => trivial)⟩⟩ rfl hn hsz hst (lv_room hroom) hdg hf) hS (fun q _ h => hF q h) hF (fun u t H1 locs1 ht hvm hw hB hz1 hk1 hS1 => ?_)
  obtain ⟨hP1, hK1, hD1⟩ := hB
  rw [ht] at hP1
  exact kk u H1 locs1 hw hP1 (hD1.weaken (fun _ q _ h => hF q.1 h)) hS1
/-- a static call that looks at no cell -/
theorem z_callS {post : Int32 → Unit → Prop} (hx : p.tables.exec = Jvm.exec) (hb : c.code = cc) (hml : c.maxLocals = nL) (hown : s.vm.findClass own = some m.cls) (hts : ∀ x ∈ lw_all, x.before args s = true) (hK : va_K D cl tys s) (hP : va_P D cl ws H) (hS : va_S A H0 H locs) (hA : ∀ q, H0.size ≤ q → A q)
    (hM : zMI l y code L ret rm As D cl [] H.size [] post (fun _ => [])) (hG : GoodIn lw_all (va_wsS own idx y (ws_ y code L ret))) (hrc : rm.cells = 0) (hrs : rm.slots = 0) (hd : y.cls ≠ "java/lang/invoke/MethodHandle" ∧ y.cls ≠ "java/lang/invoke/VarHandle" ∧ (parseMethodDescriptor y.desc).map (fun d => d.parameters.length) = some n) (hR : rm.frames + 1 ≤ R.frames ∧ 8 + (L + 11) + rm.locals ≤ R.locals)
    (hn : As.length = n) (hsz : ls.size = nL) (hst : st0 = As.reverse ++ rest) (hroom : (rest.map fun v => v.category).sum ≤ 8) (hdg : decode cc pc = .ok (.invokestatic idx, 3)) (hf : cells ≤ R.cells ∧ slots ≤ R.slots)
    (kk : ∀ (r : Int32) (H1 : Heap) (locs1 : List Loc), post r () → va_P D cl ws H1 → va_S A H0 H1 locs1 → W p l e R s m args below meth c H1 locs1 cells slots Q (F0 m (pc + 3) ls (.int r :: rest))) : W p l e R s m args below meth c H locs cells slots Q (F0 m pc ls st0) := by
  have hF : ∀ q, va_A [] H.size q → A q := by
    intro q h
    rcases h with ⟨k, e, h⟩ | h
    · cases h
    · exact hA q (Nat.le_trans hS.1 h)
  refine va_calli (va_runS (As := As) (rest := rest) ⟨hx, hb, hml, hown, hts⟩ hM (va_cwS n hts hG rfl hrc hrs hd hR) ⟨z_blind, fun U hU hW => ⟨rfl, by rw [hU], (fun k q h => absurd h (by simp)), va_K.moved hW.alike (hK.sub (tys' := []) [] rfl), ⟨fun i j p q h => absurd h (by simp), fun k q h => absurd h (by simp)⟩⟩⟩ rfl hn hsz hst (lv_room hroom) hdg hf) hS (fun q _ h => hF q h) hF (fun r u t H1 locs1 ht hvm hw hB hz1 hk1 hS1 => ?_)
  refine kk r H1 locs1 hw (hP.kept (fun k q h => ?_)) hS1
  have hlt := (hP k q h).lt
  refine hk1 q.1 hlt (fun z => ?_)
  rcases z with ⟨k, e, h⟩ | h
  · cases h
  · omega
end ZE
end
section
/-! THE WORLDS: QuickestFlow's object with its ten arrays (wX), QuickestFlowModel's (wM) -/
abbrev vwCl : List vw_C := [(RX0, TX0, 12), (RX1, TX1, 12)]
abbrev zT (cI cZ : ClassId) : List (ClassId × FieldType) := [(cI, .int), (cZ, .boolean)]
abbrev wX (cI cZ : ClassId) (a : Nat → Nat) (n : Int) (fr to wd ti fl qk rc ll : Nat → Int) (wy : Int) (wt wa : Nat → Int) : va_W :=
  [(a 0, .inr (0, [.int (zI n), .ref (a 1), .ref (a 2), .ref (a 3), .ref (a 4), .ref (a 5), .ref (a 6), .ref (a 7), .ref (a 8), .int (zI wy), .ref (a 9), .ref (a 10)])),
   (a 1, .inl (cI, 8, .inl (zF fr))), (a 2, .inl (cI, 8, .inl (zF to))), (a 3, .inl (cI, 8, .inl (zF wd))), (a 4, .inl (cI, 8, .inl (zF ti))), (a 5, .inl (cI, 8, .inl (zF fl))), (a 6, .inl (cI, 5, .inl (zF qk))), (a 7, .inl (cZ, 5, .inl (zF rc))), (a 8, .inl (cI, 5, .inl (zF ll))), (a 9, .inl (cI, 40, .inl (zF wt))), (a 10, .inl (cI, 40, .inl (zF wa)))]
abbrev wM (cI : ClassId) (a : Nat → Nat) (n : Int) (fr to wd ti : Nat → Int) (ed : Int) (st en rm fl cm qu : Nat → Int) : va_W :=
  [(a 0, .inr (1, [.int (zI n), .ref (a 1), .ref (a 2), .ref (a 3), .ref (a 4), .int (zI ed), .ref (a 5), .ref (a 6), .ref (a 7), .ref (a 8), .ref (a 9), .ref (a 10)])),
   (a 1, .inl (cI, 8, .inl (zF fr))), (a 2, .inl (cI, 8, .inl (zF to))), (a 3, .inl (cI, 8, .inl (zF wd))), (a 4, .inl (cI, 8, .inl (zF ti))), (a 5, .inl (cI, 170, .inl (zF st))), (a 6, .inl (cI, 170, .inl (zF en))), (a 7, .inl (cI, 170, .inl (zF rm))), (a 8, .inl (cI, 170, .inl (zF fl))), (a 9, .inl (cI, 65, .inl (zF cm))), (a 10, .inl (cI, 65, .inl (zF qu)))]
theorem z_ext {f g : Nat → Int} {i : Nat} {v : Int} (h : ∀ p, p < i → f p = g p) (hv : v = g i) : ∀ p, p < i + 1 → va_up f i v p = g p := by
  intro p hp
  by_cases q : p = i
  · rw [q, va_up_self]
    exact hv
  · rw [va_up_ne _ _ q]
    exact h p (by omega)
end
section
set_option maxHeartbeats 8000000 in
set_option maxRecDepth 100000 in
/-- relax(line, back): one arc -/
theorem m_relax (l : Launch) (D : va_G) (cI cZ : ClassId) (a : Nat → Nat) (sz : Nat) {n : Nat} {fr to wd ti fl qk rc ll : Nat → Int} {wy : Int} {wt wa : Nat → Int} (j : Nat) (b : Bool) (hN : mq_Net n fr to wd ti) (hI : mq_In n wd fl) (hj : j < n) (hrc : ∀ p, p < 5 → rc p = 0 ∨ rc p = 1) (hqk : ∀ p, p < 5 → -2000 ≤ qk p ∧ qk p ≤ 2000) :
    zMI l yX0_relax cX0_relax 7 (some .boolean) (zRm 0 0) [.ref (a 0), .int (zI (j : Int)), .int (zI (if b then 1 else 0))] D vwCl (zT cI cZ) sz (wX cI cZ a n fr to wd ti fl qk rc ll wy wt wa)
      (fun r (u : (Nat → Int) × (Nat → Int) × (Nat → Int)) => ∃ x : Int, r = zI x ∧ mq_Rx fr to wd ti fl j b qk rc ll x u.1 u.2.1 u.2.2) (fun u => wX cI cZ a n fr to wd ti fl u.1 u.2.1 u.2.2 wy wt wa) := by
  refine z_metI (by decide) (Nat.le_of_ble_eq_true rfl) ?_
  intro p e s m below meth c A ls hG
  obtain ⟨hx, hb, hr, hlocks, hml, hown, hts, hP, hK, hD, hS, hA, hl⟩ := hG
  have hown : s.vm.findClass RX0 = some m.cls := hown
  have hn8 := hN.1
  have hj8 := hN.2.1 j (by omega)
  have hw5 := hN.2.2.1 j hj
  have hIj := hI j hj
  have hra := hrc (fr j).toNat (by omega)
  have hrb := hrc (to j).toNat (by omega)
  have hqa := hqk (fr j).toNat (by omega)
  have hqb := hqk (to j).toNat (by omega)
  cases b
  · have hl : lv_has ls 7 [(0, .ref (a 0)), (1, .int (zI (j : Int))), (2, .int (zI 0))] := hl
    refine lv_iload_n hx hb dX0_relax_0 rfl (lv_at hl 2 rfl) ?_
    refine z_if_eq (tgt := 13) hx hb dX0_relax_1 (by decide) (by omega) (fun c_1 => ?_) (fun c_1 => absurd c_1 (by omega))
    refine lv_aload_n hx hb dX0_relax_13 rfl (lv_at hl 0 rfl) ?_
    refine va_get (D := D) (ci := 0) (v := .ref (a 1)) (C := RX0) (T := TX0) (N := 12) hx hb hts in_X0 hown hK hP 0 rfl rfl 1 (by decide) (hts _ q23) (fun _ h9 => h9) rfl dX0_relax_14 ?_
    refine lv_iload_n hx hb dX0_relax_17 rfl (lv_at hl 1 rfl) ?_
    refine z_iald hx hb hK hP 1 0 rfl rfl (by omega) (by decide) (v := fr j) (congrArg _ (show ((j : Int) : Int).toNat = j by omega)) dX0_relax_18 ?_
    refine lv_istore_n (lv' := [(3, .int (zI (fr j))), (0, .ref (a 0)), (1, .int (zI (j : Int))), (2, .int (zI 0))]) hx hb dX0_relax_19 rfl hl (by decide) rfl (fun ls hl => ?_)
    refine lv_iload_n hx hb dX0_relax_20 rfl (lv_at hl 3 rfl) ?_
    refine z_if_eq (tgt := 33) hx hb dX0_relax_21 (by decide) (by omega) (fun c_21 => ?_) (fun c_21 => absurd c_21 (by omega))
    refine lv_aload_n hx hb dX0_relax_33 rfl (lv_at hl 1 rfl) ?_
    refine va_get (D := D) (ci := 0) (v := .ref (a 2)) (C := RX0) (T := TX0) (N := 12) hx hb hts in_X0 hown hK hP 0 rfl rfl 2 (by decide) (hts _ q24) (fun _ h9 => h9) rfl dX0_relax_34 ?_
    refine lv_iload_n hx hb dX0_relax_37 rfl (lv_at hl 2 rfl) ?_
    refine z_iald hx hb hK hP 2 0 rfl rfl (by omega) (by decide) (v := to j) (congrArg _ (show ((j : Int) : Int).toNat = j by omega)) dX0_relax_38 ?_
    refine lv_istore (lv' := [(4, .int (zI (to j))), (3, .int (zI (fr j))), (0, .ref (a 0)), (1, .int (zI (j : Int))), (2, .int (zI 0))]) hx hb dX0_relax_39 hl (by decide) rfl (fun ls hl => ?_)
    refine lv_iload_n hx hb dX0_relax_41 rfl (lv_at hl 4 rfl) ?_
    refine z_if_eq (tgt := 54) hx hb dX0_relax_42 (by decide) (by omega) (fun c_42 => ?_) (fun c_42 => absurd c_42 (by omega))
    refine lv_aload_n hx hb dX0_relax_54 rfl (lv_at hl 2 rfl) ?_
    refine va_get (D := D) (ci := 0) (v := .ref (a 3)) (C := RX0) (T := TX0) (N := 12) hx hb hts in_X0 hown hK hP 0 rfl rfl 3 (by decide) (hts _ q25) (fun _ h9 => h9) rfl dX0_relax_55 ?_
    refine lv_iload_n hx hb dX0_relax_58 rfl (lv_at hl 3 rfl) ?_
    refine z_iald hx hb hK hP 3 0 rfl rfl (by omega) (by decide) (v := wd j) (congrArg _ (show ((j : Int) : Int).toNat = j by omega)) dX0_relax_59 ?_
    refine lv_aload_n hx hb dX0_relax_60 rfl (lv_at hl 2 rfl) ?_
    refine va_get (D := D) (ci := 0) (v := .ref (a 5)) (C := RX0) (T := TX0) (N := 12) hx hb hts in_X0 hown hK hP 0 rfl rfl 5 (by decide) (hts _ q27) (fun _ h9 => h9) rfl dX0_relax_61 ?_
    refine lv_iload_n hx hb dX0_relax_64 rfl (lv_at hl 3 rfl) ?_
    refine z_iald hx hb hK hP 5 0 rfl rfl (by omega) (by decide) (v := fl j) (congrArg _ (show ((j : Int) : Int).toNat = j by omega)) dX0_relax_65 ?_
    refine z_isub hx hb dX0_relax_66 ?_
    refine lv_istore (lv' := [(5, .int (zI ((wd j) - (fl j)))), (4, .int (zI (to j))), (3, .int (zI (fr j))), (0, .ref (a 0)), (1, .int (zI (j : Int))), (2, .int (zI 0))]) hx hb dX0_relax_67 hl (by decide) rfl (fun ls hl => ?_)
    refine lv_aload_n hx hb dX0_relax_69 rfl (lv_at hl 3 rfl) ?_
    refine va_get (D := D) (ci := 0) (v := .ref (a 6)) (C := RX0) (T := TX0) (N := 12) hx hb hts in_X0 hown hK hP 0 rfl rfl 6 (by decide) (hts _ q28) (fun _ h9 => h9) rfl dX0_relax_70 ?_
    refine lv_iload_n hx hb dX0_relax_73 rfl (lv_at hl 2 rfl) ?_
    refine z_iald hx hb hK hP 6 0 rfl rfl (by omega) (by decide) (v := qk (fr j).toNat) rfl dX0_relax_74 ?_
    refine lv_iload_n hx hb dX0_relax_75 rfl (lv_at hl 5 rfl) ?_
    refine z_if_eq (tgt := 89) hx hb dX0_relax_76 (by decide) (by omega) (fun c_76 => ?_) (fun c_76 => absurd c_76 (by omega))
    refine lv_aload_n hx hb dX0_relax_89 rfl (lv_at hl 3 rfl) ?_
    refine va_get (D := D) (ci := 0) (v := .ref (a 4)) (C := RX0) (T := TX0) (N := 12) hx hb hts in_X0 hown hK hP 0 rfl rfl 4 (by decide) (hts _ q26) (fun _ h9 => h9) rfl dX0_relax_90 ?_
    refine lv_iload_n hx hb dX0_relax_93 rfl (lv_at hl 4 rfl) ?_
    refine z_iald hx hb hK hP 4 0 rfl rfl (by omega) (by decide) (v := ti j) (congrArg _ (show ((j : Int) : Int).toNat = j by omega)) dX0_relax_94 ?_
    refine z_iadd hx hb dX0_relax_95 ?_
    refine lv_istore (lv' := [(6, .int (zI ((qk (fr j).toNat) + (ti j)))), (5, .int (zI ((wd j) - (fl j)))), (4, .int (zI (to j))), (3, .int (zI (fr j))), (0, .ref (a 0)), (1, .int (zI (j : Int))), (2, .int (zI 0))]) hx hb dX0_relax_96 hl (by decide) rfl (fun ls hl => ?_)
    refine lv_aload_n hx hb dX0_relax_98 rfl (lv_at hl 4 rfl) ?_
    refine va_get (D := D) (ci := 0) (v := .ref (a 7)) (C := RX0) (T := TX0) (N := 12) hx hb hts in_X0 hown hK hP 0 rfl rfl 7 (by decide) (hts _ q29) (fun _ h9 => h9) rfl dX0_relax_99 ?_
    refine lv_iload_n hx hb dX0_relax_102 rfl (lv_at hl 3 rfl) ?_
    refine z_zald hx hb hK hP 7 1 rfl rfl (by omega) (by decide) (v := rc (fr j).toNat) rfl dX0_relax_103 ?_
    refine z_if_eq (tgt := 139) hx hb dX0_relax_104 (by decide) (by omega) (fun c_104 => ?_) (fun c_104 => ?_)
    · refine z_iconst hx hb dX0_relax_139 ?_
      exact z_zret hx hb hr hlocks (v := 0) (Or.inl rfl) (qk, rc, ll) hS hP hK hD ⟨0, rfl, Or.inr ⟨rfl, fun (h1 : rc (fr j).toNat = 1) (h2 : wd j - fl j ≠ 0) (h3 : (to j).toNat ≠ 0) => show rc (to j).toNat = 1 ∧ qk (to j).toNat ≤ qk (fr j).toNat + ti j from by omega, rfl, rfl, rfl⟩⟩ dX0_relax_140
    · refine lv_iload hx hb dX0_relax_107 (lv_at hl 1 rfl) ?_
      refine z_if_eq (tgt := 139) hx hb dX0_relax_109 (by decide) (by omega) (fun c_109 => ?_) (fun c_109 => ?_)
      · refine z_iconst hx hb dX0_relax_139 ?_
        exact z_zret hx hb hr hlocks (v := 0) (Or.inl rfl) (qk, rc, ll) hS hP hK hD ⟨0, rfl, Or.inr ⟨rfl, fun (h1 : rc (fr j).toNat = 1) (h2 : wd j - fl j ≠ 0) (h3 : (to j).toNat ≠ 0) => show rc (to j).toNat = 1 ∧ qk (to j).toNat ≤ qk (fr j).toNat + ti j from by omega, rfl, rfl, rfl⟩⟩ dX0_relax_140
      · refine lv_iload hx hb dX0_relax_112 (lv_at hl 2 rfl) ?_
        refine z_if_eq (tgt := 139) hx hb dX0_relax_114 (by decide) (by omega) (fun c_114 => ?_) (fun c_114 => ?_)
        · refine z_iconst hx hb dX0_relax_139 ?_
          exact z_zret hx hb hr hlocks (v := 0) (Or.inl rfl) (qk, rc, ll) hS hP hK hD ⟨0, rfl, Or.inr ⟨rfl, fun (h1 : rc (fr j).toNat = 1) (h2 : wd j - fl j ≠ 0) (h3 : (to j).toNat ≠ 0) => show rc (to j).toNat = 1 ∧ qk (to j).toNat ≤ qk (fr j).toNat + ti j from by omega, rfl, rfl, rfl⟩⟩ dX0_relax_140
        · refine lv_aload_n hx hb dX0_relax_117 rfl (lv_at hl 4 rfl) ?_
          refine va_get (D := D) (ci := 0) (v := .ref (a 7)) (C := RX0) (T := TX0) (N := 12) hx hb hts in_X0 hown hK hP 0 rfl rfl 7 (by decide) (hts _ q29) (fun _ h9 => h9) rfl dX0_relax_118 ?_
          refine lv_iload hx hb dX0_relax_121 (lv_at hl 2 rfl) ?_
          refine z_zald hx hb hK hP 7 1 rfl rfl (by omega) (by decide) (v := rc (to j).toNat) rfl dX0_relax_123 ?_
          refine z_if_eq (tgt := 141) hx hb dX0_relax_124 (by decide) (by omega) (fun c_124 => ?_) (fun c_124 => ?_)
          · refine lv_aload_n hx hb dX0_relax_141 rfl (lv_at hl 4 rfl) ?_
            refine va_get (D := D) (ci := 0) (v := .ref (a 7)) (C := RX0) (T := TX0) (N := 12) hx hb hts in_X0 hown hK hP 0 rfl rfl 7 (by decide) (hts _ q29) (fun _ h9 => h9) rfl dX0_relax_142 ?_
            refine lv_iload hx hb dX0_relax_145 (lv_at hl 2 rfl) ?_
            refine z_iconst hx hb dX0_relax_147 ?_
            refine z_zast hx hb hK hP hD hS 7 1 rfl rfl (by omega) (by omega) (by decide) (k := (to j).toNat) rfl dX0_relax_148 (fun H locs hP hD hS => ?_)
            have hP : va_P D vwCl (wX cI cZ a (n : Int) fr to wd ti fl qk (va_up rc (to j).toNat 1) ll wy wt wa) H := hP
            have hD : va_D A (wX cI cZ a (n : Int) fr to wd ti fl qk (va_up rc (to j).toNat 1) ll wy wt wa) := hD
            refine lv_aload_n hx hb dX0_relax_149 rfl (lv_at hl 4 rfl) ?_
            refine va_get (D := D) (ci := 0) (v := .ref (a 6)) (C := RX0) (T := TX0) (N := 12) hx hb hts in_X0 hown hK hP 0 rfl rfl 6 (by decide) (hts _ q28) (fun _ h9 => h9) rfl dX0_relax_150 ?_
            refine lv_iload hx hb dX0_relax_153 (lv_at hl 2 rfl) ?_
            refine lv_iload hx hb dX0_relax_155 (lv_at hl 0 rfl) ?_
            refine z_iast hx hb hK hP hD hS 6 0 rfl rfl (by omega) (by decide) (k := (to j).toNat) rfl dX0_relax_157 (fun H locs hP hD hS => ?_)
            have hP : va_P D vwCl (wX cI cZ a (n : Int) fr to wd ti fl (va_up qk (to j).toNat ((qk (fr j).toNat) + (ti j))) (va_up rc (to j).toNat 1) ll wy wt wa) H := hP
            have hD : va_D A (wX cI cZ a (n : Int) fr to wd ti fl (va_up qk (to j).toNat ((qk (fr j).toNat) + (ti j))) (va_up rc (to j).toNat 1) ll wy wt wa) := hD
            refine lv_aload_n hx hb dX0_relax_158 rfl (lv_at hl 4 rfl) ?_
            refine va_get (D := D) (ci := 0) (v := .ref (a 8)) (C := RX0) (T := TX0) (N := 12) hx hb hts in_X0 hown hK hP 0 rfl rfl 8 (by decide) (hts _ q30) (fun _ h9 => h9) rfl dX0_relax_159 ?_
            refine lv_iload hx hb dX0_relax_162 (lv_at hl 2 rfl) ?_
            refine lv_iload_n hx hb dX0_relax_164 rfl (lv_at hl 6 rfl) ?_
            refine z_if_eq (tgt := 175) hx hb dX0_relax_165 (by decide) (by omega) (fun c_165 => ?_) (fun c_165 => absurd c_165 (by omega))
            refine lv_iload_n hx hb dX0_relax_175 rfl (lv_at hl 5 rfl) ?_
            refine z_iast hx hb hK hP hD hS 8 0 rfl rfl (by omega) (by decide) (k := (to j).toNat) rfl dX0_relax_176 (fun H locs hP hD hS => ?_)
            have hP : va_P D vwCl (wX cI cZ a (n : Int) fr to wd ti fl (va_up qk (to j).toNat ((qk (fr j).toNat) + (ti j))) (va_up rc (to j).toNat 1) (va_up ll (to j).toNat (j : Int)) wy wt wa) H := hP
            have hD : va_D A (wX cI cZ a (n : Int) fr to wd ti fl (va_up qk (to j).toNat ((qk (fr j).toNat) + (ti j))) (va_up rc (to j).toNat 1) (va_up ll (to j).toNat (j : Int)) wy wt wa) := hD
            refine z_iconst hx hb dX0_relax_177 ?_
            exact z_zret hx hb hr hlocks (v := 1) (Or.inr rfl) (va_up qk (to j).toNat ((qk (fr j).toNat) + (ti j)), va_up rc (to j).toNat 1, va_up ll (to j).toNat (j : Int)) hS hP hK hD ⟨1, rfl, Or.inl ⟨rfl, show rc (fr j).toNat = 1 by omega, show wd j - fl j ≠ 0 by omega, show (to j).toNat ≠ 0 by omega, show ¬ (rc (to j).toNat = 1 ∧ qk (to j).toNat ≤ qk (fr j).toNat + ti j) by omega, rfl, rfl, rfl⟩⟩ dX0_relax_178
          · refine lv_aload_n hx hb dX0_relax_127 rfl (lv_at hl 4 rfl) ?_
            refine va_get (D := D) (ci := 0) (v := .ref (a 6)) (C := RX0) (T := TX0) (N := 12) hx hb hts in_X0 hown hK hP 0 rfl rfl 6 (by decide) (hts _ q28) (fun _ h9 => h9) rfl dX0_relax_128 ?_
            refine lv_iload hx hb dX0_relax_131 (lv_at hl 2 rfl) ?_
            refine z_iald hx hb hK hP 6 0 rfl rfl (by omega) (by decide) (v := qk (to j).toNat) rfl dX0_relax_133 ?_
            refine lv_iload hx hb dX0_relax_134 (lv_at hl 0 rfl) ?_
            refine z_icmp_gt (tgt := 141) hx hb dX0_relax_136 (by decide) (by omega) (by omega) (fun c_136 => ?_) (fun c_136 => ?_)
            · refine lv_aload_n hx hb dX0_relax_141 rfl (lv_at hl 4 rfl) ?_
              refine va_get (D := D) (ci := 0) (v := .ref (a 7)) (C := RX0) (T := TX0) (N := 12) hx hb hts in_X0 hown hK hP 0 rfl rfl 7 (by decide) (hts _ q29) (fun _ h9 => h9) rfl dX0_relax_142 ?_
              refine lv_iload hx hb dX0_relax_145 (lv_at hl 2 rfl) ?_
              refine z_iconst hx hb dX0_relax_147 ?_
              refine z_zast hx hb hK hP hD hS 7 1 rfl rfl (by omega) (by omega) (by decide) (k := (to j).toNat) rfl dX0_relax_148 (fun H locs hP hD hS => ?_)
              have hP : va_P D vwCl (wX cI cZ a (n : Int) fr to wd ti fl qk (va_up rc (to j).toNat 1) ll wy wt wa) H := hP
              have hD : va_D A (wX cI cZ a (n : Int) fr to wd ti fl qk (va_up rc (to j).toNat 1) ll wy wt wa) := hD
              refine lv_aload_n hx hb dX0_relax_149 rfl (lv_at hl 4 rfl) ?_
              refine va_get (D := D) (ci := 0) (v := .ref (a 6)) (C := RX0) (T := TX0) (N := 12) hx hb hts in_X0 hown hK hP 0 rfl rfl 6 (by decide) (hts _ q28) (fun _ h9 => h9) rfl dX0_relax_150 ?_
              refine lv_iload hx hb dX0_relax_153 (lv_at hl 2 rfl) ?_
              refine lv_iload hx hb dX0_relax_155 (lv_at hl 0 rfl) ?_
              refine z_iast hx hb hK hP hD hS 6 0 rfl rfl (by omega) (by decide) (k := (to j).toNat) rfl dX0_relax_157 (fun H locs hP hD hS => ?_)
              have hP : va_P D vwCl (wX cI cZ a (n : Int) fr to wd ti fl (va_up qk (to j).toNat ((qk (fr j).toNat) + (ti j))) (va_up rc (to j).toNat 1) ll wy wt wa) H := hP
              have hD : va_D A (wX cI cZ a (n : Int) fr to wd ti fl (va_up qk (to j).toNat ((qk (fr j).toNat) + (ti j))) (va_up rc (to j).toNat 1) ll wy wt wa) := hD
              refine lv_aload_n hx hb dX0_relax_158 rfl (lv_at hl 4 rfl) ?_
              refine va_get (D := D) (ci := 0) (v := .ref (a 8)) (C := RX0) (T := TX0) (N := 12) hx hb hts in_X0 hown hK hP 0 rfl rfl 8 (by decide) (hts _ q30) (fun _ h9 => h9) rfl dX0_relax_159 ?_
              refine lv_iload hx hb dX0_relax_162 (lv_at hl 2 rfl) ?_
              refine lv_iload_n hx hb dX0_relax_164 rfl (lv_at hl 6 rfl) ?_
              refine z_if_eq (tgt := 175) hx hb dX0_relax_165 (by decide) (by omega) (fun c_165 => ?_) (fun c_165 => absurd c_165 (by omega))
              refine lv_iload_n hx hb dX0_relax_175 rfl (lv_at hl 5 rfl) ?_
              refine z_iast hx hb hK hP hD hS 8 0 rfl rfl (by omega) (by decide) (k := (to j).toNat) rfl dX0_relax_176 (fun H locs hP hD hS => ?_)
              have hP : va_P D vwCl (wX cI cZ a (n : Int) fr to wd ti fl (va_up qk (to j).toNat ((qk (fr j).toNat) + (ti j))) (va_up rc (to j).toNat 1) (va_up ll (to j).toNat (j : Int)) wy wt wa) H := hP
              have hD : va_D A (wX cI cZ a (n : Int) fr to wd ti fl (va_up qk (to j).toNat ((qk (fr j).toNat) + (ti j))) (va_up rc (to j).toNat 1) (va_up ll (to j).toNat (j : Int)) wy wt wa) := hD
              refine z_iconst hx hb dX0_relax_177 ?_
              exact z_zret hx hb hr hlocks (v := 1) (Or.inr rfl) (va_up qk (to j).toNat ((qk (fr j).toNat) + (ti j)), va_up rc (to j).toNat 1, va_up ll (to j).toNat (j : Int)) hS hP hK hD ⟨1, rfl, Or.inl ⟨rfl, show rc (fr j).toNat = 1 by omega, show wd j - fl j ≠ 0 by omega, show (to j).toNat ≠ 0 by omega, show ¬ (rc (to j).toNat = 1 ∧ qk (to j).toNat ≤ qk (fr j).toNat + ti j) by omega, rfl, rfl, rfl⟩⟩ dX0_relax_178
            · refine z_iconst hx hb dX0_relax_139 ?_
              exact z_zret hx hb hr hlocks (v := 0) (Or.inl rfl) (qk, rc, ll) hS hP hK hD ⟨0, rfl, Or.inr ⟨rfl, fun (h1 : rc (fr j).toNat = 1) (h2 : wd j - fl j ≠ 0) (h3 : (to j).toNat ≠ 0) => show rc (to j).toNat = 1 ∧ qk (to j).toNat ≤ qk (fr j).toNat + ti j from by omega, rfl, rfl, rfl⟩⟩ dX0_relax_140
  · have hl : lv_has ls 7 [(0, .ref (a 0)), (1, .int (zI (j : Int))), (2, .int (zI 1))] := hl
    refine lv_iload_n hx hb dX0_relax_0 rfl (lv_at hl 2 rfl) ?_
    refine z_if_eq (tgt := 13) hx hb dX0_relax_1 (by decide) (by omega) (fun c_1 => absurd c_1 (by omega)) (fun c_1 => ?_)
    refine lv_aload_n hx hb dX0_relax_4 rfl (lv_at hl 0 rfl) ?_
    refine va_get (D := D) (ci := 0) (v := .ref (a 2)) (C := RX0) (T := TX0) (N := 12) hx hb hts in_X0 hown hK hP 0 rfl rfl 2 (by decide) (hts _ q24) (fun _ h9 => h9) rfl dX0_relax_5 ?_
    refine lv_iload_n hx hb dX0_relax_8 rfl (lv_at hl 1 rfl) ?_
    refine z_iald hx hb hK hP 2 0 rfl rfl (by omega) (by decide) (v := to j) (congrArg _ (show ((j : Int) : Int).toNat = j by omega)) dX0_relax_9 ?_
    refine lv_goto (tgt := 19) hx hb dX0_relax_10 (by decide) ?_
    refine lv_istore_n (lv' := [(3, .int (zI (to j))), (0, .ref (a 0)), (1, .int (zI (j : Int))), (2, .int (zI 1))]) hx hb dX0_relax_19 rfl hl (by decide) rfl (fun ls hl => ?_)
    refine lv_iload_n hx hb dX0_relax_20 rfl (lv_at hl 3 rfl) ?_
    refine z_if_eq (tgt := 33) hx hb dX0_relax_21 (by decide) (by omega) (fun c_21 => absurd c_21 (by omega)) (fun c_21 => ?_)
    refine lv_aload_n hx hb dX0_relax_24 rfl (lv_at hl 1 rfl) ?_
    refine va_get (D := D) (ci := 0) (v := .ref (a 1)) (C := RX0) (T := TX0) (N := 12) hx hb hts in_X0 hown hK hP 0 rfl rfl 1 (by decide) (hts _ q23) (fun _ h9 => h9) rfl dX0_relax_25 ?_
    refine lv_iload_n hx hb dX0_relax_28 rfl (lv_at hl 2 rfl) ?_
    refine z_iald hx hb hK hP 1 0 rfl rfl (by omega) (by decide) (v := fr j) (congrArg _ (show ((j : Int) : Int).toNat = j by omega)) dX0_relax_29 ?_
    refine lv_goto (tgt := 39) hx hb dX0_relax_30 (by decide) ?_
    refine lv_istore (lv' := [(4, .int (zI (fr j))), (3, .int (zI (to j))), (0, .ref (a 0)), (1, .int (zI (j : Int))), (2, .int (zI 1))]) hx hb dX0_relax_39 hl (by decide) rfl (fun ls hl => ?_)
    refine lv_iload_n hx hb dX0_relax_41 rfl (lv_at hl 4 rfl) ?_
    refine z_if_eq (tgt := 54) hx hb dX0_relax_42 (by decide) (by omega) (fun c_42 => absurd c_42 (by omega)) (fun c_42 => ?_)
    refine lv_aload_n hx hb dX0_relax_45 rfl (lv_at hl 2 rfl) ?_
    refine va_get (D := D) (ci := 0) (v := .ref (a 5)) (C := RX0) (T := TX0) (N := 12) hx hb hts in_X0 hown hK hP 0 rfl rfl 5 (by decide) (hts _ q27) (fun _ h9 => h9) rfl dX0_relax_46 ?_
    refine lv_iload_n hx hb dX0_relax_49 rfl (lv_at hl 3 rfl) ?_
    refine z_iald hx hb hK hP 5 0 rfl rfl (by omega) (by decide) (v := fl j) (congrArg _ (show ((j : Int) : Int).toNat = j by omega)) dX0_relax_50 ?_
    refine lv_goto (tgt := 67) hx hb dX0_relax_51 (by decide) ?_
    refine lv_istore (lv' := [(5, .int (zI (fl j))), (4, .int (zI (fr j))), (3, .int (zI (to j))), (0, .ref (a 0)), (1, .int (zI (j : Int))), (2, .int (zI 1))]) hx hb dX0_relax_67 hl (by decide) rfl (fun ls hl => ?_)
    refine lv_aload_n hx hb dX0_relax_69 rfl (lv_at hl 3 rfl) ?_
    refine va_get (D := D) (ci := 0) (v := .ref (a 6)) (C := RX0) (T := TX0) (N := 12) hx hb hts in_X0 hown hK hP 0 rfl rfl 6 (by decide) (hts _ q28) (fun _ h9 => h9) rfl dX0_relax_70 ?_
    refine lv_iload_n hx hb dX0_relax_73 rfl (lv_at hl 2 rfl) ?_
    refine z_iald hx hb hK hP 6 0 rfl rfl (by omega) (by decide) (v := qk (to j).toNat) rfl dX0_relax_74 ?_
    refine lv_iload_n hx hb dX0_relax_75 rfl (lv_at hl 5 rfl) ?_
    refine z_if_eq (tgt := 89) hx hb dX0_relax_76 (by decide) (by omega) (fun c_76 => absurd c_76 (by omega)) (fun c_76 => ?_)
    refine lv_aload_n hx hb dX0_relax_79 rfl (lv_at hl 3 rfl) ?_
    refine va_get (D := D) (ci := 0) (v := .ref (a 4)) (C := RX0) (T := TX0) (N := 12) hx hb hts in_X0 hown hK hP 0 rfl rfl 4 (by decide) (hts _ q26) (fun _ h9 => h9) rfl dX0_relax_80 ?_
    refine lv_iload_n hx hb dX0_relax_83 rfl (lv_at hl 4 rfl) ?_
    refine z_iald hx hb hK hP 4 0 rfl rfl (by omega) (by decide) (v := ti j) (congrArg _ (show ((j : Int) : Int).toNat = j by omega)) dX0_relax_84 ?_
    refine z_ineg hx hb dX0_relax_85 ?_
    refine lv_goto (tgt := 95) hx hb dX0_relax_86 (by decide) ?_
    refine z_iadd hx hb dX0_relax_95 ?_
    refine lv_istore (lv' := [(6, .int (zI ((qk (to j).toNat) + (-(ti j))))), (5, .int (zI (fl j))), (4, .int (zI (fr j))), (3, .int (zI (to j))), (0, .ref (a 0)), (1, .int (zI (j : Int))), (2, .int (zI 1))]) hx hb dX0_relax_96 hl (by decide) rfl (fun ls hl => ?_)
    refine lv_aload_n hx hb dX0_relax_98 rfl (lv_at hl 4 rfl) ?_
    refine va_get (D := D) (ci := 0) (v := .ref (a 7)) (C := RX0) (T := TX0) (N := 12) hx hb hts in_X0 hown hK hP 0 rfl rfl 7 (by decide) (hts _ q29) (fun _ h9 => h9) rfl dX0_relax_99 ?_
    refine lv_iload_n hx hb dX0_relax_102 rfl (lv_at hl 3 rfl) ?_
    refine z_zald hx hb hK hP 7 1 rfl rfl (by omega) (by decide) (v := rc (to j).toNat) rfl dX0_relax_103 ?_
    refine z_if_eq (tgt := 139) hx hb dX0_relax_104 (by decide) (by omega) (fun c_104 => ?_) (fun c_104 => ?_)
    · refine z_iconst hx hb dX0_relax_139 ?_
      exact z_zret hx hb hr hlocks (v := 0) (Or.inl rfl) (qk, rc, ll) hS hP hK hD ⟨0, rfl, Or.inr ⟨rfl, fun (h1 : rc (to j).toNat = 1) (h2 : fl j ≠ 0) (h3 : (fr j).toNat ≠ 0) => show rc (fr j).toNat = 1 ∧ qk (fr j).toNat ≤ qk (to j).toNat + -ti j from by omega, rfl, rfl, rfl⟩⟩ dX0_relax_140
    · refine lv_iload hx hb dX0_relax_107 (lv_at hl 1 rfl) ?_
      refine z_if_eq (tgt := 139) hx hb dX0_relax_109 (by decide) (by omega) (fun c_109 => ?_) (fun c_109 => ?_)
      · refine z_iconst hx hb dX0_relax_139 ?_
        exact z_zret hx hb hr hlocks (v := 0) (Or.inl rfl) (qk, rc, ll) hS hP hK hD ⟨0, rfl, Or.inr ⟨rfl, fun (h1 : rc (to j).toNat = 1) (h2 : fl j ≠ 0) (h3 : (fr j).toNat ≠ 0) => show rc (fr j).toNat = 1 ∧ qk (fr j).toNat ≤ qk (to j).toNat + -ti j from by omega, rfl, rfl, rfl⟩⟩ dX0_relax_140
      · refine lv_iload hx hb dX0_relax_112 (lv_at hl 2 rfl) ?_
        refine z_if_eq (tgt := 139) hx hb dX0_relax_114 (by decide) (by omega) (fun c_114 => ?_) (fun c_114 => ?_)
        · refine z_iconst hx hb dX0_relax_139 ?_
          exact z_zret hx hb hr hlocks (v := 0) (Or.inl rfl) (qk, rc, ll) hS hP hK hD ⟨0, rfl, Or.inr ⟨rfl, fun (h1 : rc (to j).toNat = 1) (h2 : fl j ≠ 0) (h3 : (fr j).toNat ≠ 0) => show rc (fr j).toNat = 1 ∧ qk (fr j).toNat ≤ qk (to j).toNat + -ti j from by omega, rfl, rfl, rfl⟩⟩ dX0_relax_140
        · refine lv_aload_n hx hb dX0_relax_117 rfl (lv_at hl 4 rfl) ?_
          refine va_get (D := D) (ci := 0) (v := .ref (a 7)) (C := RX0) (T := TX0) (N := 12) hx hb hts in_X0 hown hK hP 0 rfl rfl 7 (by decide) (hts _ q29) (fun _ h9 => h9) rfl dX0_relax_118 ?_
          refine lv_iload hx hb dX0_relax_121 (lv_at hl 2 rfl) ?_
          refine z_zald hx hb hK hP 7 1 rfl rfl (by omega) (by decide) (v := rc (fr j).toNat) rfl dX0_relax_123 ?_
          refine z_if_eq (tgt := 141) hx hb dX0_relax_124 (by decide) (by omega) (fun c_124 => ?_) (fun c_124 => ?_)
          · refine lv_aload_n hx hb dX0_relax_141 rfl (lv_at hl 4 rfl) ?_
            refine va_get (D := D) (ci := 0) (v := .ref (a 7)) (C := RX0) (T := TX0) (N := 12) hx hb hts in_X0 hown hK hP 0 rfl rfl 7 (by decide) (hts _ q29) (fun _ h9 => h9) rfl dX0_relax_142 ?_
            refine lv_iload hx hb dX0_relax_145 (lv_at hl 2 rfl) ?_
            refine z_iconst hx hb dX0_relax_147 ?_
            refine z_zast hx hb hK hP hD hS 7 1 rfl rfl (by omega) (by omega) (by decide) (k := (fr j).toNat) rfl dX0_relax_148 (fun H locs hP hD hS => ?_)
            have hP : va_P D vwCl (wX cI cZ a (n : Int) fr to wd ti fl qk (va_up rc (fr j).toNat 1) ll wy wt wa) H := hP
            have hD : va_D A (wX cI cZ a (n : Int) fr to wd ti fl qk (va_up rc (fr j).toNat 1) ll wy wt wa) := hD
            refine lv_aload_n hx hb dX0_relax_149 rfl (lv_at hl 4 rfl) ?_
            refine va_get (D := D) (ci := 0) (v := .ref (a 6)) (C := RX0) (T := TX0) (N := 12) hx hb hts in_X0 hown hK hP 0 rfl rfl 6 (by decide) (hts _ q28) (fun _ h9 => h9) rfl dX0_relax_150 ?_
            refine lv_iload hx hb dX0_relax_153 (lv_at hl 2 rfl) ?_
            refine lv_iload hx hb dX0_relax_155 (lv_at hl 0 rfl) ?_
            refine z_iast hx hb hK hP hD hS 6 0 rfl rfl (by omega) (by decide) (k := (fr j).toNat) rfl dX0_relax_157 (fun H locs hP hD hS => ?_)
            have hP : va_P D vwCl (wX cI cZ a (n : Int) fr to wd ti fl (va_up qk (fr j).toNat ((qk (to j).toNat) + (-(ti j)))) (va_up rc (fr j).toNat 1) ll wy wt wa) H := hP
            have hD : va_D A (wX cI cZ a (n : Int) fr to wd ti fl (va_up qk (fr j).toNat ((qk (to j).toNat) + (-(ti j)))) (va_up rc (fr j).toNat 1) ll wy wt wa) := hD
            refine lv_aload_n hx hb dX0_relax_158 rfl (lv_at hl 4 rfl) ?_
            refine va_get (D := D) (ci := 0) (v := .ref (a 8)) (C := RX0) (T := TX0) (N := 12) hx hb hts in_X0 hown hK hP 0 rfl rfl 8 (by decide) (hts _ q30) (fun _ h9 => h9) rfl dX0_relax_159 ?_
            refine lv_iload hx hb dX0_relax_162 (lv_at hl 2 rfl) ?_
            refine lv_iload_n hx hb dX0_relax_164 rfl (lv_at hl 6 rfl) ?_
            refine z_if_eq (tgt := 175) hx hb dX0_relax_165 (by decide) (by omega) (fun c_165 => absurd c_165 (by omega)) (fun c_165 => ?_)
            refine lv_iload_n hx hb dX0_relax_168 rfl (lv_at hl 5 rfl) ?_
            refine z_bipush hx hb dX0_relax_169 (by decide) ?_
            refine z_iadd hx hb dX0_relax_171 ?_
            refine lv_goto (tgt := 176) hx hb dX0_relax_172 (by decide) ?_
            refine z_iast hx hb hK hP hD hS 8 0 rfl rfl (by omega) (by decide) (k := (fr j).toNat) rfl dX0_relax_176 (fun H locs hP hD hS => ?_)
            have hP : va_P D vwCl (wX cI cZ a (n : Int) fr to wd ti fl (va_up qk (fr j).toNat ((qk (to j).toNat) + (-(ti j)))) (va_up rc (fr j).toNat 1) (va_up ll (fr j).toNat ((j : Int) + 8)) wy wt wa) H := hP
            have hD : va_D A (wX cI cZ a (n : Int) fr to wd ti fl (va_up qk (fr j).toNat ((qk (to j).toNat) + (-(ti j)))) (va_up rc (fr j).toNat 1) (va_up ll (fr j).toNat ((j : Int) + 8)) wy wt wa) := hD
            refine z_iconst hx hb dX0_relax_177 ?_
            exact z_zret hx hb hr hlocks (v := 1) (Or.inr rfl) (va_up qk (fr j).toNat ((qk (to j).toNat) + (-(ti j))), va_up rc (fr j).toNat 1, va_up ll (fr j).toNat ((j : Int) + 8)) hS hP hK hD ⟨1, rfl, Or.inl ⟨rfl, show rc (to j).toNat = 1 by omega, show fl j ≠ 0 by omega, show (fr j).toNat ≠ 0 by omega, show ¬ (rc (fr j).toNat = 1 ∧ qk (fr j).toNat ≤ qk (to j).toNat + -ti j) by omega, rfl, rfl, rfl⟩⟩ dX0_relax_178
          · refine lv_aload_n hx hb dX0_relax_127 rfl (lv_at hl 4 rfl) ?_
            refine va_get (D := D) (ci := 0) (v := .ref (a 6)) (C := RX0) (T := TX0) (N := 12) hx hb hts in_X0 hown hK hP 0 rfl rfl 6 (by decide) (hts _ q28) (fun _ h9 => h9) rfl dX0_relax_128 ?_
            refine lv_iload hx hb dX0_relax_131 (lv_at hl 2 rfl) ?_
            refine z_iald hx hb hK hP 6 0 rfl rfl (by omega) (by decide) (v := qk (fr j).toNat) rfl dX0_relax_133 ?_
            refine lv_iload hx hb dX0_relax_134 (lv_at hl 0 rfl) ?_
            refine z_icmp_gt (tgt := 141) hx hb dX0_relax_136 (by decide) (by omega) (by omega) (fun c_136 => ?_) (fun c_136 => ?_)
            · refine lv_aload_n hx hb dX0_relax_141 rfl (lv_at hl 4 rfl) ?_
              refine va_get (D := D) (ci := 0) (v := .ref (a 7)) (C := RX0) (T := TX0) (N := 12) hx hb hts in_X0 hown hK hP 0 rfl rfl 7 (by decide) (hts _ q29) (fun _ h9 => h9) rfl dX0_relax_142 ?_
              refine lv_iload hx hb dX0_relax_145 (lv_at hl 2 rfl) ?_
              refine z_iconst hx hb dX0_relax_147 ?_
              refine z_zast hx hb hK hP hD hS 7 1 rfl rfl (by omega) (by omega) (by decide) (k := (fr j).toNat) rfl dX0_relax_148 (fun H locs hP hD hS => ?_)
              have hP : va_P D vwCl (wX cI cZ a (n : Int) fr to wd ti fl qk (va_up rc (fr j).toNat 1) ll wy wt wa) H := hP
              have hD : va_D A (wX cI cZ a (n : Int) fr to wd ti fl qk (va_up rc (fr j).toNat 1) ll wy wt wa) := hD
              refine lv_aload_n hx hb dX0_relax_149 rfl (lv_at hl 4 rfl) ?_
              refine va_get (D := D) (ci := 0) (v := .ref (a 6)) (C := RX0) (T := TX0) (N := 12) hx hb hts in_X0 hown hK hP 0 rfl rfl 6 (by decide) (hts _ q28) (fun _ h9 => h9) rfl dX0_relax_150 ?_
              refine lv_iload hx hb dX0_relax_153 (lv_at hl 2 rfl) ?_
              refine lv_iload hx hb dX0_relax_155 (lv_at hl 0 rfl) ?_
              refine z_iast hx hb hK hP hD hS 6 0 rfl rfl (by omega) (by decide) (k := (fr j).toNat) rfl dX0_relax_157 (fun H locs hP hD hS => ?_)
              have hP : va_P D vwCl (wX cI cZ a (n : Int) fr to wd ti fl (va_up qk (fr j).toNat ((qk (to j).toNat) + (-(ti j)))) (va_up rc (fr j).toNat 1) ll wy wt wa) H := hP
              have hD : va_D A (wX cI cZ a (n : Int) fr to wd ti fl (va_up qk (fr j).toNat ((qk (to j).toNat) + (-(ti j)))) (va_up rc (fr j).toNat 1) ll wy wt wa) := hD
              refine lv_aload_n hx hb dX0_relax_158 rfl (lv_at hl 4 rfl) ?_
              refine va_get (D := D) (ci := 0) (v := .ref (a 8)) (C := RX0) (T := TX0) (N := 12) hx hb hts in_X0 hown hK hP 0 rfl rfl 8 (by decide) (hts _ q30) (fun _ h9 => h9) rfl dX0_relax_159 ?_
              refine lv_iload hx hb dX0_relax_162 (lv_at hl 2 rfl) ?_
              refine lv_iload_n hx hb dX0_relax_164 rfl (lv_at hl 6 rfl) ?_
              refine z_if_eq (tgt := 175) hx hb dX0_relax_165 (by decide) (by omega) (fun c_165 => absurd c_165 (by omega)) (fun c_165 => ?_)
              refine lv_iload_n hx hb dX0_relax_168 rfl (lv_at hl 5 rfl) ?_
              refine z_bipush hx hb dX0_relax_169 (by decide) ?_
              refine z_iadd hx hb dX0_relax_171 ?_
              refine lv_goto (tgt := 176) hx hb dX0_relax_172 (by decide) ?_
              refine z_iast hx hb hK hP hD hS 8 0 rfl rfl (by omega) (by decide) (k := (fr j).toNat) rfl dX0_relax_176 (fun H locs hP hD hS => ?_)
              have hP : va_P D vwCl (wX cI cZ a (n : Int) fr to wd ti fl (va_up qk (fr j).toNat ((qk (to j).toNat) + (-(ti j)))) (va_up rc (fr j).toNat 1) (va_up ll (fr j).toNat ((j : Int) + 8)) wy wt wa) H := hP
              have hD : va_D A (wX cI cZ a (n : Int) fr to wd ti fl (va_up qk (fr j).toNat ((qk (to j).toNat) + (-(ti j)))) (va_up rc (fr j).toNat 1) (va_up ll (fr j).toNat ((j : Int) + 8)) wy wt wa) := hD
              refine z_iconst hx hb dX0_relax_177 ?_
              exact z_zret hx hb hr hlocks (v := 1) (Or.inr rfl) (va_up qk (fr j).toNat ((qk (to j).toNat) + (-(ti j))), va_up rc (fr j).toNat 1, va_up ll (fr j).toNat ((j : Int) + 8)) hS hP hK hD ⟨1, rfl, Or.inl ⟨rfl, show rc (to j).toNat = 1 by omega, show fl j ≠ 0 by omega, show (fr j).toNat ≠ 0 by omega, show ¬ (rc (fr j).toNat = 1 ∧ qk (fr j).toNat ≤ qk (to j).toNat + -ti j) by omega, rfl, rfl, rfl⟩⟩ dX0_relax_178
            · refine z_iconst hx hb dX0_relax_139 ?_
              exact z_zret hx hb hr hlocks (v := 0) (Or.inl rfl) (qk, rc, ll) hS hP hK hD ⟨0, rfl, Or.inr ⟨rfl, fun (h1 : rc (to j).toNat = 1) (h2 : fl j ≠ 0) (h3 : (fr j).toNat ≠ 0) => show rc (fr j).toNat = 1 ∧ qk (fr j).toNat ≤ qk (to j).toNat + -ti j from by omega, rfl, rfl, rfl⟩⟩ dX0_relax_140
end
section
set_option maxHeartbeats 8000000 in
set_option maxRecDepth 100000 in
/-- findQuickest(): the quickest ways in the rest network, for a network with a potential pt -/
theorem m_findQuickest (l : Launch) (D : va_G) (cI cZ : ClassId) (a : Nat → Nat) (sz : Nat) {n : Nat} {fr to wd ti fl qk rc ll : Nat → Int} {wy : Int} {wt wa : Nat → Int} (pt : Nat → Int) (hN : mq_Net n fr to wd ti) (hI : mq_In n wd fl) (h0 : pt 0 = 0) (hF : mq_Fe n fr to wd ti fl pt) :
    zMV l yX0_findQuickest cX0_findQuickest 4 (zRm 1 26) [.ref (a 0)] D vwCl (zT cI cZ) sz (wX cI cZ a (n : Int) fr to wd ti fl qk rc ll wy wt wa)
      (fun (u : (Nat → Int) × (Nat → Int) × (Nat → Int)) => mq_SP n fr to wd ti fl pt u.1 u.2.1 u.2.2) (fun u => wX cI cZ a n fr to wd ti fl u.1 u.2.1 u.2.2 wy wt wa) := by
  refine z_metV (by decide) (Nat.le_of_ble_eq_true rfl) ?_
  intro p e s m below meth c A ls hG
  obtain ⟨hx, hb, hr, hlocks, hml, hown, hts, hP, hK, hD, hS, hA, hl⟩ := hG
  have hown : s.vm.findClass RX0 = some m.cls := hown
  have hn8 := hN.1
  have L2 : ∀ (k r : Nat) (x : Int) (qk rc ll : Nat → Int), r + k = 7 → r ≤ 6 → mq_Ho n fr to wd ti fl pt r x qk rc ll → ∀ (H : Heap) (locs : List Loc), va_P D vwCl (wX cI cZ a (n : Int) fr to wd ti fl qk rc ll wy wt wa) H → va_D A (wX cI cZ a (n : Int) fr to wd ti fl qk rc ll wy wt wa) → va_S A s.heap H locs → ∀ (ls : Array Slot), lv_has ls 4 [(0, .ref (a 0)), (1, .int (zI x)), (2, .int (zI (r : Int)))] → W p l e (zRm 1 26) s m ([.ref (a 0)] : List Value).toArray below meth c H locs 0 0 (MQ below (zQv D vwCl (zT cI cZ) (fun (u : (Nat → Int) × (Nat → Int) × (Nat → Int)) => mq_SP n fr to wd ti fl pt u.1 u.2.1 u.2.2) (fun u => wX cI cZ a n fr to wd ti fl u.1 u.2.1 u.2.2 wy wt wa) A) ([.ref (a 0)] : List Value).toArray s 0 0 A) (F0 m 46 ls []) := by
    intro k
    induction k with
    | zero => intro r x qk rc ll h1 h2; omega
    | succ k ih =>
      intro r x qk rc ll hrk hr6 hho H locs hP hD hS ls hl
      obtain ⟨T, hT, hBF, hRA, hx01, hCl, hx1⟩ := id hho
      refine lv_iload_n hx hb dX0_findQuickest_46 rfl (lv_at hl 2 rfl) ?_
      refine z_bipush hx hb dX0_findQuickest_47 (by decide) ?_
      refine z_icmp_ge (tgt := 118) hx hb dX0_findQuickest_49 (by decide) (by omega) (by omega) (fun c_49 => ?_) (fun c_49 => ?_)
      · have e0 : x = 0 := by omega
        subst e0
        exact z_vret hx hb hr hlocks (qk, rc, ll) hS hP hK hD (mq_SP_of hN hF h0 (by omega) hho) dX0_findQuickest_118
      · refine lv_iload_n hx hb dX0_findQuickest_52 rfl (lv_at hl 1 rfl) ?_
        refine z_if_eq (tgt := 118) hx hb dX0_findQuickest_53 (by decide) (by omega) (fun c_53 => ?_) (fun c_53 => ?_)
        · have e0 : x = 0 := by omega
          subst e0
          exact z_vret hx hb hr hlocks (qk, rc, ll) hS hP hK hD (mq_SP_of hN hF h0 (by omega) hho) dX0_findQuickest_118
        · refine z_iconst hx hb dX0_findQuickest_56 ?_
          refine lv_istore_n (lv' := [(1, .int (zI 0)), (0, .ref (a 0)), (2, .int (zI (r : Int)))]) hx hb dX0_findQuickest_57 rfl hl (by decide) rfl (fun ls hl => ?_)
          refine z_iconst hx hb dX0_findQuickest_58 ?_
          refine lv_istore_n (lv' := [(3, .int (zI 0)), (1, .int (zI 0)), (0, .ref (a 0)), (2, .int (zI (r : Int)))]) hx hb dX0_findQuickest_59 rfl hl (by decide) rfl (fun ls hl => ?_)
          have L3 : ∀ (k q : Nat) (x : Int) (qk rc ll : Nat → Int), q + k = n + 1 → q ≤ n → mq_Hi n fr to wd ti fl pt r q false x qk rc ll → ∀ (H : Heap) (locs : List Loc), va_P D vwCl (wX cI cZ a (n : Int) fr to wd ti fl qk rc ll wy wt wa) H → va_D A (wX cI cZ a (n : Int) fr to wd ti fl qk rc ll wy wt wa) → va_S A s.heap H locs → ∀ (ls : Array Slot), lv_has ls 4 [(0, .ref (a 0)), (1, .int (zI x)), (2, .int (zI (r : Int))), (3, .int (zI (q : Int)))] → W p l e (zRm 1 26) s m ([.ref (a 0)] : List Value).toArray below meth c H locs 0 0 (MQ below (zQv D vwCl (zT cI cZ) (fun (u : (Nat → Int) × (Nat → Int) × (Nat → Int)) => mq_SP n fr to wd ti fl pt u.1 u.2.1 u.2.2) (fun u => wX cI cZ a n fr to wd ti fl u.1 u.2.1 u.2.2 wy wt wa) A) ([.ref (a 0)] : List Value).toArray s 0 0 A) (F0 m 60 ls []) := by
            intro k
            induction k with
            | zero => intro q x qk rc ll h1 h2; omega
            | succ k ih3 =>
              intro q x qk rc ll hqk hqn hhi H locs hP hD hS ls hl
              obtain ⟨q0, r0, T, hT, hBF, hRA, hlo, hRd, h4r⟩ := id hhi
              have hx01 := hRd.2.2.1
              refine lv_iload_n hx hb dX0_findQuickest_60 rfl (lv_at hl 3 rfl) ?_
              refine lv_aload_n hx hb dX0_findQuickest_61 rfl (lv_at hl 0 rfl) ?_
              refine va_get (D := D) (ci := 0) (v := .int (zI (n : Int))) (C := RX0) (T := TX0) (N := 12) hx hb hts in_X0 hown hK hP 0 rfl rfl 0 (by decide) (hts _ q22) (fun _ h9 => h9) rfl dX0_findQuickest_62 ?_
              refine z_icmp_ge (tgt := 112) hx hb dX0_findQuickest_65 (by decide) (by omega) (by omega) (fun c_65 => ?_) (fun c_65 => ?_)
              · have e0 : q = n := by omega
                subst e0
                refine z_iinc (y := ((r + 1 : Nat) : Int)) (lv' := [(2, .int (zI ((r + 1 : Nat) : Int))), (0, .ref (a 0)), (1, .int (zI x)), (3, .int (zI (q : Int)))]) hx hb dX0_findQuickest_112 hl (k := 2) rfl (by omega) (by decide) rfl (fun ls hl => ?_)
                refine lv_goto (tgt := 46) hx hb dX0_findQuickest_115 (by decide) ?_
                exact ih (r + 1) x qk rc ll (by omega) (by omega) (mq_Hi_n hN hF h0 hhi) H locs hP hD hS ls (lv_sub hl [1, 2, 0] rfl)
              · refine lv_aload_n hx hb dX0_findQuickest_68 rfl (lv_at hl 0 rfl) ?_
                refine lv_iload_n hx hb dX0_findQuickest_69 rfl (lv_at hl 3 rfl) ?_
                refine z_iconst hx hb dX0_findQuickest_70 ?_
                have hT2 : T ≤ 16 * r + 2 * q := by simpa using hT
                refine z_calli (As := [.int (zI (q : Int)), .int (zI 0)]) (rest := []) (n := 2) (C := RX0) (T := TX0) (N := 12) (ci := 0) hx hb hml hown hts hK hP hD hS hA (m_relax l D cI cZ a H.size q false hN hI (by omega) hBF.1 (fun p hp => by have := hBF.2.2.2.1 p hp; omega)) (lw_V q81 q83 qs2 q12 q84) rfl rfl (by decide +kernel) ⟨Nat.le_of_ble_eq_true rfl, Nat.le_of_ble_eq_true rfl⟩ rfl rfl rfl hl.1 rfl (by decide) dX0_findQuickest_71 ⟨Nat.le_of_ble_eq_true rfl, Nat.le_of_ble_eq_true rfl⟩ (fun r32 u H locs hw hP hD hS => ?_)
                obtain ⟨qk1, rc1, ll1⟩ := u
                obtain ⟨x1, rfl, hrx⟩ := hw
                have hP : va_P D vwCl (wX cI cZ a (n : Int) fr to wd ti fl qk1 rc1 ll1 wy wt wa) H := hP
                have hD : va_D A (wX cI cZ a (n : Int) fr to wd ti fl qk1 rc1 ll1 wy wt wa) := hD
                have hrx : mq_Rx fr to wd ti fl q false qk rc ll x1 qk1 rc1 ll1 := hrx
                have hhi1 : mq_Hi n fr to wd ti fl pt r q true (if x1 = 0 then x else 1) qk1 rc1 ll1 := mq_Hi_s hN hI hF (by omega) (by omega) hhi hrx
                have hx1 : x1 = 0 ∨ x1 = 1 := by rcases hrx with h | h; exact Or.inr h.1; exact Or.inl h.1
                have J : ∀ y : Int, y = (if x1 = 0 then x else 1) → W p l e (zRm 1 26) s m ([.ref (a 0)] : List Value).toArray below meth c H locs 0 0 (MQ below (zQv D vwCl (zT cI cZ) (fun (u : (Nat → Int) × (Nat → Int) × (Nat → Int)) => mq_SP n fr to wd ti fl pt u.1 u.2.1 u.2.2) (fun u => wX cI cZ a n fr to wd ti fl u.1 u.2.1 u.2.2 wy wt wa) A) ([.ref (a 0)] : List Value).toArray s 0 0 A) (F0 m 86 ls [.int (zI y)]) := by
                  intro y hy
                  rw [← hy] at hhi1
                  have hy01 : y = 0 ∨ y = 1 := by omega
                  refine lv_istore_n (lv' := [(1, .int (zI y)), (0, .ref (a 0)), (2, .int (zI (r : Int))), (3, .int (zI (q : Int)))]) hx hb dX0_findQuickest_86 rfl hl (by decide) rfl (fun ls hl => ?_)
                  refine lv_aload_n hx hb dX0_findQuickest_87 rfl (lv_at hl 1 rfl) ?_
                  refine lv_iload_n hx hb dX0_findQuickest_88 rfl (lv_at hl 3 rfl) ?_
                  refine z_iconst hx hb dX0_findQuickest_89 ?_
                  obtain ⟨q2, r2, T1, hT1, hBF1, hRA1, hlo1, hRd1, h4r1⟩ := id hhi1
                  have hT2 : T1 ≤ 16 * r + 2 * q + 1 := by simpa using hT1
                  refine z_calli (As := [.int (zI (q : Int)), .int (zI 1)]) (rest := []) (n := 2) (C := RX0) (T := TX0) (N := 12) (ci := 0) hx hb hml hown hts hK hP hD hS hA (m_relax l D cI cZ a H.size q true hN hI (by omega) hBF1.1 (fun p hp => by have := hBF1.2.2.2.1 p hp; omega)) (lw_V q81 q83 qs2 q12 q84) rfl rfl (by decide +kernel) ⟨Nat.le_of_ble_eq_true rfl, Nat.le_of_ble_eq_true rfl⟩ rfl rfl rfl hl.1 rfl (by decide) dX0_findQuickest_90 ⟨Nat.le_of_ble_eq_true rfl, Nat.le_of_ble_eq_true rfl⟩ (fun r32 u H locs hw hP hD hS => ?_)
                  obtain ⟨qk2, rc2, ll2⟩ := u
                  obtain ⟨x2, rfl, hrx2⟩ := hw
                  have hP : va_P D vwCl (wX cI cZ a (n : Int) fr to wd ti fl qk2 rc2 ll2 wy wt wa) H := hP
                  have hD : va_D A (wX cI cZ a (n : Int) fr to wd ti fl qk2 rc2 ll2 wy wt wa) := hD
                  have hrx2 : mq_Rx fr to wd ti fl q true qk1 rc1 ll1 x2 qk2 rc2 ll2 := hrx2
                  have hhi2 : mq_Hi n fr to wd ti fl pt r (q + 1) false (if x2 = 0 then y else 1) qk2 rc2 ll2 := mq_Hi_s hN hI hF (by omega) (by omega) hhi1 hrx2
                  have hx2 : x2 = 0 ∨ x2 = 1 := by rcases hrx2 with h | h; exact Or.inr h.1; exact Or.inl h.1
                  have J2 : ∀ z : Int, z = (if x2 = 0 then y else 1) → W p l e (zRm 1 26) s m ([.ref (a 0)] : List Value).toArray below meth c H locs 0 0 (MQ below (zQv D vwCl (zT cI cZ) (fun (u : (Nat → Int) × (Nat → Int) × (Nat → Int)) => mq_SP n fr to wd ti fl pt u.1 u.2.1 u.2.2) (fun u => wX cI cZ a n fr to wd ti fl u.1 u.2.1 u.2.2 wy wt wa) A) ([.ref (a 0)] : List Value).toArray s 0 0 A) (F0 m 105 ls [.int (zI z)]) := by
                    intro z hz
                    rw [← hz] at hhi2
                    refine lv_istore_n (lv' := [(1, .int (zI z)), (0, .ref (a 0)), (2, .int (zI (r : Int))), (3, .int (zI (q : Int)))]) hx hb dX0_findQuickest_105 rfl hl (by decide) rfl (fun ls hl => ?_)
                    refine z_iinc (y := ((q + 1 : Nat) : Int)) (lv' := [(3, .int (zI ((q + 1 : Nat) : Int))), (1, .int (zI z)), (0, .ref (a 0)), (2, .int (zI (r : Int)))]) hx hb dX0_findQuickest_106 hl (k := 3) rfl (by omega) (by decide) rfl (fun ls hl => ?_)
                    refine lv_goto (tgt := 60) hx hb dX0_findQuickest_109 (by decide) ?_
                    exact ih3 (q + 1) z qk2 rc2 ll2 (by omega) (by omega) hhi2 H locs hP hD hS ls (lv_sub hl [2, 1, 3, 0] rfl)
                  refine z_if_ne (tgt := 100) hx hb dX0_findQuickest_93 (by decide) (by omega) (fun c_93 => ?_) (fun c_93 => ?_)
                  · refine z_iconst hx hb dX0_findQuickest_100 ?_
                    refine lv_goto (tgt := 105) hx hb dX0_findQuickest_101 (by decide) ?_
                    exact J2 _ (by omega)
                  · refine lv_iload_n hx hb dX0_findQuickest_96 rfl (lv_at hl 0 rfl) ?_
                    refine z_if_eq (tgt := 104) hx hb dX0_findQuickest_97 (by decide) (by omega) (fun c_97 => ?_) (fun c_97 => ?_)
                    · refine z_iconst hx hb dX0_findQuickest_104 ?_
                      exact J2 _ (by omega)
                    · refine z_iconst hx hb dX0_findQuickest_100 ?_
                      refine lv_goto (tgt := 105) hx hb dX0_findQuickest_101 (by decide) ?_
                      exact J2 _ (by omega)
                refine z_if_ne (tgt := 81) hx hb dX0_findQuickest_74 (by decide) (by omega) (fun c_74 => ?_) (fun c_74 => ?_)
                · refine z_iconst hx hb dX0_findQuickest_81 ?_
                  refine lv_goto (tgt := 86) hx hb dX0_findQuickest_82 (by decide) ?_
                  exact J _ (by omega)
                · refine lv_iload_n hx hb dX0_findQuickest_77 rfl (lv_at hl 1 rfl) ?_
                  refine z_if_eq (tgt := 85) hx hb dX0_findQuickest_78 (by decide) (by omega) (fun c_78 => ?_) (fun c_78 => ?_)
                  · refine z_iconst hx hb dX0_findQuickest_85 ?_
                    exact J _ (by omega)
                  · refine z_iconst hx hb dX0_findQuickest_81 ?_
                    refine lv_goto (tgt := 86) hx hb dX0_findQuickest_82 (by decide) ?_
                    exact J _ (by omega)
          exact L3 (n + 1) 0 0 qk rc ll (by omega) (by omega) (mq_Hi_0 hho) H locs hP hD hS ls (lv_sub hl [2, 1, 3, 0] rfl)
  have L1 : ∀ (k i : Nat) (qk rc ll : Nat → Int), i + k = 6 → i ≤ 5 → (∀ p, p < i → rc p = if p = 0 then 1 else 0) → (∀ p, p < i → qk p = 0) → ∀ (H : Heap) (locs : List Loc), va_P D vwCl (wX cI cZ a (n : Int) fr to wd ti fl qk rc ll wy wt wa) H → va_D A (wX cI cZ a (n : Int) fr to wd ti fl qk rc ll wy wt wa) → va_S A s.heap H locs → ∀ (ls : Array Slot), lv_has ls 4 [(0, .ref (a 0)), (1, .int (zI (i : Int)))] → W p l e (zRm 1 26) s m ([.ref (a 0)] : List Value).toArray below meth c H locs 0 0 (MQ below (zQv D vwCl (zT cI cZ) (fun (u : (Nat → Int) × (Nat → Int) × (Nat → Int)) => mq_SP n fr to wd ti fl pt u.1 u.2.1 u.2.2) (fun u => wX cI cZ a n fr to wd ti fl u.1 u.2.1 u.2.2 wy wt wa) A) ([.ref (a 0)] : List Value).toArray s 0 0 A) (F0 m 2 ls []) := by
    intro k
    induction k with
    | zero => intro i qk rc ll h1 h2; omega
    | succ k ih =>
      intro i qk rc ll hik hi5 hrc hqk H locs hP hD hS ls hl
      refine lv_iload_n hx hb dX0_findQuickest_2 rfl (lv_at hl 1 rfl) ?_
      refine z_iconst hx hb dX0_findQuickest_3 ?_
      refine z_icmp_ge (tgt := 42) hx hb dX0_findQuickest_4 (by decide) (by omega) (by omega) (fun c_4 => ?_) (fun c_4 => ?_)
      · have e0 : i = 5 := by omega
        subst e0
        refine z_iconst hx hb dX0_findQuickest_42 ?_
        refine lv_istore_n (lv' := [(1, .int (zI 1)), (0, .ref (a 0))]) hx hb dX0_findQuickest_43 rfl hl (by decide) rfl (fun ls hl => ?_)
        refine z_iconst hx hb dX0_findQuickest_44 ?_
        refine lv_istore_n (lv' := [(2, .int (zI 0)), (1, .int (zI 1)), (0, .ref (a 0))]) hx hb dX0_findQuickest_45 rfl hl (by decide) rfl (fun ls hl => ?_)
        exact L2 7 0 1 qk rc ll (by omega) (by omega) (mq_Ho_0 h0 hrc hqk) H locs hP hD hS ls (lv_sub hl [2, 1, 0] rfl)
      · refine lv_aload_n hx hb dX0_findQuickest_7 rfl (lv_at hl 0 rfl) ?_
        refine va_get (D := D) (ci := 0) (v := .ref (a 7)) (C := RX0) (T := TX0) (N := 12) hx hb hts in_X0 hown hK hP 0 rfl rfl 7 (by decide) (hts _ q29) (fun _ h9 => h9) rfl dX0_findQuickest_8 ?_
        refine lv_iload_n hx hb dX0_findQuickest_11 rfl (lv_at hl 1 rfl) ?_
        refine lv_iload_n hx hb dX0_findQuickest_12 rfl (lv_at hl 1 rfl) ?_
        refine z_if_ne (tgt := 20) hx hb dX0_findQuickest_13 (by decide) (by omega) (fun c_13 => ?_) (fun c_13 => ?_)
        · refine z_iconst hx hb dX0_findQuickest_20 ?_
          refine z_zast hx hb hK hP hD hS 7 1 rfl rfl (by omega) (by omega) (by decide) (k := i) (by omega) dX0_findQuickest_21 (fun H locs hP hD hS => ?_)
          have hP : va_P D vwCl (wX cI cZ a (n : Int) fr to wd ti fl qk (va_up rc i 0) ll wy wt wa) H := hP
          have hD : va_D A (wX cI cZ a (n : Int) fr to wd ti fl qk (va_up rc i 0) ll wy wt wa) := hD
          refine lv_aload_n hx hb dX0_findQuickest_22 rfl (lv_at hl 0 rfl) ?_
          refine va_get (D := D) (ci := 0) (v := .ref (a 6)) (C := RX0) (T := TX0) (N := 12) hx hb hts in_X0 hown hK hP 0 rfl rfl 6 (by decide) (hts _ q28) (fun _ h9 => h9) rfl dX0_findQuickest_23 ?_
          refine lv_iload_n hx hb dX0_findQuickest_26 rfl (lv_at hl 1 rfl) ?_
          refine z_iconst hx hb dX0_findQuickest_27 ?_
          refine z_iast hx hb hK hP hD hS 6 0 rfl rfl (by omega) (by decide) (k := i) (by omega) dX0_findQuickest_28 (fun H locs hP hD hS => ?_)
          have hP : va_P D vwCl (wX cI cZ a (n : Int) fr to wd ti fl (va_up qk i 0) (va_up rc i 0) ll wy wt wa) H := hP
          have hD : va_D A (wX cI cZ a (n : Int) fr to wd ti fl (va_up qk i 0) (va_up rc i 0) ll wy wt wa) := hD
          refine lv_aload_n hx hb dX0_findQuickest_29 rfl (lv_at hl 0 rfl) ?_
          refine va_get (D := D) (ci := 0) (v := .ref (a 8)) (C := RX0) (T := TX0) (N := 12) hx hb hts in_X0 hown hK hP 0 rfl rfl 8 (by decide) (hts _ q30) (fun _ h9 => h9) rfl dX0_findQuickest_30 ?_
          refine lv_iload_n hx hb dX0_findQuickest_33 rfl (lv_at hl 1 rfl) ?_
          refine z_iconst hx hb dX0_findQuickest_34 ?_
          refine z_iast hx hb hK hP hD hS 8 0 rfl rfl (by omega) (by decide) (k := i) (by omega) dX0_findQuickest_35 (fun H locs hP hD hS => ?_)
          have hP : va_P D vwCl (wX cI cZ a (n : Int) fr to wd ti fl (va_up qk i 0) (va_up rc i 0) (va_up ll i (-1)) wy wt wa) H := hP
          have hD : va_D A (wX cI cZ a (n : Int) fr to wd ti fl (va_up qk i 0) (va_up rc i 0) (va_up ll i (-1)) wy wt wa) := hD
          refine z_iinc (y := ((i + 1 : Nat) : Int)) (lv' := [(1, .int (zI ((i + 1 : Nat) : Int))), (0, .ref (a 0))]) hx hb dX0_findQuickest_36 hl (k := 1) rfl (by omega) (by decide) rfl (fun ls hl => ?_)
          refine lv_goto (tgt := 2) hx hb dX0_findQuickest_39 (by decide) ?_
          exact ih (i + 1) _ _ _ (by omega) (by omega) (z_ext hrc (by omega)) (z_ext (g := fun _ => 0) hqk rfl) H locs hP hD hS ls (lv_sub hl [1, 0] rfl)
        · refine z_iconst hx hb dX0_findQuickest_16 ?_
          refine lv_goto (tgt := 21) hx hb dX0_findQuickest_17 (by decide) ?_
          refine z_zast hx hb hK hP hD hS 7 1 rfl rfl (by omega) (by omega) (by decide) (k := i) (by omega) dX0_findQuickest_21 (fun H locs hP hD hS => ?_)
          have hP : va_P D vwCl (wX cI cZ a (n : Int) fr to wd ti fl qk (va_up rc i 1) ll wy wt wa) H := hP
          have hD : va_D A (wX cI cZ a (n : Int) fr to wd ti fl qk (va_up rc i 1) ll wy wt wa) := hD
          refine lv_aload_n hx hb dX0_findQuickest_22 rfl (lv_at hl 0 rfl) ?_
          refine va_get (D := D) (ci := 0) (v := .ref (a 6)) (C := RX0) (T := TX0) (N := 12) hx hb hts in_X0 hown hK hP 0 rfl rfl 6 (by decide) (hts _ q28) (fun _ h9 => h9) rfl dX0_findQuickest_23 ?_
          refine lv_iload_n hx hb dX0_findQuickest_26 rfl (lv_at hl 1 rfl) ?_
          refine z_iconst hx hb dX0_findQuickest_27 ?_
          refine z_iast hx hb hK hP hD hS 6 0 rfl rfl (by omega) (by decide) (k := i) (by omega) dX0_findQuickest_28 (fun H locs hP hD hS => ?_)
          have hP : va_P D vwCl (wX cI cZ a (n : Int) fr to wd ti fl (va_up qk i 0) (va_up rc i 1) ll wy wt wa) H := hP
          have hD : va_D A (wX cI cZ a (n : Int) fr to wd ti fl (va_up qk i 0) (va_up rc i 1) ll wy wt wa) := hD
          refine lv_aload_n hx hb dX0_findQuickest_29 rfl (lv_at hl 0 rfl) ?_
          refine va_get (D := D) (ci := 0) (v := .ref (a 8)) (C := RX0) (T := TX0) (N := 12) hx hb hts in_X0 hown hK hP 0 rfl rfl 8 (by decide) (hts _ q30) (fun _ h9 => h9) rfl dX0_findQuickest_30 ?_
          refine lv_iload_n hx hb dX0_findQuickest_33 rfl (lv_at hl 1 rfl) ?_
          refine z_iconst hx hb dX0_findQuickest_34 ?_
          refine z_iast hx hb hK hP hD hS 8 0 rfl rfl (by omega) (by decide) (k := i) (by omega) dX0_findQuickest_35 (fun H locs hP hD hS => ?_)
          have hP : va_P D vwCl (wX cI cZ a (n : Int) fr to wd ti fl (va_up qk i 0) (va_up rc i 1) (va_up ll i (-1)) wy wt wa) H := hP
          have hD : va_D A (wX cI cZ a (n : Int) fr to wd ti fl (va_up qk i 0) (va_up rc i 1) (va_up ll i (-1)) wy wt wa) := hD
          refine z_iinc (y := ((i + 1 : Nat) : Int)) (lv' := [(1, .int (zI ((i + 1 : Nat) : Int))), (0, .ref (a 0))]) hx hb dX0_findQuickest_36 hl (k := 1) rfl (by omega) (by decide) rfl (fun ls hl => ?_)
          refine lv_goto (tgt := 2) hx hb dX0_findQuickest_39 (by decide) ?_
          exact ih (i + 1) _ _ _ (by omega) (by omega) (z_ext hrc (by omega)) (z_ext (g := fun _ => 0) hqk rfl) H locs hP hD hS ls (lv_sub hl [1, 0] rfl)
  have hl : lv_has ls 4 [(0, .ref (a 0))] := hl
  refine z_iconst hx hb dX0_findQuickest_0 ?_
  refine lv_istore_n (lv' := [(1, .int (zI 0)), (0, .ref (a 0))]) hx hb dX0_findQuickest_1 rfl hl (by decide) rfl (fun ls hl => ?_)
  exact L1 6 0 qk rc ll (by omega) (by omega) (fun p hp => absurd hp (by omega)) (fun p hp => absurd hp (by omega)) _ _ hP hD hS ls (lv_sub hl [1, 0] rfl)
end
section
theorem mq_wr {fr to wd fl ll : Nat → Int} {k : Nat} {x y : Int} (h : ∀ i, i < k → mq_it fr to ll i ≠ 0 ∧ x ≤ mq_pR wd fl ll (mq_it fr to ll i)) (h0 : mq_it fr to ll k ≠ 0) (hx : y ≤ x) (hr : y ≤ mq_pR wd fl ll (mq_it fr to ll k)) : ∀ i, i < k + 1 → mq_it fr to ll i ≠ 0 ∧ y ≤ mq_pR wd fl ll (mq_it fr to ll i) := by
  intro i hi
  by_cases e : i = k
  · rw [e]
    exact ⟨h0, hr⟩
  · have := h i (by omega)
    exact ⟨this.1, by omega⟩
set_option maxHeartbeats 8000000 in
set_option maxRecDepth 100000 in
/-- roomOfWay(): what fits on the way to place 4 -/
theorem m_roomOfWay (l : Launch) (D : va_G) (cI cZ : ClassId) (a : Nat → Nat) (sz : Nat) {n : Nat} {fr to wd ti fl qk rc ll : Nat → Int} {wy : Int} {wt wa : Nat → Int} (pt : Nat → Int) (hN : mq_Net n fr to wd ti) (hI : mq_In n wd fl) (hSP : mq_SP n fr to wd ti fl pt qk rc ll) (h4 : rc 4 = 1) :
    zMI l yX0_roomOfWay cX0_roomOfWay 7 (some .int) (zRm 0 0) [.ref (a 0)] D vwCl (zT cI cZ) sz (wX cI cZ a (n : Int) fr to wd ti fl qk rc ll wy wt wa)
      (fun r (u : Unit) => ∃ am : Int, r = zI am ∧ mq_Way fr to wd fl ll am) (fun u => wX cI cZ a n fr to wd ti fl qk rc ll wy wt wa) := by
  refine z_metI (by decide) (Nat.le_of_ble_eq_true rfl) ?_
  intro p e s m below meth c A ls hG
  obtain ⟨hx, hb, hr, hlocks, hml, hown, hts, hP, hK, hD, hS, hA, hl⟩ := hG
  have hown : s.vm.findClass RX0 = some m.cls := hown
  have hn8 := hN.1
  obtain ⟨-, -, -, -, -, dp, hd1, hd2⟩ := id hSP
  have L1 : ∀ (g k P : Nat) (x : Int), k + g = 6 → k ≤ 5 → P = mq_it fr to ll k → P < 5 → rc P = 1 → dp P + k ≤ 4 → 1 ≤ x → x ≤ 100 → (∀ i, i < k → mq_it fr to ll i ≠ 0 ∧ x ≤ mq_pR wd fl ll (mq_it fr to ll i)) → (0 < k → x ≤ 5) → ∀ (H : Heap) (locs : List Loc), va_P D vwCl (wX cI cZ a (n : Int) fr to wd ti fl qk rc ll wy wt wa) H → va_D A (wX cI cZ a (n : Int) fr to wd ti fl qk rc ll wy wt wa) → va_S A s.heap H locs → ∀ (ls : Array Slot), lv_has ls 7 [(0, .ref (a 0)), (1, .int (zI x)), (2, .int (zI (P : Int))), (3, .int (zI (k : Int)))] → W p l e (zRm 0 0) s m ([.ref (a 0)] : List Value).toArray below meth c H locs 0 0 (MQ below (zQi D vwCl (zT cI cZ) (fun r (u : Unit) => ∃ am : Int, r = zI am ∧ mq_Way fr to wd fl ll am) (fun u => wX cI cZ a n fr to wd ti fl qk rc ll wy wt wa) A) ([.ref (a 0)] : List Value).toArray s 0 0 A) (F0 m 7 ls []) := by
    intro g
    induction g with
    | zero => intro k P x h1 h2; omega
    | succ g ih =>
      intro k P x hkg hk5 hPe hP5 hPr hdk hx1 hx100 hall hx5 H locs hP hD hS ls hl
      refine lv_iload_n hx hb dX0_roomOfWay_7 rfl (lv_at hl 3 rfl) ?_
      refine z_iconst hx hb dX0_roomOfWay_8 ?_
      refine z_icmp_ge (tgt := 133) hx hb dX0_roomOfWay_9 (by decide) (by omega) (by omega) (fun c_9 => absurd c_9 (by omega)) (fun c_9 => ?_)
      refine lv_iload_n hx hb dX0_roomOfWay_12 rfl (lv_at hl 2 rfl) ?_
      refine z_if_eq (tgt := 133) hx hb dX0_roomOfWay_13 (by decide) (by omega) (fun c_13 => ?_) (fun c_13 => ?_)
      · refine lv_iload_n hx hb dX0_roomOfWay_133 rfl (lv_at hl 1 rfl) ?_
        have e0 : P = 0 := by omega
        have hk0 : 0 < k := Nat.pos_of_ne_zero (fun q => by rw [q] at hPe; have : P = 4 := hPe; omega)
        exact z_iret hx hb hr hlocks (v := x) () hS hP hK hD ⟨x, rfl, k, by omega, by omega, hall, hx1, hx5 hk0⟩ dX0_roomOfWay_134
      · obtain ⟨j, b, g1, g2, g3, g4, g5, g6, g7⟩ := hd2 P hP5 (by omega) hPr
        have hj8 := hN.2.1 j (by omega)
        have hw5 := hN.2.2.1 j g1
        have hIj := hI j g1
        have hpr : mq_it fr to ll (k + 1) = mq_aS fr to j b := by show mq_pr fr to ll (mq_it fr to ll k) = _; rw [← hPe]; exact mq_pr_eq (by omega) g2
        have hpR : mq_pR wd fl ll (mq_it fr to ll k) = mq_aR wd fl j b := by rw [← hPe]; exact mq_pR_eq (by omega) g2
        have hit0 : mq_it fr to ll k ≠ 0 := by omega
        cases b
        · have hll : ll P = (j : Int) := g2
          have hpr : mq_it fr to ll (k + 1) = (fr j).toNat := hpr
          have hpR : mq_pR wd fl ll (mq_it fr to ll k) = wd j - fl j := hpR
          have g4 : 0 < wd j - fl j := g4
          have g5 : rc (fr j).toNat = 1 := g5
          have g7 : dp (fr j).toNat < dp P := g7
          refine lv_aload_n hx hb dX0_roomOfWay_16 rfl (lv_at hl 0 rfl) ?_
          refine va_get (D := D) (ci := 0) (v := .ref (a 8)) (C := RX0) (T := TX0) (N := 12) hx hb hts in_X0 hown hK hP 0 rfl rfl 8 (by decide) (hts _ q30) (fun _ h9 => h9) rfl dX0_roomOfWay_17 ?_
          refine lv_iload_n hx hb dX0_roomOfWay_20 rfl (lv_at hl 2 rfl) ?_
          refine z_iald hx hb hK hP 8 0 rfl rfl (by omega) (by decide) (v := (j : Int)) hll dX0_roomOfWay_21 ?_
          refine z_bipush hx hb dX0_roomOfWay_22 (by decide) ?_
          refine z_icmp_lt (tgt := 31) hx hb dX0_roomOfWay_24 (by decide) (by omega) (by omega) (fun c_24 => ?_) (fun c_24 => absurd c_24 (by omega))
          refine z_iconst hx hb dX0_roomOfWay_31 ?_
          refine lv_istore (lv' := [(4, .int (zI 0)), (0, .ref (a 0)), (1, .int (zI x)), (2, .int (zI (P : Int))), (3, .int (zI (k : Int)))]) hx hb dX0_roomOfWay_32 hl (by decide) rfl (fun ls hl => ?_)
          refine lv_iload hx hb dX0_roomOfWay_34 (lv_at hl 0 rfl) ?_
          refine z_if_eq (tgt := 51) hx hb dX0_roomOfWay_36 (by decide) (by omega) (fun c_36 => ?_) (fun c_36 => absurd c_36 (by omega))
          refine lv_aload_n hx hb dX0_roomOfWay_51 rfl (lv_at hl 1 rfl) ?_
          refine va_get (D := D) (ci := 0) (v := .ref (a 8)) (C := RX0) (T := TX0) (N := 12) hx hb hts in_X0 hown hK hP 0 rfl rfl 8 (by decide) (hts _ q30) (fun _ h9 => h9) rfl dX0_roomOfWay_52 ?_
          refine lv_iload_n hx hb dX0_roomOfWay_55 rfl (lv_at hl 3 rfl) ?_
          refine z_iald hx hb hK hP 8 0 rfl rfl (by omega) (by decide) (v := (j : Int)) hll dX0_roomOfWay_56 ?_
          refine lv_istore (lv' := [(5, .int (zI (j : Int))), (4, .int (zI 0)), (0, .ref (a 0)), (1, .int (zI x)), (2, .int (zI (P : Int))), (3, .int (zI (k : Int)))]) hx hb dX0_roomOfWay_57 hl (by decide) rfl (fun ls hl => ?_)
          refine lv_iload hx hb dX0_roomOfWay_59 (lv_at hl 1 rfl) ?_
          refine z_if_eq (tgt := 74) hx hb dX0_roomOfWay_61 (by decide) (by omega) (fun c_61 => ?_) (fun c_61 => absurd c_61 (by omega))
          refine lv_aload_n hx hb dX0_roomOfWay_74 rfl (lv_at hl 2 rfl) ?_
          refine va_get (D := D) (ci := 0) (v := .ref (a 3)) (C := RX0) (T := TX0) (N := 12) hx hb hts in_X0 hown hK hP 0 rfl rfl 3 (by decide) (hts _ q25) (fun _ h9 => h9) rfl dX0_roomOfWay_75 ?_
          refine lv_iload hx hb dX0_roomOfWay_78 (lv_at hl 0 rfl) ?_
          refine z_iald hx hb hK hP 3 0 rfl rfl (by omega) (by decide) (v := wd j) (congrArg _ (show ((j : Int) : Int).toNat = j by omega)) dX0_roomOfWay_80 ?_
          refine lv_aload_n hx hb dX0_roomOfWay_81 rfl (lv_at hl 2 rfl) ?_
          refine va_get (D := D) (ci := 0) (v := .ref (a 5)) (C := RX0) (T := TX0) (N := 12) hx hb hts in_X0 hown hK hP 0 rfl rfl 5 (by decide) (hts _ q27) (fun _ h9 => h9) rfl dX0_roomOfWay_82 ?_
          refine lv_iload hx hb dX0_roomOfWay_85 (lv_at hl 0 rfl) ?_
          refine z_iald hx hb hK hP 5 0 rfl rfl (by omega) (by decide) (v := fl j) (congrArg _ (show ((j : Int) : Int).toNat = j by omega)) dX0_roomOfWay_87 ?_
          refine z_isub hx hb dX0_roomOfWay_88 ?_
          refine lv_istore (lv' := [(6, .int (zI ((wd j) - (fl j)))), (5, .int (zI (j : Int))), (4, .int (zI 0)), (0, .ref (a 0)), (1, .int (zI x)), (2, .int (zI (P : Int))), (3, .int (zI (k : Int)))]) hx hb dX0_roomOfWay_89 hl (by decide) rfl (fun ls hl => ?_)
          refine lv_iload hx hb dX0_roomOfWay_91 (lv_at hl 0 rfl) ?_
          refine lv_iload_n hx hb dX0_roomOfWay_93 rfl (lv_at hl 4 rfl) ?_
          refine z_icmp_ge (tgt := 102) hx hb dX0_roomOfWay_94 (by decide) (by omega) (by omega) (fun c_94 => ?_) (fun c_94 => ?_)
          · refine lv_iload_n hx hb dX0_roomOfWay_102 rfl (lv_at hl 4 rfl) ?_
            refine lv_istore_n (lv' := [(1, .int (zI x)), (6, .int (zI ((wd j) - (fl j)))), (5, .int (zI (j : Int))), (4, .int (zI 0)), (0, .ref (a 0)), (2, .int (zI (P : Int))), (3, .int (zI (k : Int)))]) hx hb dX0_roomOfWay_103 rfl hl (by decide) rfl (fun ls hl => ?_)
            refine lv_iload hx hb dX0_roomOfWay_104 (lv_at hl 3 rfl) ?_
            refine z_if_eq (tgt := 119) hx hb dX0_roomOfWay_106 (by decide) (by omega) (fun c_106 => ?_) (fun c_106 => absurd c_106 (by omega))
            refine lv_aload_n hx hb dX0_roomOfWay_119 rfl (lv_at hl 4 rfl) ?_
            refine va_get (D := D) (ci := 0) (v := .ref (a 1)) (C := RX0) (T := TX0) (N := 12) hx hb hts in_X0 hown hK hP 0 rfl rfl 1 (by decide) (hts _ q23) (fun _ h9 => h9) rfl dX0_roomOfWay_120 ?_
            refine lv_iload hx hb dX0_roomOfWay_123 (lv_at hl 2 rfl) ?_
            refine z_iald hx hb hK hP 1 0 rfl rfl (by omega) (by decide) (v := fr j) (congrArg _ (show ((j : Int) : Int).toNat = j by omega)) dX0_roomOfWay_125 ?_
            refine z_top (y := (((fr j).toNat : Nat) : Int)) (by omega) ?_
            refine lv_istore_n (lv' := [(2, .int (zI (((fr j).toNat : Nat) : Int))), (1, .int (zI x)), (6, .int (zI ((wd j) - (fl j)))), (5, .int (zI (j : Int))), (4, .int (zI 0)), (0, .ref (a 0)), (3, .int (zI (k : Int)))]) hx hb dX0_roomOfWay_126 rfl hl (by decide) rfl (fun ls hl => ?_)
            refine z_iinc (y := ((k + 1 : Nat) : Int)) (lv' := [(3, .int (zI ((k + 1 : Nat) : Int))), (2, .int (zI (((fr j).toNat : Nat) : Int))), (1, .int (zI x)), (6, .int (zI ((wd j) - (fl j)))), (5, .int (zI (j : Int))), (4, .int (zI 0)), (0, .ref (a 0))]) hx hb dX0_roomOfWay_127 hl (k := 6) rfl (by omega) (by decide) rfl (fun ls hl => ?_)
            refine lv_goto (tgt := 7) hx hb dX0_roomOfWay_130 (by decide) ?_
            exact ih (k + 1) ((fr j).toNat) (x) (by omega) (by omega) hpr.symm (by omega) g5 (by omega) (by omega) (by omega) (mq_wr hall hit0 (by omega) (by omega)) (fun _ => by omega) H locs hP hD hS ls (lv_sub hl [6, 2, 1, 0] rfl)
          · refine lv_iload hx hb dX0_roomOfWay_97 (lv_at hl 0 rfl) ?_
            refine lv_goto (tgt := 103) hx hb dX0_roomOfWay_99 (by decide) ?_
            refine lv_istore_n (lv' := [(1, .int (zI ((wd j) - (fl j)))), (6, .int (zI ((wd j) - (fl j)))), (5, .int (zI (j : Int))), (4, .int (zI 0)), (0, .ref (a 0)), (2, .int (zI (P : Int))), (3, .int (zI (k : Int)))]) hx hb dX0_roomOfWay_103 rfl hl (by decide) rfl (fun ls hl => ?_)
            refine lv_iload hx hb dX0_roomOfWay_104 (lv_at hl 3 rfl) ?_
            refine z_if_eq (tgt := 119) hx hb dX0_roomOfWay_106 (by decide) (by omega) (fun c_106 => ?_) (fun c_106 => absurd c_106 (by omega))
            refine lv_aload_n hx hb dX0_roomOfWay_119 rfl (lv_at hl 4 rfl) ?_
            refine va_get (D := D) (ci := 0) (v := .ref (a 1)) (C := RX0) (T := TX0) (N := 12) hx hb hts in_X0 hown hK hP 0 rfl rfl 1 (by decide) (hts _ q23) (fun _ h9 => h9) rfl dX0_roomOfWay_120 ?_
            refine lv_iload hx hb dX0_roomOfWay_123 (lv_at hl 2 rfl) ?_
            refine z_iald hx hb hK hP 1 0 rfl rfl (by omega) (by decide) (v := fr j) (congrArg _ (show ((j : Int) : Int).toNat = j by omega)) dX0_roomOfWay_125 ?_
            refine z_top (y := (((fr j).toNat : Nat) : Int)) (by omega) ?_
            refine lv_istore_n (lv' := [(2, .int (zI (((fr j).toNat : Nat) : Int))), (1, .int (zI ((wd j) - (fl j)))), (6, .int (zI ((wd j) - (fl j)))), (5, .int (zI (j : Int))), (4, .int (zI 0)), (0, .ref (a 0)), (3, .int (zI (k : Int)))]) hx hb dX0_roomOfWay_126 rfl hl (by decide) rfl (fun ls hl => ?_)
            refine z_iinc (y := ((k + 1 : Nat) : Int)) (lv' := [(3, .int (zI ((k + 1 : Nat) : Int))), (2, .int (zI (((fr j).toNat : Nat) : Int))), (1, .int (zI ((wd j) - (fl j)))), (6, .int (zI ((wd j) - (fl j)))), (5, .int (zI (j : Int))), (4, .int (zI 0)), (0, .ref (a 0))]) hx hb dX0_roomOfWay_127 hl (k := 6) rfl (by omega) (by decide) rfl (fun ls hl => ?_)
            refine lv_goto (tgt := 7) hx hb dX0_roomOfWay_130 (by decide) ?_
            exact ih (k + 1) ((fr j).toNat) ((wd j) - (fl j)) (by omega) (by omega) hpr.symm (by omega) g5 (by omega) (by omega) (by omega) (mq_wr hall hit0 (by omega) (by omega)) (fun _ => by omega) H locs hP hD hS ls (lv_sub hl [6, 2, 1, 0] rfl)
        · have hll : ll P = (j : Int) + 8 := g2
          have hpr : mq_it fr to ll (k + 1) = (to j).toNat := hpr
          have hpR : mq_pR wd fl ll (mq_it fr to ll k) = fl j := hpR
          have g4 : 0 < fl j := g4
          have g5 : rc (to j).toNat = 1 := g5
          have g7 : dp (to j).toNat < dp P := g7
          refine lv_aload_n hx hb dX0_roomOfWay_16 rfl (lv_at hl 0 rfl) ?_
          refine va_get (D := D) (ci := 0) (v := .ref (a 8)) (C := RX0) (T := TX0) (N := 12) hx hb hts in_X0 hown hK hP 0 rfl rfl 8 (by decide) (hts _ q30) (fun _ h9 => h9) rfl dX0_roomOfWay_17 ?_
          refine lv_iload_n hx hb dX0_roomOfWay_20 rfl (lv_at hl 2 rfl) ?_
          refine z_iald hx hb hK hP 8 0 rfl rfl (by omega) (by decide) (v := (j : Int) + 8) hll dX0_roomOfWay_21 ?_
          refine z_bipush hx hb dX0_roomOfWay_22 (by decide) ?_
          refine z_icmp_lt (tgt := 31) hx hb dX0_roomOfWay_24 (by decide) (by omega) (by omega) (fun c_24 => absurd c_24 (by omega)) (fun c_24 => ?_)
          refine z_iconst hx hb dX0_roomOfWay_27 ?_
          refine lv_goto (tgt := 32) hx hb dX0_roomOfWay_28 (by decide) ?_
          refine lv_istore (lv' := [(4, .int (zI 1)), (0, .ref (a 0)), (1, .int (zI x)), (2, .int (zI (P : Int))), (3, .int (zI (k : Int)))]) hx hb dX0_roomOfWay_32 hl (by decide) rfl (fun ls hl => ?_)
          refine lv_iload hx hb dX0_roomOfWay_34 (lv_at hl 0 rfl) ?_
          refine z_if_eq (tgt := 51) hx hb dX0_roomOfWay_36 (by decide) (by omega) (fun c_36 => absurd c_36 (by omega)) (fun c_36 => ?_)
          refine lv_aload_n hx hb dX0_roomOfWay_39 rfl (lv_at hl 1 rfl) ?_
          refine va_get (D := D) (ci := 0) (v := .ref (a 8)) (C := RX0) (T := TX0) (N := 12) hx hb hts in_X0 hown hK hP 0 rfl rfl 8 (by decide) (hts _ q30) (fun _ h9 => h9) rfl dX0_roomOfWay_40 ?_
          refine lv_iload_n hx hb dX0_roomOfWay_43 rfl (lv_at hl 3 rfl) ?_
          refine z_iald hx hb hK hP 8 0 rfl rfl (by omega) (by decide) (v := (j : Int) + 8) hll dX0_roomOfWay_44 ?_
          refine z_bipush hx hb dX0_roomOfWay_45 (by decide) ?_
          refine z_isub hx hb dX0_roomOfWay_47 ?_
          refine z_top (y := (j : Int)) (by omega) ?_
          refine lv_goto (tgt := 57) hx hb dX0_roomOfWay_48 (by decide) ?_
          refine lv_istore (lv' := [(5, .int (zI (j : Int))), (4, .int (zI 1)), (0, .ref (a 0)), (1, .int (zI x)), (2, .int (zI (P : Int))), (3, .int (zI (k : Int)))]) hx hb dX0_roomOfWay_57 hl (by decide) rfl (fun ls hl => ?_)
          refine lv_iload hx hb dX0_roomOfWay_59 (lv_at hl 1 rfl) ?_
          refine z_if_eq (tgt := 74) hx hb dX0_roomOfWay_61 (by decide) (by omega) (fun c_61 => absurd c_61 (by omega)) (fun c_61 => ?_)
          refine lv_aload_n hx hb dX0_roomOfWay_64 rfl (lv_at hl 2 rfl) ?_
          refine va_get (D := D) (ci := 0) (v := .ref (a 5)) (C := RX0) (T := TX0) (N := 12) hx hb hts in_X0 hown hK hP 0 rfl rfl 5 (by decide) (hts _ q27) (fun _ h9 => h9) rfl dX0_roomOfWay_65 ?_
          refine lv_iload hx hb dX0_roomOfWay_68 (lv_at hl 0 rfl) ?_
          refine z_iald hx hb hK hP 5 0 rfl rfl (by omega) (by decide) (v := fl j) (congrArg _ (show ((j : Int) : Int).toNat = j by omega)) dX0_roomOfWay_70 ?_
          refine lv_goto (tgt := 89) hx hb dX0_roomOfWay_71 (by decide) ?_
          refine lv_istore (lv' := [(6, .int (zI (fl j))), (5, .int (zI (j : Int))), (4, .int (zI 1)), (0, .ref (a 0)), (1, .int (zI x)), (2, .int (zI (P : Int))), (3, .int (zI (k : Int)))]) hx hb dX0_roomOfWay_89 hl (by decide) rfl (fun ls hl => ?_)
          refine lv_iload hx hb dX0_roomOfWay_91 (lv_at hl 0 rfl) ?_
          refine lv_iload_n hx hb dX0_roomOfWay_93 rfl (lv_at hl 4 rfl) ?_
          refine z_icmp_ge (tgt := 102) hx hb dX0_roomOfWay_94 (by decide) (by omega) (by omega) (fun c_94 => ?_) (fun c_94 => ?_)
          · refine lv_iload_n hx hb dX0_roomOfWay_102 rfl (lv_at hl 4 rfl) ?_
            refine lv_istore_n (lv' := [(1, .int (zI x)), (6, .int (zI (fl j))), (5, .int (zI (j : Int))), (4, .int (zI 1)), (0, .ref (a 0)), (2, .int (zI (P : Int))), (3, .int (zI (k : Int)))]) hx hb dX0_roomOfWay_103 rfl hl (by decide) rfl (fun ls hl => ?_)
            refine lv_iload hx hb dX0_roomOfWay_104 (lv_at hl 3 rfl) ?_
            refine z_if_eq (tgt := 119) hx hb dX0_roomOfWay_106 (by decide) (by omega) (fun c_106 => absurd c_106 (by omega)) (fun c_106 => ?_)
            refine lv_aload_n hx hb dX0_roomOfWay_109 rfl (lv_at hl 4 rfl) ?_
            refine va_get (D := D) (ci := 0) (v := .ref (a 2)) (C := RX0) (T := TX0) (N := 12) hx hb hts in_X0 hown hK hP 0 rfl rfl 2 (by decide) (hts _ q24) (fun _ h9 => h9) rfl dX0_roomOfWay_110 ?_
            refine lv_iload hx hb dX0_roomOfWay_113 (lv_at hl 2 rfl) ?_
            refine z_iald hx hb hK hP 2 0 rfl rfl (by omega) (by decide) (v := to j) (congrArg _ (show ((j : Int) : Int).toNat = j by omega)) dX0_roomOfWay_115 ?_
            refine z_top (y := (((to j).toNat : Nat) : Int)) (by omega) ?_
            refine lv_goto (tgt := 126) hx hb dX0_roomOfWay_116 (by decide) ?_
            refine lv_istore_n (lv' := [(2, .int (zI (((to j).toNat : Nat) : Int))), (1, .int (zI x)), (6, .int (zI (fl j))), (5, .int (zI (j : Int))), (4, .int (zI 1)), (0, .ref (a 0)), (3, .int (zI (k : Int)))]) hx hb dX0_roomOfWay_126 rfl hl (by decide) rfl (fun ls hl => ?_)
            refine z_iinc (y := ((k + 1 : Nat) : Int)) (lv' := [(3, .int (zI ((k + 1 : Nat) : Int))), (2, .int (zI (((to j).toNat : Nat) : Int))), (1, .int (zI x)), (6, .int (zI (fl j))), (5, .int (zI (j : Int))), (4, .int (zI 1)), (0, .ref (a 0))]) hx hb dX0_roomOfWay_127 hl (k := 6) rfl (by omega) (by decide) rfl (fun ls hl => ?_)
            refine lv_goto (tgt := 7) hx hb dX0_roomOfWay_130 (by decide) ?_
            exact ih (k + 1) ((to j).toNat) (x) (by omega) (by omega) hpr.symm (by omega) g5 (by omega) (by omega) (by omega) (mq_wr hall hit0 (by omega) (by omega)) (fun _ => by omega) H locs hP hD hS ls (lv_sub hl [6, 2, 1, 0] rfl)
          · refine lv_iload hx hb dX0_roomOfWay_97 (lv_at hl 0 rfl) ?_
            refine lv_goto (tgt := 103) hx hb dX0_roomOfWay_99 (by decide) ?_
            refine lv_istore_n (lv' := [(1, .int (zI (fl j))), (6, .int (zI (fl j))), (5, .int (zI (j : Int))), (4, .int (zI 1)), (0, .ref (a 0)), (2, .int (zI (P : Int))), (3, .int (zI (k : Int)))]) hx hb dX0_roomOfWay_103 rfl hl (by decide) rfl (fun ls hl => ?_)
            refine lv_iload hx hb dX0_roomOfWay_104 (lv_at hl 3 rfl) ?_
            refine z_if_eq (tgt := 119) hx hb dX0_roomOfWay_106 (by decide) (by omega) (fun c_106 => absurd c_106 (by omega)) (fun c_106 => ?_)
            refine lv_aload_n hx hb dX0_roomOfWay_109 rfl (lv_at hl 4 rfl) ?_
            refine va_get (D := D) (ci := 0) (v := .ref (a 2)) (C := RX0) (T := TX0) (N := 12) hx hb hts in_X0 hown hK hP 0 rfl rfl 2 (by decide) (hts _ q24) (fun _ h9 => h9) rfl dX0_roomOfWay_110 ?_
            refine lv_iload hx hb dX0_roomOfWay_113 (lv_at hl 2 rfl) ?_
            refine z_iald hx hb hK hP 2 0 rfl rfl (by omega) (by decide) (v := to j) (congrArg _ (show ((j : Int) : Int).toNat = j by omega)) dX0_roomOfWay_115 ?_
            refine z_top (y := (((to j).toNat : Nat) : Int)) (by omega) ?_
            refine lv_goto (tgt := 126) hx hb dX0_roomOfWay_116 (by decide) ?_
            refine lv_istore_n (lv' := [(2, .int (zI (((to j).toNat : Nat) : Int))), (1, .int (zI (fl j))), (6, .int (zI (fl j))), (5, .int (zI (j : Int))), (4, .int (zI 1)), (0, .ref (a 0)), (3, .int (zI (k : Int)))]) hx hb dX0_roomOfWay_126 rfl hl (by decide) rfl (fun ls hl => ?_)
            refine z_iinc (y := ((k + 1 : Nat) : Int)) (lv' := [(3, .int (zI ((k + 1 : Nat) : Int))), (2, .int (zI (((to j).toNat : Nat) : Int))), (1, .int (zI (fl j))), (6, .int (zI (fl j))), (5, .int (zI (j : Int))), (4, .int (zI 1)), (0, .ref (a 0))]) hx hb dX0_roomOfWay_127 hl (k := 6) rfl (by omega) (by decide) rfl (fun ls hl => ?_)
            refine lv_goto (tgt := 7) hx hb dX0_roomOfWay_130 (by decide) ?_
            exact ih (k + 1) ((to j).toNat) (fl j) (by omega) (by omega) hpr.symm (by omega) g5 (by omega) (by omega) (by omega) (mq_wr hall hit0 (by omega) (by omega)) (fun _ => by omega) H locs hP hD hS ls (lv_sub hl [6, 2, 1, 0] rfl)
  have hl : lv_has ls 7 [(0, .ref (a 0))] := hl
  refine z_bipush hx hb dX0_roomOfWay_0 (by decide) ?_
  refine lv_istore_n (lv' := [(1, .int (zI 100)), (0, .ref (a 0))]) hx hb dX0_roomOfWay_2 rfl hl (by decide) rfl (fun ls hl => ?_)
  refine z_iconst hx hb dX0_roomOfWay_3 ?_
  refine lv_istore_n (lv' := [(2, .int (zI 4)), (1, .int (zI 100)), (0, .ref (a 0))]) hx hb dX0_roomOfWay_4 rfl hl (by decide) rfl (fun ls hl => ?_)
  refine z_iconst hx hb dX0_roomOfWay_5 ?_
  refine lv_istore_n (lv' := [(3, .int (zI 0)), (2, .int (zI 4)), (1, .int (zI 100)), (0, .ref (a 0))]) hx hb dX0_roomOfWay_6 rfl hl (by decide) rfl (fun ls hl => ?_)
  exact L1 6 0 4 100 (by omega) (by omega) rfl (by omega) h4 (by have := hd1 4 (by omega); omega) (by omega) (by omega) (fun i hi => absurd hi (by omega)) (fun h => absurd h (by omega)) _ _ hP hD hS ls (lv_sub hl [3, 2, 1, 0] rfl)
end
section
set_option maxHeartbeats 8000000 in
set_option maxRecDepth 100000 in
/-- send(amount): along the way to place 4 -/
theorem m_send (l : Launch) (D : va_G) (cI cZ : ClassId) (a : Nat → Nat) (sz : Nat) {n : Nat} {fr to wd ti fl qk rc ll : Nat → Int} {wy : Int} {wt wa : Nat → Int} (pt : Nat → Int) (am : Int) (hN : mq_Net n fr to wd ti) (hI : mq_In n wd fl) (hSP : mq_SP n fr to wd ti fl pt qk rc ll) (h4 : rc 4 = 1) (hW : mq_Way fr to wd fl ll am) :
    zMV l yX0_send cX0_send 6 (zRm 0 0) [.ref (a 0), .int (zI am)] D vwCl (zT cI cZ) sz (wX cI cZ a (n : Int) fr to wd ti fl qk rc ll wy wt wa)
      (fun (u : Nat → Int) => ∃ (dp : Nat → Nat) (K : Nat), mq_it fr to ll K = 0 ∧ mq_SI n fr to wd ti fl qk rc ll dp am K u) (fun u => wX cI cZ a n fr to wd ti u qk rc ll wy wt wa) := by
  refine z_metV (by decide) (Nat.le_of_ble_eq_true rfl) ?_
  intro p e s m below meth c A ls hG
  obtain ⟨hx, hb, hr, hlocks, hml, hown, hts, hP, hK, hD, hS, hA, hl⟩ := hG
  have hown : s.vm.findClass RX0 = some m.cls := hown
  have hn8 := hN.1
  obtain ⟨-, -, -, -, -, dp, hd1, hd2⟩ := id hSP
  obtain ⟨K, hK4, hK0, hKa, ha1, ha5⟩ := hW
  have L1 : ∀ (g k P : Nat) (f1 : Nat → Int), k + g = 6 → k ≤ K → P = mq_it fr to ll k → P < 5 → rc P = 1 → mq_SI n fr to wd ti fl qk rc ll dp am k f1 → ∀ (H : Heap) (locs : List Loc), va_P D vwCl (wX cI cZ a (n : Int) fr to wd ti f1 qk rc ll wy wt wa) H → va_D A (wX cI cZ a (n : Int) fr to wd ti f1 qk rc ll wy wt wa) → va_S A s.heap H locs → ∀ (ls : Array Slot), lv_has ls 6 [(0, .ref (a 0)), (1, .int (zI am)), (2, .int (zI (P : Int))), (3, .int (zI (k : Int)))] → W p l e (zRm 0 0) s m ([.ref (a 0), .int (zI am)] : List Value).toArray below meth c H locs 0 0 (MQ below (zQv D vwCl (zT cI cZ) (fun (u : Nat → Int) => ∃ (dp : Nat → Nat) (K : Nat), mq_it fr to ll K = 0 ∧ mq_SI n fr to wd ti fl qk rc ll dp am K u) (fun u => wX cI cZ a n fr to wd ti u qk rc ll wy wt wa) A) ([.ref (a 0), .int (zI am)] : List Value).toArray s 0 0 A) (F0 m 4 ls []) := by
    intro g
    induction g with
    | zero => intro k P f1 h1 h2; omega
    | succ g ih =>
      intro k P f1 hkg hkK hPe hP5 hPr hSI H locs hP hD hS ls hl
      refine lv_iload_n hx hb dX0_send_4 rfl (lv_at hl 3 rfl) ?_
      refine z_iconst hx hb dX0_send_5 ?_
      refine z_icmp_ge (tgt := 106) hx hb dX0_send_6 (by decide) (by omega) (by omega) (fun c_6 => absurd c_6 (by omega)) (fun c_6 => ?_)
      refine lv_iload_n hx hb dX0_send_9 rfl (lv_at hl 2 rfl) ?_
      refine z_if_eq (tgt := 106) hx hb dX0_send_10 (by decide) (by omega) (fun c_10 => ?_) (fun c_10 => ?_)
      · have e0 : k = K := by rcases Nat.lt_or_ge k K with q | q; exact absurd (hKa k q).1 (by omega); omega
        subst e0
        exact z_vret hx hb hr hlocks f1 hS hP hK hD ⟨dp, k, hK0, hSI⟩ dX0_send_106
      · have hkl : k < K := by rcases Nat.lt_or_ge k K with q | q; exact q; exact absurd hK0 (by rw [← Nat.le_antisymm hkK q]; omega)
        obtain ⟨j, b, g1, g2, g3, g4, g5, g6, g7⟩ := hd2 P hP5 (by omega) hPr
        have hj8 := hN.2.1 j (by omega)
        have hw5 := hN.2.2.1 j g1
        have hIj := hSI.1 j g1
        have hpr : mq_it fr to ll (k + 1) = mq_aS fr to j b := by show mq_pr fr to ll (mq_it fr to ll k) = _; rw [← hPe]; exact mq_pr_eq (by omega) g2
        have hSI2 := mq_SI_s hN hd2 hSI (by omega) (by omega) (by rw [← hPe]; exact hPr) (hKa k hkl).2 ha1 g1 (by rw [← hPe]; exact g2)
        cases b
        · have hll : ll P = (j : Int) := g2
          have hpr : mq_it fr to ll (k + 1) = (fr j).toNat := hpr
          have hSI2 : mq_SI n fr to wd ti fl qk rc ll dp am (k + 1) (va_up f1 j (f1 j + am)) := hSI2
          have g5 : rc (fr j).toNat = 1 := g5
          refine lv_aload_n hx hb dX0_send_13 rfl (lv_at hl 0 rfl) ?_
          refine va_get (D := D) (ci := 0) (v := .ref (a 8)) (C := RX0) (T := TX0) (N := 12) hx hb hts in_X0 hown hK hP 0 rfl rfl 8 (by decide) (hts _ q30) (fun _ h9 => h9) rfl dX0_send_14 ?_
          refine lv_iload_n hx hb dX0_send_17 rfl (lv_at hl 2 rfl) ?_
          refine z_iald hx hb hK hP 8 0 rfl rfl (by omega) (by decide) (v := (j : Int)) hll dX0_send_18 ?_
          refine z_bipush hx hb dX0_send_19 (by decide) ?_
          refine z_icmp_lt (tgt := 28) hx hb dX0_send_21 (by decide) (by omega) (by omega) (fun c_21 => ?_) (fun c_21 => absurd c_21 (by omega))
          refine z_iconst hx hb dX0_send_28 ?_
          refine lv_istore (lv' := [(4, .int (zI 0)), (0, .ref (a 0)), (1, .int (zI am)), (2, .int (zI (P : Int))), (3, .int (zI (k : Int)))]) hx hb dX0_send_29 hl (by decide) rfl (fun ls hl => ?_)
          refine lv_iload hx hb dX0_send_31 (lv_at hl 0 rfl) ?_
          refine z_if_eq (tgt := 48) hx hb dX0_send_33 (by decide) (by omega) (fun c_33 => ?_) (fun c_33 => absurd c_33 (by omega))
          refine lv_aload_n hx hb dX0_send_48 rfl (lv_at hl 1 rfl) ?_
          refine va_get (D := D) (ci := 0) (v := .ref (a 8)) (C := RX0) (T := TX0) (N := 12) hx hb hts in_X0 hown hK hP 0 rfl rfl 8 (by decide) (hts _ q30) (fun _ h9 => h9) rfl dX0_send_49 ?_
          refine lv_iload_n hx hb dX0_send_52 rfl (lv_at hl 3 rfl) ?_
          refine z_iald hx hb hK hP 8 0 rfl rfl (by omega) (by decide) (v := (j : Int)) hll dX0_send_53 ?_
          refine lv_istore (lv' := [(5, .int (zI (j : Int))), (4, .int (zI 0)), (0, .ref (a 0)), (1, .int (zI am)), (2, .int (zI (P : Int))), (3, .int (zI (k : Int)))]) hx hb dX0_send_54 hl (by decide) rfl (fun ls hl => ?_)
          refine lv_aload_n hx hb dX0_send_56 rfl (lv_at hl 2 rfl) ?_
          refine va_get (D := D) (ci := 0) (v := .ref (a 5)) (C := RX0) (T := TX0) (N := 12) hx hb hts in_X0 hown hK hP 0 rfl rfl 5 (by decide) (hts _ q27) (fun _ h9 => h9) rfl dX0_send_57 ?_
          refine lv_iload hx hb dX0_send_60 (lv_at hl 0 rfl) ?_
          refine lv_dup2_11 hx hb dX0_send_62 rfl rfl ?_
          refine z_iald hx hb hK hP 5 0 rfl rfl (by omega) (by decide) (v := f1 j) (congrArg _ (show ((j : Int) : Int).toNat = j by omega)) dX0_send_63 ?_
          refine lv_iload hx hb dX0_send_64 (lv_at hl 1 rfl) ?_
          refine z_if_eq (tgt := 74) hx hb dX0_send_66 (by decide) (by omega) (fun c_66 => ?_) (fun c_66 => absurd c_66 (by omega))
          refine lv_iload_n hx hb dX0_send_74 rfl (lv_at hl 3 rfl) ?_
          refine z_iadd hx hb dX0_send_75 ?_
          refine z_top (y := f1 j + am) (by omega) ?_
          refine z_iast hx hb hK hP hD hS 5 0 rfl rfl (by omega) (by decide) (k := j) (by omega) dX0_send_76 (fun H locs hP hD hS => ?_)
          have hP : va_P D vwCl (wX cI cZ a (n : Int) fr to wd ti (va_up f1 j (f1 j + am)) qk rc ll wy wt wa) H := hP
          have hD : va_D A (wX cI cZ a (n : Int) fr to wd ti (va_up f1 j (f1 j + am)) qk rc ll wy wt wa) := hD
          refine lv_iload hx hb dX0_send_77 (lv_at hl 1 rfl) ?_
          refine z_if_eq (tgt := 92) hx hb dX0_send_79 (by decide) (by omega) (fun c_79 => ?_) (fun c_79 => absurd c_79 (by omega))
          refine lv_aload_n hx hb dX0_send_92 rfl (lv_at hl 2 rfl) ?_
          refine va_get (D := D) (ci := 0) (v := .ref (a 1)) (C := RX0) (T := TX0) (N := 12) hx hb hts in_X0 hown hK hP 0 rfl rfl 1 (by decide) (hts _ q23) (fun _ h9 => h9) rfl dX0_send_93 ?_
          refine lv_iload hx hb dX0_send_96 (lv_at hl 0 rfl) ?_
          refine z_iald hx hb hK hP 1 0 rfl rfl (by omega) (by decide) (v := fr j) (congrArg _ (show ((j : Int) : Int).toNat = j by omega)) dX0_send_98 ?_
          refine z_top (y := (((fr j).toNat : Nat) : Int)) (by omega) ?_
          refine lv_istore_n (lv' := [(2, .int (zI (((fr j).toNat : Nat) : Int))), (5, .int (zI (j : Int))), (4, .int (zI 0)), (0, .ref (a 0)), (1, .int (zI am)), (3, .int (zI (k : Int)))]) hx hb dX0_send_99 rfl hl (by decide) rfl (fun ls hl => ?_)
          refine z_iinc (y := ((k + 1 : Nat) : Int)) (lv' := [(3, .int (zI ((k + 1 : Nat) : Int))), (2, .int (zI (((fr j).toNat : Nat) : Int))), (5, .int (zI (j : Int))), (4, .int (zI 0)), (0, .ref (a 0)), (1, .int (zI am))]) hx hb dX0_send_100 hl (k := 5) rfl (by omega) (by decide) rfl (fun ls hl => ?_)
          refine lv_goto (tgt := 4) hx hb dX0_send_103 (by decide) ?_
          exact ih (k + 1) ((fr j).toNat) _ (by omega) (by omega) hpr.symm (by omega) g5 hSI2 H locs hP hD hS ls (lv_sub hl [4, 5, 1, 0] rfl)
        · have hll : ll P = (j : Int) + 8 := g2
          have hpr : mq_it fr to ll (k + 1) = (to j).toNat := hpr
          have hSI2 : mq_SI n fr to wd ti fl qk rc ll dp am (k + 1) (va_up f1 j (f1 j - am)) := hSI2
          have g5 : rc (to j).toNat = 1 := g5
          refine lv_aload_n hx hb dX0_send_13 rfl (lv_at hl 0 rfl) ?_
          refine va_get (D := D) (ci := 0) (v := .ref (a 8)) (C := RX0) (T := TX0) (N := 12) hx hb hts in_X0 hown hK hP 0 rfl rfl 8 (by decide) (hts _ q30) (fun _ h9 => h9) rfl dX0_send_14 ?_
          refine lv_iload_n hx hb dX0_send_17 rfl (lv_at hl 2 rfl) ?_
          refine z_iald hx hb hK hP 8 0 rfl rfl (by omega) (by decide) (v := (j : Int) + 8) hll dX0_send_18 ?_
          refine z_bipush hx hb dX0_send_19 (by decide) ?_
          refine z_icmp_lt (tgt := 28) hx hb dX0_send_21 (by decide) (by omega) (by omega) (fun c_21 => absurd c_21 (by omega)) (fun c_21 => ?_)
          refine z_iconst hx hb dX0_send_24 ?_
          refine lv_goto (tgt := 29) hx hb dX0_send_25 (by decide) ?_
          refine lv_istore (lv' := [(4, .int (zI 1)), (0, .ref (a 0)), (1, .int (zI am)), (2, .int (zI (P : Int))), (3, .int (zI (k : Int)))]) hx hb dX0_send_29 hl (by decide) rfl (fun ls hl => ?_)
          refine lv_iload hx hb dX0_send_31 (lv_at hl 0 rfl) ?_
          refine z_if_eq (tgt := 48) hx hb dX0_send_33 (by decide) (by omega) (fun c_33 => absurd c_33 (by omega)) (fun c_33 => ?_)
          refine lv_aload_n hx hb dX0_send_36 rfl (lv_at hl 1 rfl) ?_
          refine va_get (D := D) (ci := 0) (v := .ref (a 8)) (C := RX0) (T := TX0) (N := 12) hx hb hts in_X0 hown hK hP 0 rfl rfl 8 (by decide) (hts _ q30) (fun _ h9 => h9) rfl dX0_send_37 ?_
          refine lv_iload_n hx hb dX0_send_40 rfl (lv_at hl 3 rfl) ?_
          refine z_iald hx hb hK hP 8 0 rfl rfl (by omega) (by decide) (v := (j : Int) + 8) hll dX0_send_41 ?_
          refine z_bipush hx hb dX0_send_42 (by decide) ?_
          refine z_isub hx hb dX0_send_44 ?_
          refine z_top (y := (j : Int)) (by omega) ?_
          refine lv_goto (tgt := 54) hx hb dX0_send_45 (by decide) ?_
          refine lv_istore (lv' := [(5, .int (zI (j : Int))), (4, .int (zI 1)), (0, .ref (a 0)), (1, .int (zI am)), (2, .int (zI (P : Int))), (3, .int (zI (k : Int)))]) hx hb dX0_send_54 hl (by decide) rfl (fun ls hl => ?_)
          refine lv_aload_n hx hb dX0_send_56 rfl (lv_at hl 2 rfl) ?_
          refine va_get (D := D) (ci := 0) (v := .ref (a 5)) (C := RX0) (T := TX0) (N := 12) hx hb hts in_X0 hown hK hP 0 rfl rfl 5 (by decide) (hts _ q27) (fun _ h9 => h9) rfl dX0_send_57 ?_
          refine lv_iload hx hb dX0_send_60 (lv_at hl 0 rfl) ?_
          refine lv_dup2_11 hx hb dX0_send_62 rfl rfl ?_
          refine z_iald hx hb hK hP 5 0 rfl rfl (by omega) (by decide) (v := f1 j) (congrArg _ (show ((j : Int) : Int).toNat = j by omega)) dX0_send_63 ?_
          refine lv_iload hx hb dX0_send_64 (lv_at hl 1 rfl) ?_
          refine z_if_eq (tgt := 74) hx hb dX0_send_66 (by decide) (by omega) (fun c_66 => absurd c_66 (by omega)) (fun c_66 => ?_)
          refine lv_iload_n hx hb dX0_send_69 rfl (lv_at hl 3 rfl) ?_
          refine z_ineg hx hb dX0_send_70 ?_
          refine lv_goto (tgt := 75) hx hb dX0_send_71 (by decide) ?_
          refine z_iadd hx hb dX0_send_75 ?_
          refine z_top (y := f1 j - am) (by omega) ?_
          refine z_iast hx hb hK hP hD hS 5 0 rfl rfl (by omega) (by decide) (k := j) (by omega) dX0_send_76 (fun H locs hP hD hS => ?_)
          have hP : va_P D vwCl (wX cI cZ a (n : Int) fr to wd ti (va_up f1 j (f1 j - am)) qk rc ll wy wt wa) H := hP
          have hD : va_D A (wX cI cZ a (n : Int) fr to wd ti (va_up f1 j (f1 j - am)) qk rc ll wy wt wa) := hD
          refine lv_iload hx hb dX0_send_77 (lv_at hl 1 rfl) ?_
          refine z_if_eq (tgt := 92) hx hb dX0_send_79 (by decide) (by omega) (fun c_79 => absurd c_79 (by omega)) (fun c_79 => ?_)
          refine lv_aload_n hx hb dX0_send_82 rfl (lv_at hl 2 rfl) ?_
          refine va_get (D := D) (ci := 0) (v := .ref (a 2)) (C := RX0) (T := TX0) (N := 12) hx hb hts in_X0 hown hK hP 0 rfl rfl 2 (by decide) (hts _ q24) (fun _ h9 => h9) rfl dX0_send_83 ?_
          refine lv_iload hx hb dX0_send_86 (lv_at hl 0 rfl) ?_
          refine z_iald hx hb hK hP 2 0 rfl rfl (by omega) (by decide) (v := to j) (congrArg _ (show ((j : Int) : Int).toNat = j by omega)) dX0_send_88 ?_
          refine z_top (y := (((to j).toNat : Nat) : Int)) (by omega) ?_
          refine lv_goto (tgt := 99) hx hb dX0_send_89 (by decide) ?_
          refine lv_istore_n (lv' := [(2, .int (zI (((to j).toNat : Nat) : Int))), (5, .int (zI (j : Int))), (4, .int (zI 1)), (0, .ref (a 0)), (1, .int (zI am)), (3, .int (zI (k : Int)))]) hx hb dX0_send_99 rfl hl (by decide) rfl (fun ls hl => ?_)
          refine z_iinc (y := ((k + 1 : Nat) : Int)) (lv' := [(3, .int (zI ((k + 1 : Nat) : Int))), (2, .int (zI (((to j).toNat : Nat) : Int))), (5, .int (zI (j : Int))), (4, .int (zI 1)), (0, .ref (a 0)), (1, .int (zI am))]) hx hb dX0_send_100 hl (k := 5) rfl (by omega) (by decide) rfl (fun ls hl => ?_)
          refine lv_goto (tgt := 4) hx hb dX0_send_103 (by decide) ?_
          exact ih (k + 1) ((to j).toNat) _ (by omega) (by omega) hpr.symm (by omega) g5 hSI2 H locs hP hD hS ls (lv_sub hl [4, 5, 1, 0] rfl)
  have hl : lv_has ls 6 [(0, .ref (a 0)), (1, .int (zI am))] := hl
  refine z_iconst hx hb dX0_send_0 ?_
  refine lv_istore_n (lv' := [(2, .int (zI 4)), (0, .ref (a 0)), (1, .int (zI am))]) hx hb dX0_send_1 rfl hl (by decide) rfl (fun ls hl => ?_)
  refine z_iconst hx hb dX0_send_2 ?_
  refine lv_istore_n (lv' := [(3, .int (zI 0)), (2, .int (zI 4)), (0, .ref (a 0)), (1, .int (zI am))]) hx hb dX0_send_3 rfl hl (by decide) rfl (fun ls hl => ?_)
  exact L1 6 0 4 fl (by omega) (by omega) rfl (by omega) h4 (mq_SI_0 hI) _ _ hP hD hS ls (lv_sub hl [2, 3, 1, 0] rfl)
end
section
set_option maxHeartbeats 8000000 in
set_option maxRecDepth 100000 in
/-- sumFor(t): what the ways deliver up to t -/
theorem m_sumFor (l : Launch) (D : va_G) (cI cZ : ClassId) (a : Nat → Nat) (sz : Nat) {n : Nat} {fr to wd ti fl qk rc ll : Nat → Int} {wy : Int} {wt wa : Nat → Int} (k : Nat) (t : Int) (ht : 0 ≤ t ∧ t ≤ 12) (hk : k ≤ 40) (hw : ∀ i, i < k → (0 ≤ wt i ∧ wt i ≤ 12) ∧ 1 ≤ wa i ∧ wa i ≤ 5) :
    zMI l yX0_sumFor cX0_sumFor 4 (some .int) (zRm 0 0) [.ref (a 0), .int (zI t)] D vwCl (zT cI cZ) sz (wX cI cZ a (n : Int) fr to wd ti fl qk rc ll (k : Int) wt wa)
      (fun r (u : Unit) => r = zI (mq_Fk wt wa k t)) (fun u => wX cI cZ a n fr to wd ti fl qk rc ll (k : Int) wt wa) := by
  refine z_metI (by decide) (Nat.le_of_ble_eq_true rfl) ?_
  intro p e s m below meth c A ls hG
  obtain ⟨hx, hb, hr, hlocks, hml, hown, hts, hP, hK, hD, hS, hA, hl⟩ := hG
  have hown : s.vm.findClass RX0 = some m.cls := hown
  have L1 : ∀ (g i : Nat), i + g = k + 1 → i ≤ k → ∀ (H : Heap) (locs : List Loc), va_P D vwCl (wX cI cZ a (n : Int) fr to wd ti fl qk rc ll (k : Int) wt wa) H → va_D A (wX cI cZ a (n : Int) fr to wd ti fl qk rc ll (k : Int) wt wa) → va_S A s.heap H locs → ∀ (ls : Array Slot), lv_has ls 4 [(0, .ref (a 0)), (1, .int (zI t)), (2, .int (zI (mq_Fk wt wa i t))), (3, .int (zI (i : Int)))] → W p l e (zRm 0 0) s m ([.ref (a 0), .int (zI t)] : List Value).toArray below meth c H locs 0 0 (MQ below (zQi D vwCl (zT cI cZ) (fun r (u : Unit) => r = zI (mq_Fk wt wa k t)) (fun u => wX cI cZ a n fr to wd ti fl qk rc ll (k : Int) wt wa) A) ([.ref (a 0), .int (zI t)] : List Value).toArray s 0 0 A) (F0 m 4 ls []) := by
    intro g
    induction g with
    | zero => intro i h1 h2; omega
    | succ g ih =>
      intro i hig hik H locs hP hD hS ls hl
      refine lv_iload_n hx hb dX0_sumFor_4 rfl (lv_at hl 3 rfl) ?_
      refine lv_aload_n hx hb dX0_sumFor_5 rfl (lv_at hl 0 rfl) ?_
      refine va_get (D := D) (ci := 0) (v := .int (zI (k : Int))) (C := RX0) (T := TX0) (N := 12) hx hb hts in_X0 hown hK hP 0 rfl rfl 9 (by decide) (hts _ q31) (fun _ h9 => h9) rfl dX0_sumFor_6 ?_
      refine z_icmp_ge (tgt := 52) hx hb dX0_sumFor_9 (by decide) (by omega) (by omega) (fun c_9 => ?_) (fun c_9 => ?_)
      · refine lv_iload_n hx hb dX0_sumFor_52 rfl (lv_at hl 2 rfl) ?_
        have e0 : i = k := by omega
        subst e0
        exact z_iret hx hb hr hlocks (v := mq_Fk wt wa i t) () hS hP hK hD rfl dX0_sumFor_53
      · have hwi := hw i (by omega)
        refine lv_iload_n hx hb dX0_sumFor_12 rfl (lv_at hl 2 rfl) ?_
        refine lv_aload_n hx hb dX0_sumFor_13 rfl (lv_at hl 0 rfl) ?_
        refine va_get (D := D) (ci := 0) (v := .ref (a 9)) (C := RX0) (T := TX0) (N := 12) hx hb hts in_X0 hown hK hP 0 rfl rfl 10 (by decide) (hts _ q32) (fun _ h9 => h9) rfl dX0_sumFor_14 ?_
        refine lv_iload_n hx hb dX0_sumFor_17 rfl (lv_at hl 3 rfl) ?_
        refine z_iald hx hb hK hP 9 0 rfl rfl (by omega) (by decide) (v := wt i) (congrArg _ (show ((i : Int) : Int).toNat = i by omega)) dX0_sumFor_18 ?_
        refine lv_iload_n hx hb dX0_sumFor_19 rfl (lv_at hl 1 rfl) ?_
        refine z_icmp_gt (tgt := 43) hx hb dX0_sumFor_20 (by decide) (by omega) (by omega) (fun c_20 => ?_) (fun c_20 => ?_)
        · refine z_iconst hx hb dX0_sumFor_43 ?_
          refine z_iadd hx hb dX0_sumFor_44 ?_
          refine z_top (y := mq_Fk wt wa (i + 1) t) (by show _ = mq_Fk wt wa i t + (if wt i ≤ t then wa i * (t - wt i + 1) else 0); first | rw [if_pos (by omega)] | rw [if_neg (by omega)]) ?_
          refine lv_istore_n (lv' := [(2, .int (zI (mq_Fk wt wa (i + 1) t))), (0, .ref (a 0)), (1, .int (zI t)), (3, .int (zI (i : Int)))]) hx hb dX0_sumFor_45 rfl hl (by decide) rfl (fun ls hl => ?_)
          refine z_iinc (y := ((i + 1 : Nat) : Int)) (lv' := [(3, .int (zI ((i + 1 : Nat) : Int))), (2, .int (zI (mq_Fk wt wa (i + 1) t))), (0, .ref (a 0)), (1, .int (zI t))]) hx hb dX0_sumFor_46 hl (k := 3) rfl (by omega) (by decide) rfl (fun ls hl => ?_)
          refine lv_goto (tgt := 4) hx hb dX0_sumFor_49 (by decide) ?_
          exact ih (i + 1) (by omega) (by omega) H locs hP hD hS ls (lv_sub hl [2, 3, 1, 0] rfl)
        · refine lv_aload_n hx hb dX0_sumFor_23 rfl (lv_at hl 0 rfl) ?_
          refine va_get (D := D) (ci := 0) (v := .ref (a 10)) (C := RX0) (T := TX0) (N := 12) hx hb hts in_X0 hown hK hP 0 rfl rfl 11 (by decide) (hts _ q33) (fun _ h9 => h9) rfl dX0_sumFor_24 ?_
          refine lv_iload_n hx hb dX0_sumFor_27 rfl (lv_at hl 3 rfl) ?_
          refine z_iald hx hb hK hP 10 0 rfl rfl (by omega) (by decide) (v := wa i) (congrArg _ (show ((i : Int) : Int).toNat = i by omega)) dX0_sumFor_28 ?_
          refine lv_iload_n hx hb dX0_sumFor_29 rfl (lv_at hl 1 rfl) ?_
          refine lv_aload_n hx hb dX0_sumFor_30 rfl (lv_at hl 0 rfl) ?_
          refine va_get (D := D) (ci := 0) (v := .ref (a 9)) (C := RX0) (T := TX0) (N := 12) hx hb hts in_X0 hown hK hP 0 rfl rfl 10 (by decide) (hts _ q32) (fun _ h9 => h9) rfl dX0_sumFor_31 ?_
          refine lv_iload_n hx hb dX0_sumFor_34 rfl (lv_at hl 3 rfl) ?_
          refine z_iald hx hb hK hP 9 0 rfl rfl (by omega) (by decide) (v := wt i) (congrArg _ (show ((i : Int) : Int).toNat = i by omega)) dX0_sumFor_35 ?_
          refine z_isub hx hb dX0_sumFor_36 ?_
          refine z_iconst hx hb dX0_sumFor_37 ?_
          refine z_iadd hx hb dX0_sumFor_38 ?_
          refine z_imul hx hb dX0_sumFor_39 ?_
          refine lv_goto (tgt := 44) hx hb dX0_sumFor_40 (by decide) ?_
          refine z_iadd hx hb dX0_sumFor_44 ?_
          refine z_top (y := mq_Fk wt wa (i + 1) t) (by show _ = mq_Fk wt wa i t + (if wt i ≤ t then wa i * (t - wt i + 1) else 0); first | rw [if_pos (by omega)] | rw [if_neg (by omega)]) ?_
          refine lv_istore_n (lv' := [(2, .int (zI (mq_Fk wt wa (i + 1) t))), (0, .ref (a 0)), (1, .int (zI t)), (3, .int (zI (i : Int)))]) hx hb dX0_sumFor_45 rfl hl (by decide) rfl (fun ls hl => ?_)
          refine z_iinc (y := ((i + 1 : Nat) : Int)) (lv' := [(3, .int (zI ((i + 1 : Nat) : Int))), (2, .int (zI (mq_Fk wt wa (i + 1) t))), (0, .ref (a 0)), (1, .int (zI t))]) hx hb dX0_sumFor_46 hl (k := 3) rfl (by omega) (by decide) rfl (fun ls hl => ?_)
          refine lv_goto (tgt := 4) hx hb dX0_sumFor_49 (by decide) ?_
          exact ih (i + 1) (by omega) (by omega) H locs hP hD hS ls (lv_sub hl [2, 3, 1, 0] rfl)
  have hl : lv_has ls 4 [(0, .ref (a 0)), (1, .int (zI t))] := hl
  refine z_iconst hx hb dX0_sumFor_0 ?_
  refine lv_istore_n (lv' := [(2, .int (zI 0)), (0, .ref (a 0)), (1, .int (zI t))]) hx hb dX0_sumFor_1 rfl hl (by decide) rfl (fun ls hl => ?_)
  refine z_iconst hx hb dX0_sumFor_2 ?_
  refine lv_istore_n (lv' := [(3, .int (zI 0)), (2, .int (zI 0)), (0, .ref (a 0)), (1, .int (zI t))]) hx hb dX0_sumFor_3 rfl hl (by decide) rfl (fun ls hl => ?_)
  exact L1 (k + 1) 0 (by omega) (by omega) _ _ hP hD hS ls (lv_sub hl [2, 3, 1, 0] rfl)
end
section
/-! what findWays changes; the answers, as both classes give them -/
abbrev zS7 : Type := (Nat → Int) × (Nat → Int) × (Nat → Int) × (Nat → Int) × Int × (Nat → Int) × (Nat → Int)
abbrev wS (cI cZ : ClassId) (a : Nat → Nat) (n : Int) (fr to wd ti : Nat → Int) (u : zS7) : va_W := wX cI cZ a n fr to wd ti u.1 u.2.1 u.2.2.1 u.2.2.2.1 u.2.2.2.2.1 u.2.2.2.2.2.1 u.2.2.2.2.2.2
def mq_Arr (n : Nat) (fr to wd ti : Nat → Int) (t r : Int) : Prop := if 0 ≤ t ∧ t ≤ 12 then mq_MC n fr to wd ti t r else r = -1
def mq_Qst (n : Nat) (fr to wd ti : Nat → Int) (am r : Int) : Prop := (r = -1 ∧ ∀ t : Nat, t ≤ 12 → ∃ V, mq_MC n fr to wd ti t V ∧ V < am) ∨ ∃ q : Nat, q ≤ 12 ∧ r = (q : Int) ∧ (∃ V, mq_MC n fr to wd ti q V ∧ am ≤ V) ∧ ∀ t : Nat, t < q → ∃ V, mq_MC n fr to wd ti t V ∧ V < am
def mq_Gn (n : Nat) (fr to wd ti : Nat → Int) (j t r : Int) : Prop := if (0 ≤ t ∧ t ≤ 12) ∧ 0 ≤ j ∧ j < (n : Int) then ∃ V V' : Int, mq_MC n fr to wd ti t V ∧ mq_MC n fr to (va_up wd j.toNat (wd j.toNat + 1)) ti t V' ∧ r = V' - V else r = -1
def mq_Std (n : Nat) (fr to wd ti : Nat → Int) (r : Int) : Prop := mq_MC n fr to wd (fun _ => 0) 0 r
theorem mq_Arr_u {n : Nat} {fr to wd ti : Nat → Int} {t r r' : Int} (h : mq_Arr n fr to wd ti t r) (h' : mq_Arr n fr to wd ti t r') : r = r' := by
  unfold mq_Arr at h h'
  by_cases q : 0 ≤ t ∧ t ≤ 12
  · rw [if_pos q] at h h'
    exact mq_MC_uniq h h'
  · rw [if_neg q] at h h'
    rw [h, h']
theorem mq_Qst_u {n : Nat} {fr to wd ti : Nat → Int} {am r r' : Int} (h : mq_Qst n fr to wd ti am r) (h' : mq_Qst n fr to wd ti am r') : r = r' := by
  have cl : ∀ t : Nat, (∃ V, mq_MC n fr to wd ti t V ∧ am ≤ V) → (∃ V, mq_MC n fr to wd ti t V ∧ V < am) → False := by
    rintro t ⟨V, h1, h2⟩ ⟨V', h1', h2'⟩
    have := mq_MC_uniq h1 h1'
    omega
  rcases h with ⟨a1, a2⟩ | ⟨q, a1, a2, a3, a4⟩ <;> rcases h' with ⟨b1, b2⟩ | ⟨q', b1, b2, b3, b4⟩
  · omega
  · exact (cl q' b3 (a2 q' b1)).elim
  · exact (cl q a3 (b2 q a1)).elim
  · have c1 : ¬ q < q' := fun z => cl q a3 (b4 q z)
    have c2 : ¬ q' < q := fun z => cl q' b3 (a4 q' z)
    omega
theorem mq_Gn_u {n : Nat} {fr to wd ti : Nat → Int} {j t r r' : Int} (h : mq_Gn n fr to wd ti j t r) (h' : mq_Gn n fr to wd ti j t r') : r = r' := by
  unfold mq_Gn at h h'
  by_cases q : (0 ≤ t ∧ t ≤ 12) ∧ 0 ≤ j ∧ j < (n : Int)
  · rw [if_pos q] at h h'
    obtain ⟨V, W, h1, h2, h3⟩ := h
    obtain ⟨V', W', h1', h2', h3'⟩ := h'
    rw [h3, h3', mq_MC_uniq h1 h1', mq_MC_uniq h2 h2']
  · rw [if_neg q] at h h'
    rw [h, h']
theorem mq_Fk_in {wt wa : Nat → Int} {k : Nat} {t : Int} (ht : 0 ≤ t ∧ t ≤ 12) (h : ∀ i, i < k → (0 ≤ wt i ∧ wt i ≤ 12) ∧ 1 ≤ wa i ∧ wa i ≤ 5) : 0 ≤ mq_Fk wt wa k t ∧ mq_Fk wt wa k t ≤ 65 * (k : Int) := by
  have h1 : ∀ i, i < k → 0 ≤ (if wt i ≤ t then wa i * (t - wt i + 1) else 0) ∧ (if wt i ≤ t then wa i * (t - wt i + 1) else 0) ≤ 65 := by
    intro i hi
    have := h i hi
    by_cases q : wt i ≤ t
    · rw [if_pos q]
      have a1 : 0 ≤ wa i * (t - wt i + 1) := Int.mul_nonneg (by omega) (by omega)
      have a2 : wa i * (t - wt i + 1) ≤ 5 * (t - wt i + 1) := Int.mul_le_mul_of_nonneg_right (by omega) (by omega)
      omega
    · rw [if_neg q]
      omega
  refine ⟨mq_sm_nn (fun i hi => (h1 i hi).1), ?_⟩
  have h2 : mq_Fk wt wa k t ≤ mq_sm (fun _ => 65) k := mq_sm_le (fun i hi => (h1 i hi).2)
  rw [mq_sm_const] at h2
  omega
theorem mq_first {n : Nat} {fr to wd ti wt wa : Nat → Int} {k : Nat} (h : mq_FW n fr to wd ti k wt wa) : mq_Qst n fr to wd ti 1 (if k = 0 then -1 else wt 0) := by
  obtain ⟨h1, h2, h3, h4, -⟩ := h
  by_cases e : k = 0
  · subst e
    exact Or.inl ⟨rfl, fun t ht => ⟨_, h4 t ht, by show (0 : Int) < 1; omega⟩⟩
  · rw [if_neg e]
    have a0 := h2 0 (by omega)
    refine Or.inr ⟨(wt 0).toNat, by omega, by omega, ⟨_, h4 _ (by omega), ?_⟩, fun t ht => ⟨_, h4 t (by omega), ?_⟩⟩
    · have b1 : ∀ i, i < k → 0 ≤ (if wt i ≤ (((wt 0).toNat : Nat) : Int) then wa i * ((((wt 0).toNat : Nat) : Int) - wt i + 1) else 0) := by
        intro i hi
        have := h2 i hi
        split
        · exact Int.mul_nonneg (by omega) (by omega)
        · omega
      have b2 := mq_sm_pt (f := fun i => if wt i ≤ (((wt 0).toNat : Nat) : Int) then wa i * ((((wt 0).toNat : Nat) : Int) - wt i + 1) else 0) b1 (show 0 < k by omega)
      have b3 : (if wt 0 ≤ (((wt 0).toNat : Nat) : Int) then wa 0 * ((((wt 0).toNat : Nat) : Int) - wt 0 + 1) else 0) = wa 0 := by
        rw [if_pos (by omega), show (((wt 0).toNat : Nat) : Int) - wt 0 + 1 = 1 by omega, Int.mul_one]
      show 1 ≤ mq_Fk wt wa k _
      have b4 : wa 0 ≤ mq_Fk wt wa k (((wt 0).toNat : Nat) : Int) := by
        rw [← b3]
        exact b2
      omega
    · have : mq_Fk wt wa k t = 0 := by
        refine mq_sm_zero (fun i hi => ?_)
        have := h3 0 i (by omega) hi
        rw [if_neg (by omega)]
      show mq_Fk wt wa k t < 1
      omega
set_option maxHeartbeats 8000000 in
set_option maxRecDepth 100000 in
/-- findWays(): the ways, from the quickest on -/
theorem m_findWays (l : Launch) (D : va_G) (cI cZ : ClassId) (a : Nat → Nat) (sz : Nat) {n : Nat} {fr to wd ti fl qk rc ll : Nat → Int} {wy : Int} {wt wa : Nat → Int} (hN : mq_Net n fr to wd ti) :
    zMV l yX0_findWays cX0_findWays 4 (zRm 2 49) [.ref (a 0)] D vwCl (zT cI cZ) sz (wX cI cZ a (n : Int) fr to wd ti fl qk rc ll wy wt wa)
      (fun (u : zS7) => ∃ k : Nat, u.2.2.2.2.1 = (k : Int) ∧ mq_FW n fr to wd ti k u.2.2.2.2.2.1 u.2.2.2.2.2.2) (fun u => wS cI cZ a n fr to wd ti u) := by
  refine z_metV (by decide) (Nat.le_of_ble_eq_true rfl) ?_
  intro p e s m below meth c A ls hG
  obtain ⟨hx, hb, hr, hlocks, hml, hown, hts, hP, hK, hD, hS, hA, hl⟩ := hG
  have hown : s.vm.findClass RX0 = some m.cls := hown
  have hn8 := hN.1
  have L2 : ∀ (g q k : Nat) (x : Int) (fl qk rc ll wt wa : Nat → Int), q + g = 37 → q ≤ 36 → k ≤ q → (x = 0 ∨ x = 1) → (x = 1 → k = q) → (x = 0 → mq_FW n fr to wd ti k wt wa) → mq_SS n fr to wd ti k wt wa fl → ∀ (H : Heap) (locs : List Loc), va_P D vwCl (wX cI cZ a (n : Int) fr to wd ti fl qk rc ll (k : Int) wt wa) H → va_D A (wX cI cZ a (n : Int) fr to wd ti fl qk rc ll (k : Int) wt wa) → va_S A s.heap H locs → ∀ (ls : Array Slot), lv_has ls 4 [(0, .ref (a 0)), (1, .int (zI x)), (2, .int (zI (q : Int)))] → W p l e (zRm 2 49) s m ([.ref (a 0)] : List Value).toArray below meth c H locs 0 0 (MQ below (zQv D vwCl (zT cI cZ) (fun (u : zS7) => ∃ k : Nat, u.2.2.2.2.1 = (k : Int) ∧ mq_FW n fr to wd ti k u.2.2.2.2.2.1 u.2.2.2.2.2.2) (fun u => wS cI cZ a n fr to wd ti u) A) ([.ref (a 0)] : List Value).toArray s 0 0 A) (F0 m 30 ls []) := by
    intro g
    induction g with
    | zero => intro q k x fl qk rc ll wt wa h1 h2; omega
    | succ g ih =>
      intro q k x fl qk rc ll wt wa hqg hq36 hkq hx01 hxk hxF hSS H locs hP hD hS ls hl
      have hk33 := mq_SS_k hN hSS
      refine lv_iload_n hx hb dX0_findWays_30 rfl (lv_at hl 2 rfl) ?_
      refine z_bipush hx hb dX0_findWays_31 (by decide) ?_
      refine z_icmp_ge (tgt := 106) hx hb dX0_findWays_33 (by decide) (by omega) (by omega) (fun c_33 => ?_) (fun c_33 => ?_)
      · exact z_vret hx hb hr hlocks (fl, qk, rc, ll, (k : Int), wt, wa) hS hP hK hD ⟨k, rfl, hxF (by omega)⟩ dX0_findWays_106
      · refine lv_iload_n hx hb dX0_findWays_36 rfl (lv_at hl 1 rfl) ?_
        refine z_if_eq (tgt := 106) hx hb dX0_findWays_37 (by decide) (by omega) (fun c_37 => ?_) (fun c_37 => ?_)
        · exact z_vret hx hb hr hlocks (fl, qk, rc, ll, (k : Int), wt, wa) hS hP hK hD ⟨k, rfl, hxF (by omega)⟩ dX0_findWays_106
        · refine lv_aload_n hx hb dX0_findWays_40 rfl (lv_at hl 0 rfl) ?_
          obtain ⟨s1, s2, s3, s4, ⟨pt, p0, pF, p4, p5, p6⟩, s6, s7⟩ := id hSS
          refine z_callv (As := []) (rest := []) (n := 0) (C := RX0) (T := TX0) (N := 12) (ci := 0) hx hb hml hown hts hK hP hD hS hA (m_findQuickest l D cI cZ a H.size pt hN s1 p0 pF) (lw_V q77 q79 qs1 q12 q80) rfl rfl (by decide +kernel) ⟨Nat.le_of_ble_eq_true rfl, Nat.le_of_ble_eq_true rfl⟩ rfl rfl rfl hl.1 rfl (by decide) dX0_findWays_41 ⟨Nat.le_of_ble_eq_true rfl, Nat.le_of_ble_eq_true rfl⟩ (fun u H locs hSP hP hD hS => ?_)
          obtain ⟨qk1, rc1, ll1⟩ := u
          have hSP : mq_SP n fr to wd ti fl pt qk1 rc1 ll1 := hSP
          have hP : va_P D vwCl (wX cI cZ a (n : Int) fr to wd ti fl qk1 rc1 ll1 (k : Int) wt wa) H := hP
          have hD : va_D A (wX cI cZ a (n : Int) fr to wd ti fl qk1 rc1 ll1 (k : Int) wt wa) := hD
          have hrc4 := hSP.1 4 (by omega)
          refine lv_aload_n hx hb dX0_findWays_44 rfl (lv_at hl 0 rfl) ?_
          refine va_get (D := D) (ci := 0) (v := .ref (a 7)) (C := RX0) (T := TX0) (N := 12) hx hb hts in_X0 hown hK hP 0 rfl rfl 7 (by decide) (hts _ q29) (fun _ h9 => h9) rfl dX0_findWays_45 ?_
          refine z_iconst hx hb dX0_findWays_48 ?_
          refine z_zald hx hb hK hP 7 1 rfl rfl (by omega) (by decide) (v := rc1 4) (congrArg _ (show (4 : Int).toNat = 4 by omega)) dX0_findWays_49 ?_
          refine lv_istore_n (lv' := [(1, .int (zI (rc1 4))), (0, .ref (a 0)), (2, .int (zI (q : Int)))]) hx hb dX0_findWays_50 rfl hl (by decide) rfl (fun ls hl => ?_)
          refine lv_iload_n hx hb dX0_findWays_51 rfl (lv_at hl 0 rfl) ?_
          refine z_if_eq (tgt := 100) hx hb dX0_findWays_52 (by decide) (by omega) (fun c_52 => ?_) (fun c_52 => ?_)
          · refine z_iinc (y := ((q + 1 : Nat) : Int)) (lv' := [(2, .int (zI ((q + 1 : Nat) : Int))), (1, .int (zI (rc1 4))), (0, .ref (a 0))]) hx hb dX0_findWays_100 hl (k := 2) rfl (by omega) (by decide) rfl (fun ls hl => ?_)
            refine lv_goto (tgt := 30) hx hb dX0_findWays_103 (by decide) ?_
            exact ih (q + 1) k (rc1 4) fl qk1 rc1 ll1 wt wa (by omega) (by omega) (by omega) hrc4 (fun h => absurd h (by omega)) (fun h => mq_FW_of hN hSS p0 pF p6 hSP h) hSS H locs hP hD hS ls (lv_sub hl [2, 1, 0] rfl)
          · refine lv_aload_n hx hb dX0_findWays_55 rfl (lv_at hl 1 rfl) ?_
            have hr4 : rc1 4 = 1 := by omega
            refine z_calli (As := []) (rest := []) (n := 0) (C := RX0) (T := TX0) (N := 12) (ci := 0) hx hb hml hown hts hK hP hD hS hA (m_roomOfWay l D cI cZ a H.size pt hN s1 hSP hr4) (lw_V q85 q87 qs3 q12 q88) rfl rfl (by decide +kernel) ⟨Nat.le_of_ble_eq_true rfl, Nat.le_of_ble_eq_true rfl⟩ rfl rfl rfl hl.1 rfl (by decide) dX0_findWays_56 ⟨Nat.le_of_ble_eq_true rfl, Nat.le_of_ble_eq_true rfl⟩ (fun r32 u H locs hw hP hD hS => ?_)
            obtain ⟨am, rfl, hWy⟩ := hw
            have hP : va_P D vwCl (wX cI cZ a (n : Int) fr to wd ti fl qk1 rc1 ll1 (k : Int) wt wa) H := hP
            have hD : va_D A (wX cI cZ a (n : Int) fr to wd ti fl qk1 rc1 ll1 (k : Int) wt wa) := hD
            have ham : 1 ≤ am ∧ am ≤ 5 := by obtain ⟨K, -, -, -, g1, g2⟩ := hWy; exact ⟨g1, g2⟩
            refine lv_istore_n (lv' := [(3, .int (zI am)), (1, .int (zI (rc1 4))), (0, .ref (a 0)), (2, .int (zI (q : Int)))]) hx hb dX0_findWays_59 rfl hl (by decide) rfl (fun ls hl => ?_)
            refine lv_aload_n hx hb dX0_findWays_60 rfl (lv_at hl 2 rfl) ?_
            refine va_get (D := D) (ci := 0) (v := .ref (a 9)) (C := RX0) (T := TX0) (N := 12) hx hb hts in_X0 hown hK hP 0 rfl rfl 10 (by decide) (hts _ q32) (fun _ h9 => h9) rfl dX0_findWays_61 ?_
            refine lv_aload_n hx hb dX0_findWays_64 rfl (lv_at hl 2 rfl) ?_
            refine va_get (D := D) (ci := 0) (v := .int (zI (k : Int))) (C := RX0) (T := TX0) (N := 12) hx hb hts in_X0 hown hK hP 0 rfl rfl 9 (by decide) (hts _ q31) (fun _ h9 => h9) rfl dX0_findWays_65 ?_
            refine lv_aload_n hx hb dX0_findWays_68 rfl (lv_at hl 2 rfl) ?_
            refine va_get (D := D) (ci := 0) (v := .ref (a 6)) (C := RX0) (T := TX0) (N := 12) hx hb hts in_X0 hown hK hP 0 rfl rfl 6 (by decide) (hts _ q28) (fun _ h9 => h9) rfl dX0_findWays_69 ?_
            refine z_iconst hx hb dX0_findWays_72 ?_
            refine z_iald hx hb hK hP 6 0 rfl rfl (by omega) (by decide) (v := qk1 4) (congrArg _ (show (4 : Int).toNat = 4 by omega)) dX0_findWays_73 ?_
            refine z_iast hx hb hK hP hD hS 9 0 rfl rfl (by omega) (by decide) (k := k) (by omega) dX0_findWays_74 (fun H locs hP hD hS => ?_)
            have hP : va_P D vwCl (wX cI cZ a (n : Int) fr to wd ti fl qk1 rc1 ll1 (k : Int) (va_up wt k (qk1 4)) wa) H := hP
            have hD : va_D A (wX cI cZ a (n : Int) fr to wd ti fl qk1 rc1 ll1 (k : Int) (va_up wt k (qk1 4)) wa) := hD
            refine lv_aload_n hx hb dX0_findWays_75 rfl (lv_at hl 2 rfl) ?_
            refine va_get (D := D) (ci := 0) (v := .ref (a 10)) (C := RX0) (T := TX0) (N := 12) hx hb hts in_X0 hown hK hP 0 rfl rfl 11 (by decide) (hts _ q33) (fun _ h9 => h9) rfl dX0_findWays_76 ?_
            refine lv_aload_n hx hb dX0_findWays_79 rfl (lv_at hl 2 rfl) ?_
            refine va_get (D := D) (ci := 0) (v := .int (zI (k : Int))) (C := RX0) (T := TX0) (N := 12) hx hb hts in_X0 hown hK hP 0 rfl rfl 9 (by decide) (hts _ q31) (fun _ h9 => h9) rfl dX0_findWays_80 ?_
            refine lv_iload_n hx hb dX0_findWays_83 rfl (lv_at hl 0 rfl) ?_
            refine z_iast hx hb hK hP hD hS 10 0 rfl rfl (by omega) (by decide) (k := k) (by omega) dX0_findWays_84 (fun H locs hP hD hS => ?_)
            have hP : va_P D vwCl (wX cI cZ a (n : Int) fr to wd ti fl qk1 rc1 ll1 (k : Int) (va_up wt k (qk1 4)) (va_up wa k am)) H := hP
            have hD : va_D A (wX cI cZ a (n : Int) fr to wd ti fl qk1 rc1 ll1 (k : Int) (va_up wt k (qk1 4)) (va_up wa k am)) := hD
            refine lv_aload_n hx hb dX0_findWays_85 rfl (lv_at hl 2 rfl) ?_
            refine lv_dup hx hb dX0_findWays_86 rfl ?_
            refine va_get (D := D) (ci := 0) (v := .int (zI (k : Int))) (C := RX0) (T := TX0) (N := 12) hx hb hts in_X0 hown hK hP 0 rfl rfl 9 (by decide) (hts _ q31) (fun _ h9 => h9) rfl dX0_findWays_87 ?_
            refine z_iconst hx hb dX0_findWays_90 ?_
            refine z_iadd hx hb dX0_findWays_91 ?_
            refine z_top (y := ((k + 1 : Nat) : Int)) (by omega) ?_
            refine va_put (D := D) (ci := 0) (v := .int (zI ((k + 1 : Nat) : Int))) (ty := .int) (C := RX0) (T := TX0) (N := 12) hx hb hts in_X0 tyX0 tyX0_ok nmX0 hown hK hP hD hS 0 rfl rfl 9 (by decide) (hts _ q31) (fun _ h9 => h9) rfl (by decide +kernel) rfl rfl (Nat.le_of_ble_eq_true rfl) dX0_findWays_92 (fun H locs hP hD hS => ?_)
            have hP : va_P D vwCl (wX cI cZ a (n : Int) fr to wd ti fl qk1 rc1 ll1 ((k + 1 : Nat) : Int) (va_up wt k (qk1 4)) (va_up wa k am)) H := hP
            have hD : va_D A (wX cI cZ a (n : Int) fr to wd ti fl qk1 rc1 ll1 ((k + 1 : Nat) : Int) (va_up wt k (qk1 4)) (va_up wa k am)) := hD
            refine lv_aload_n hx hb dX0_findWays_95 rfl (lv_at hl 2 rfl) ?_
            refine lv_iload_n hx hb dX0_findWays_96 rfl (lv_at hl 0 rfl) ?_
            refine z_callv (As := [.int (zI am)]) (rest := []) (n := 1) (C := RX0) (T := TX0) (N := 12) (ci := 0) hx hb hml hown hts hK hP hD hS hA (m_send l D cI cZ a H.size pt am hN s1 hSP hr4 hWy) (lw_V q89 q91 qs4 q12 q92) rfl rfl (by decide +kernel) ⟨Nat.le_of_ble_eq_true rfl, Nat.le_of_ble_eq_true rfl⟩ rfl rfl rfl hl.1 rfl (by decide) dX0_findWays_97 ⟨Nat.le_of_ble_eq_true rfl, Nat.le_of_ble_eq_true rfl⟩ (fun fl2 H locs hse hP hD hS => ?_)
            obtain ⟨dp, KK, hK0, hSI⟩ := hse
            have hP : va_P D vwCl (wX cI cZ a (n : Int) fr to wd ti fl2 qk1 rc1 ll1 ((k + 1 : Nat) : Int) (va_up wt k (qk1 4)) (va_up wa k am)) H := hP
            have hD : va_D A (wX cI cZ a (n : Int) fr to wd ti fl2 qk1 rc1 ll1 ((k + 1 : Nat) : Int) (va_up wt k (qk1 4)) (va_up wa k am)) := hD
            have hSS2 := mq_SS_s hN s1 s2 s3 s4 p0 pF p4 p5 p6 s6 s7 hSP hr4 ham hK0 hSI
            refine z_iinc (y := ((q + 1 : Nat) : Int)) (lv' := [(2, .int (zI ((q + 1 : Nat) : Int))), (3, .int (zI am)), (1, .int (zI (rc1 4))), (0, .ref (a 0))]) hx hb dX0_findWays_100 hl (k := 3) rfl (by omega) (by decide) rfl (fun ls hl => ?_)
            refine lv_goto (tgt := 30) hx hb dX0_findWays_103 (by decide) ?_
            exact ih (q + 1) (k + 1) (rc1 4) fl2 qk1 rc1 ll1 _ _ (by omega) (by omega) (by omega) hrc4 (fun _ => by omega) (fun h => absurd h (by omega)) hSS2 H locs hP hD hS ls (lv_sub hl [3, 2, 0] rfl)
  have L1 : ∀ (g i : Nat) (fl : Nat → Int), i + g = 9 → i ≤ 8 → (∀ p, p < i → fl p = 0) → ∀ (H : Heap) (locs : List Loc), va_P D vwCl (wX cI cZ a (n : Int) fr to wd ti fl qk rc ll 0 wt wa) H → va_D A (wX cI cZ a (n : Int) fr to wd ti fl qk rc ll 0 wt wa) → va_S A s.heap H locs → ∀ (ls : Array Slot), lv_has ls 4 [(0, .ref (a 0)), (1, .int (zI (i : Int)))] → W p l e (zRm 2 49) s m ([.ref (a 0)] : List Value).toArray below meth c H locs 0 0 (MQ below (zQv D vwCl (zT cI cZ) (fun (u : zS7) => ∃ k : Nat, u.2.2.2.2.1 = (k : Int) ∧ mq_FW n fr to wd ti k u.2.2.2.2.2.1 u.2.2.2.2.2.2) (fun u => wS cI cZ a n fr to wd ti u) A) ([.ref (a 0)] : List Value).toArray s 0 0 A) (F0 m 7 ls []) := by
    intro g
    induction g with
    | zero => intro i fl h1 h2; omega
    | succ g ih =>
      intro i fl hig hi8 hfl H locs hP hD hS ls hl
      refine lv_iload_n hx hb dX0_findWays_7 rfl (lv_at hl 1 rfl) ?_
      refine z_bipush hx hb dX0_findWays_8 (by decide) ?_
      refine z_icmp_ge (tgt := 26) hx hb dX0_findWays_10 (by decide) (by omega) (by omega) (fun c_10 => ?_) (fun c_10 => ?_)
      · have e0 : i = 8 := by omega
        subst e0
        refine z_iconst hx hb dX0_findWays_26 ?_
        refine lv_istore_n (lv' := [(1, .int (zI 1)), (0, .ref (a 0))]) hx hb dX0_findWays_27 rfl hl (by decide) rfl (fun ls hl => ?_)
        refine z_iconst hx hb dX0_findWays_28 ?_
        refine lv_istore_n (lv' := [(2, .int (zI 0)), (1, .int (zI 1)), (0, .ref (a 0))]) hx hb dX0_findWays_29 rfl hl (by decide) rfl (fun ls hl => ?_)
        exact L2 37 0 0 1 fl qk rc ll wt wa (by omega) (by omega) (by omega) (Or.inr rfl) (fun _ => rfl) (fun h => absurd h (by omega)) (mq_SS_0 hN hfl) H locs hP hD hS ls (lv_sub hl [2, 1, 0] rfl)
      · refine lv_aload_n hx hb dX0_findWays_13 rfl (lv_at hl 0 rfl) ?_
        refine va_get (D := D) (ci := 0) (v := .ref (a 5)) (C := RX0) (T := TX0) (N := 12) hx hb hts in_X0 hown hK hP 0 rfl rfl 5 (by decide) (hts _ q27) (fun _ h9 => h9) rfl dX0_findWays_14 ?_
        refine lv_iload_n hx hb dX0_findWays_17 rfl (lv_at hl 1 rfl) ?_
        refine z_iconst hx hb dX0_findWays_18 ?_
        refine z_iast hx hb hK hP hD hS 5 0 rfl rfl (by omega) (by decide) (k := i) (by omega) dX0_findWays_19 (fun H locs hP hD hS => ?_)
        have hP : va_P D vwCl (wX cI cZ a (n : Int) fr to wd ti (va_up fl i 0) qk rc ll 0 wt wa) H := hP
        have hD : va_D A (wX cI cZ a (n : Int) fr to wd ti (va_up fl i 0) qk rc ll 0 wt wa) := hD
        refine z_iinc (y := ((i + 1 : Nat) : Int)) (lv' := [(1, .int (zI ((i + 1 : Nat) : Int))), (0, .ref (a 0))]) hx hb dX0_findWays_20 hl (k := 1) rfl (by omega) (by decide) rfl (fun ls hl => ?_)
        refine lv_goto (tgt := 7) hx hb dX0_findWays_23 (by decide) ?_
        exact ih (i + 1) _ (by omega) (by omega) (z_ext (g := fun _ => 0) hfl rfl) H locs hP hD hS ls (lv_sub hl [1, 0] rfl)
  have hl : lv_has ls 4 [(0, .ref (a 0))] := hl
  refine lv_aload_n hx hb dX0_findWays_0 rfl (lv_at hl 0 rfl) ?_
  refine z_iconst hx hb dX0_findWays_1 ?_
  refine va_put (D := D) (ci := 0) (v := .int (zI 0)) (ty := .int) (C := RX0) (T := TX0) (N := 12) hx hb hts in_X0 tyX0 tyX0_ok nmX0 hown hK hP hD hS 0 rfl rfl 9 (by decide) (hts _ q31) (fun _ h9 => h9) rfl (by decide +kernel) rfl rfl (Nat.le_of_ble_eq_true rfl) dX0_findWays_2 (fun H locs hP hD hS => ?_)
  have hP : va_P D vwCl (wX cI cZ a (n : Int) fr to wd ti fl qk rc ll 0 wt wa) H := hP
  have hD : va_D A (wX cI cZ a (n : Int) fr to wd ti fl qk rc ll 0 wt wa) := hD
  refine z_iconst hx hb dX0_findWays_5 ?_
  refine lv_istore_n (lv' := [(1, .int (zI 0)), (0, .ref (a 0))]) hx hb dX0_findWays_6 rfl hl (by decide) rfl (fun ls hl => ?_)
  exact L1 9 0 fl (by omega) (by omega) (fun p hp => absurd hp (by omega)) _ _ hP hD hS ls (lv_sub hl [1, 0] rfl)
end
section
set_option maxHeartbeats 8000000 in
set_option maxRecDepth 100000 in
theorem m_arrived (l : Launch) (D : va_G) (cI cZ : ClassId) (a : Nat → Nat) (sz : Nat) {n : Nat} {fr to wd ti fl qk rc ll : Nat → Int} {wy : Int} {wt wa : Nat → Int} (t : Int) (ht : -2147483648 ≤ t ∧ t ≤ 2147483647) (hN : mq_Net n fr to wd ti) :
    zMI l yX0_arrived cX0_arrived 2 (some .int) (zRm 3 72) [.ref (a 0), .int (zI t)] D vwCl (zT cI cZ) sz (wX cI cZ a (n : Int) fr to wd ti fl qk rc ll wy wt wa)
      (fun r (u : zS7) => ∃ x : Int, r = zI x ∧ mq_Arr n fr to wd ti t x) (fun u => wS cI cZ a n fr to wd ti u) := by
  refine z_metI (by decide) (Nat.le_of_ble_eq_true rfl) ?_
  intro p e s m below meth c A ls hG
  obtain ⟨hx, hb, hr, hlocks, hml, hown, hts, hP, hK, hD, hS, hA, hl⟩ := hG
  have hown : s.vm.findClass RX0 = some m.cls := hown
  have hn8 := hN.1
  have hl : lv_has ls 2 [(0, .ref (a 0)), (1, .int (zI t))] := hl
  refine lv_iload_n hx hb dX0_arrived_0 rfl (lv_at hl 1 rfl) ?_
  refine z_if_lt (tgt := 10) hx hb dX0_arrived_1 (by decide) (by omega) (fun c_1 => ?_) (fun c_1 => ?_)
  · refine z_iconst hx hb dX0_arrived_10 ?_
    exact z_iret hx hb hr hlocks (v := -1) (fl, qk, rc, ll, wy, wt, wa) hS hP hK hD ⟨-1, rfl, by unfold mq_Arr; rw [if_neg (by omega)]⟩ dX0_arrived_11
  · refine lv_iload_n hx hb dX0_arrived_4 rfl (lv_at hl 1 rfl) ?_
    refine z_bipush hx hb dX0_arrived_5 (by decide) ?_
    refine z_icmp_le (tgt := 12) hx hb dX0_arrived_7 (by decide) (by omega) (by omega) (fun c_7 => ?_) (fun c_7 => ?_)
    · refine lv_aload_n hx hb dX0_arrived_12 rfl (lv_at hl 0 rfl) ?_
      refine z_callv (As := []) (rest := []) (n := 0) (C := RX0) (T := TX0) (N := 12) (ci := 0) hx hb hml hown hts hK hP hD hS hA (m_findWays l D cI cZ a _ hN) (lw_V q73 q75 qs0 q12 q76) rfl rfl (by decide +kernel) ⟨Nat.le_of_ble_eq_true rfl, Nat.le_of_ble_eq_true rfl⟩ rfl rfl rfl hl.1 rfl (by decide) dX0_arrived_13 ⟨Nat.le_of_ble_eq_true rfl, Nat.le_of_ble_eq_true rfl⟩ (fun u H locs hFW hP hD hS => ?_)
      obtain ⟨fl1, qk1, rc1, ll1, wy1, wt1, wa1⟩ := u
      obtain ⟨k, hke, hFW1⟩ := hFW
      have hke : wy1 = (k : Int) := hke
      subst hke
      have hFW1 : mq_FW n fr to wd ti k wt1 wa1 := hFW1
      have hP : va_P D vwCl (wX cI cZ a (n : Int) fr to wd ti fl1 qk1 rc1 ll1 (k : Int) wt1 wa1) H := hP
      have hD : va_D A (wX cI cZ a (n : Int) fr to wd ti fl1 qk1 rc1 ll1 (k : Int) wt1 wa1) := hD
      have hk1 := hFW1.1
      refine lv_aload_n hx hb dX0_arrived_16 rfl (lv_at hl 0 rfl) ?_
      refine lv_iload_n hx hb dX0_arrived_17 rfl (lv_at hl 1 rfl) ?_
      refine z_calli (As := [.int (zI t)]) (rest := []) (n := 1) (C := RX0) (T := TX0) (N := 12) (ci := 0) hx hb hml hown hts hK hP hD hS hA (m_sumFor (wy := 0) l D cI cZ a _ k t (by omega) (by omega) hFW1.2.1) (lw_V q93 q95 qs5 q12 q96) rfl rfl (by decide +kernel) ⟨Nat.le_of_ble_eq_true rfl, Nat.le_of_ble_eq_true rfl⟩ rfl rfl rfl hl.1 rfl (by decide) dX0_arrived_18 ⟨Nat.le_of_ble_eq_true rfl, Nat.le_of_ble_eq_true rfl⟩ (fun r32 u H locs hw hP hD hS => ?_)
      subst hw
      have hP : va_P D vwCl (wX cI cZ a (n : Int) fr to wd ti fl1 qk1 rc1 ll1 (k : Int) wt1 wa1) H := hP
      have hD : va_D A (wX cI cZ a (n : Int) fr to wd ti fl1 qk1 rc1 ll1 (k : Int) wt1 wa1) := hD
      exact z_iret hx hb hr hlocks (v := mq_Fk wt1 wa1 k t) (fl1, qk1, rc1, ll1, (k : Int), wt1, wa1) hS hP hK hD ⟨_, rfl, by unfold mq_Arr; rw [if_pos (by omega)]; have := hFW1.2.2.2.1 t.toNat (by omega); rw [show ((t.toNat : Nat) : Int) = t by omega] at this; exact this⟩ dX0_arrived_21
    · refine z_iconst hx hb dX0_arrived_10 ?_
      exact z_iret hx hb hr hlocks (v := -1) (fl, qk, rc, ll, wy, wt, wa) hS hP hK hD ⟨-1, rfl, by unfold mq_Arr; rw [if_neg (by omega)]⟩ dX0_arrived_11
set_option maxHeartbeats 8000000 in
set_option maxRecDepth 100000 in
theorem m_quickest (l : Launch) (D : va_G) (cI cZ : ClassId) (a : Nat → Nat) (sz : Nat) {n : Nat} {fr to wd ti fl qk rc ll : Nat → Int} {wy : Int} {wt wa : Nat → Int} (am : Int) (ham : -2147483648 ≤ am ∧ am ≤ 2147483647) (hN : mq_Net n fr to wd ti) :
    zMI l yX0_quickest cX0_quickest 4 (some .int) (zRm 3 72) [.ref (a 0), .int (zI am)] D vwCl (zT cI cZ) sz (wX cI cZ a (n : Int) fr to wd ti fl qk rc ll wy wt wa)
      (fun r (u : zS7) => ∃ x : Int, r = zI x ∧ mq_Qst n fr to wd ti am x) (fun u => wS cI cZ a n fr to wd ti u) := by
  refine z_metI (by decide) (Nat.le_of_ble_eq_true rfl) ?_
  intro p e s m below meth c A ls hG
  obtain ⟨hx, hb, hr, hlocks, hml, hown, hts, hP, hK, hD, hS, hA, hl⟩ := hG
  have hown : s.vm.findClass RX0 = some m.cls := hown
  have hn8 := hN.1
  have hl : lv_has ls 4 [(0, .ref (a 0)), (1, .int (zI am))] := hl
  refine lv_aload_n hx hb dX0_quickest_0 rfl (lv_at hl 0 rfl) ?_
  refine z_callv (As := []) (rest := []) (n := 0) (C := RX0) (T := TX0) (N := 12) (ci := 0) hx hb hml hown hts hK hP hD hS hA (m_findWays l D cI cZ a _ hN) (lw_V q73 q75 qs0 q12 q76) rfl rfl (by decide +kernel) ⟨Nat.le_of_ble_eq_true rfl, Nat.le_of_ble_eq_true rfl⟩ rfl rfl rfl hl.1 rfl (by decide) dX0_quickest_1 ⟨Nat.le_of_ble_eq_true rfl, Nat.le_of_ble_eq_true rfl⟩ (fun u H locs hFW hP hD hS => ?_)
  obtain ⟨fl1, qk1, rc1, ll1, wy1, wt1, wa1⟩ := u
  obtain ⟨k, hke, hFW1⟩ := hFW
  have hke : wy1 = (k : Int) := hke
  subst hke
  have hFW1 : mq_FW n fr to wd ti k wt1 wa1 := hFW1
  have hP : va_P D vwCl (wX cI cZ a (n : Int) fr to wd ti fl1 qk1 rc1 ll1 (k : Int) wt1 wa1) H := hP
  have hD : va_D A (wX cI cZ a (n : Int) fr to wd ti fl1 qk1 rc1 ll1 (k : Int) wt1 wa1) := hD
  have hk1 := hFW1.1
  refine z_iconst hx hb dX0_quickest_4 ?_
  refine lv_istore_n (lv' := [(2, .int (zI 0)), (0, .ref (a 0)), (1, .int (zI am))]) hx hb dX0_quickest_5 rfl hl (by decide) rfl (fun ls hl => ?_)
  have L1 : ∀ (g q : Nat), q + g = 14 → q ≤ 13 → (∀ t : Nat, t < q → mq_Fk wt1 wa1 k t < am) → ∀ (H : Heap) (locs : List Loc), va_P D vwCl (wX cI cZ a (n : Int) fr to wd ti fl1 qk1 rc1 ll1 (k : Int) wt1 wa1) H → va_D A (wX cI cZ a (n : Int) fr to wd ti fl1 qk1 rc1 ll1 (k : Int) wt1 wa1) → va_S A s.heap H locs → ∀ (ls : Array Slot), lv_has ls 4 [(0, .ref (a 0)), (1, .int (zI am)), (2, .int (zI (q : Int)))] → W p l e (zRm 3 72) s m ([.ref (a 0), .int (zI am)] : List Value).toArray below meth c H locs 0 0 (MQ below (zQi D vwCl (zT cI cZ) (fun r (u : zS7) => ∃ x : Int, r = zI x ∧ mq_Qst n fr to wd ti am x) (fun u => wS cI cZ a n fr to wd ti u) A) ([.ref (a 0), .int (zI am)] : List Value).toArray s 0 0 A) (F0 m 6 ls []) := by
    intro g
    induction g with
    | zero => intro q h1 h2; omega
    | succ g ih =>
      intro q hqg hq13 hlt H locs hP hD hS ls hl
      refine lv_iload_n hx hb dX0_quickest_6 rfl (lv_at hl 2 rfl) ?_
      refine z_bipush hx hb dX0_quickest_7 (by decide) ?_
      refine z_icmp_gt (tgt := 31) hx hb dX0_quickest_9 (by decide) (by omega) (by omega) (fun c_9 => ?_) (fun c_9 => ?_)
      · refine z_iconst hx hb dX0_quickest_31 ?_
        exact z_iret hx hb hr hlocks (v := -1) (fl1, qk1, rc1, ll1, (k : Int), wt1, wa1) hS hP hK hD ⟨_, rfl, Or.inl ⟨rfl, fun t ht => ⟨_, hFW1.2.2.2.1 t (by omega), hlt t (by omega)⟩⟩⟩ dX0_quickest_32
      · refine lv_aload_n hx hb dX0_quickest_12 rfl (lv_at hl 0 rfl) ?_
        refine lv_iload_n hx hb dX0_quickest_13 rfl (lv_at hl 2 rfl) ?_
        have hin := mq_Fk_in (wt := wt1) (wa := wa1) (k := k) (t := (q : Int)) (by omega) hFW1.2.1
        refine z_calli (As := [.int (zI (q : Int))]) (rest := []) (n := 1) (C := RX0) (T := TX0) (N := 12) (ci := 0) hx hb hml hown hts hK hP hD hS hA (m_sumFor (wy := 0) l D cI cZ a _ k (q : Int) (by omega) (by omega) hFW1.2.1) (lw_V q93 q95 qs5 q12 q96) rfl rfl (by decide +kernel) ⟨Nat.le_of_ble_eq_true rfl, Nat.le_of_ble_eq_true rfl⟩ rfl rfl rfl hl.1 rfl (by decide) dX0_quickest_14 ⟨Nat.le_of_ble_eq_true rfl, Nat.le_of_ble_eq_true rfl⟩ (fun r32 u H locs hw hP hD hS => ?_)
        subst hw
        have hP : va_P D vwCl (wX cI cZ a (n : Int) fr to wd ti fl1 qk1 rc1 ll1 (k : Int) wt1 wa1) H := hP
        have hD : va_D A (wX cI cZ a (n : Int) fr to wd ti fl1 qk1 rc1 ll1 (k : Int) wt1 wa1) := hD
        refine lv_istore_n (lv' := [(3, .int (zI (mq_Fk wt1 wa1 k (q : Int)))), (0, .ref (a 0)), (1, .int (zI am)), (2, .int (zI (q : Int)))]) hx hb dX0_quickest_17 rfl hl (by decide) rfl (fun ls hl => ?_)
        refine lv_iload_n hx hb dX0_quickest_18 rfl (lv_at hl 0 rfl) ?_
        refine lv_iload_n hx hb dX0_quickest_19 rfl (lv_at hl 2 rfl) ?_
        refine z_icmp_lt (tgt := 25) hx hb dX0_quickest_20 (by decide) (by omega) (by omega) (fun c_20 => ?_) (fun c_20 => ?_)
        · refine z_iinc (y := ((q + 1 : Nat) : Int)) (lv' := [(2, .int (zI ((q + 1 : Nat) : Int))), (3, .int (zI (mq_Fk wt1 wa1 k (q : Int)))), (0, .ref (a 0)), (1, .int (zI am))]) hx hb dX0_quickest_25 hl (k := 3) rfl (by omega) (by decide) rfl (fun ls hl => ?_)
          refine lv_goto (tgt := 6) hx hb dX0_quickest_28 (by decide) ?_
          exact ih (q + 1) (by omega) (by omega) (fun t ht => by rcases Nat.lt_or_ge t q with z | z; exact hlt t z; rw [show t = q by omega]; omega) H locs hP hD hS ls (lv_sub hl [2, 3, 0] rfl)
        · refine lv_iload_n hx hb dX0_quickest_23 rfl (lv_at hl 3 rfl) ?_
          exact z_iret hx hb hr hlocks (v := (q : Int)) (fl1, qk1, rc1, ll1, (k : Int), wt1, wa1) hS hP hK hD ⟨_, rfl, Or.inr ⟨q, by omega, rfl, ⟨_, hFW1.2.2.2.1 q (by omega), by omega⟩, fun t ht => ⟨_, hFW1.2.2.2.1 t (by omega), hlt t ht⟩⟩⟩ dX0_quickest_24
  exact L1 14 0 (by omega) (by omega) (fun t ht => absurd ht (by omega)) H locs hP hD hS ls (lv_sub hl [1, 2, 0] rfl)
set_option maxHeartbeats 8000000 in
set_option maxRecDepth 100000 in
theorem m_first (l : Launch) (D : va_G) (cI cZ : ClassId) (a : Nat → Nat) (sz : Nat) {n : Nat} {fr to wd ti fl qk rc ll : Nat → Int} {wy : Int} {wt wa : Nat → Int} (hN : mq_Net n fr to wd ti) :
    zMI l yX0_first cX0_first 1 (some .int) (zRm 3 72) [.ref (a 0)] D vwCl (zT cI cZ) sz (wX cI cZ a (n : Int) fr to wd ti fl qk rc ll wy wt wa)
      (fun r (u : zS7) => ∃ x : Int, r = zI x ∧ mq_Qst n fr to wd ti 1 x) (fun u => wS cI cZ a n fr to wd ti u) := by
  refine z_metI (by decide) (Nat.le_of_ble_eq_true rfl) ?_
  intro p e s m below meth c A ls hG
  obtain ⟨hx, hb, hr, hlocks, hml, hown, hts, hP, hK, hD, hS, hA, hl⟩ := hG
  have hown : s.vm.findClass RX0 = some m.cls := hown
  have hn8 := hN.1
  have hl : lv_has ls 1 [(0, .ref (a 0))] := hl
  refine lv_aload_n hx hb dX0_first_0 rfl (lv_at hl 0 rfl) ?_
  refine z_callv (As := []) (rest := []) (n := 0) (C := RX0) (T := TX0) (N := 12) (ci := 0) hx hb hml hown hts hK hP hD hS hA (m_findWays l D cI cZ a _ hN) (lw_V q73 q75 qs0 q12 q76) rfl rfl (by decide +kernel) ⟨Nat.le_of_ble_eq_true rfl, Nat.le_of_ble_eq_true rfl⟩ rfl rfl rfl hl.1 rfl (by decide) dX0_first_1 ⟨Nat.le_of_ble_eq_true rfl, Nat.le_of_ble_eq_true rfl⟩ (fun u H locs hFW hP hD hS => ?_)
  obtain ⟨fl1, qk1, rc1, ll1, wy1, wt1, wa1⟩ := u
  obtain ⟨k, hke, hFW1⟩ := hFW
  have hke : wy1 = (k : Int) := hke
  subst hke
  have hFW1 : mq_FW n fr to wd ti k wt1 wa1 := hFW1
  have hP : va_P D vwCl (wX cI cZ a (n : Int) fr to wd ti fl1 qk1 rc1 ll1 (k : Int) wt1 wa1) H := hP
  have hD : va_D A (wX cI cZ a (n : Int) fr to wd ti fl1 qk1 rc1 ll1 (k : Int) wt1 wa1) := hD
  have hk1 := hFW1.1
  refine lv_aload_n hx hb dX0_first_4 rfl (lv_at hl 0 rfl) ?_
  refine va_get (D := D) (ci := 0) (v := .int (zI (k : Int))) (C := RX0) (T := TX0) (N := 12) hx hb hts in_X0 hown hK hP 0 rfl rfl 9 (by decide) (hts _ q31) (fun _ h9 => h9) rfl dX0_first_5 ?_
  refine z_if_ne (tgt := 15) hx hb dX0_first_8 (by decide) (by omega) (fun c_8 => ?_) (fun c_8 => ?_)
  · refine lv_aload_n hx hb dX0_first_15 rfl (lv_at hl 0 rfl) ?_
    refine va_get (D := D) (ci := 0) (v := .ref (a 9)) (C := RX0) (T := TX0) (N := 12) hx hb hts in_X0 hown hK hP 0 rfl rfl 10 (by decide) (hts _ q32) (fun _ h9 => h9) rfl dX0_first_16 ?_
    refine z_iconst hx hb dX0_first_19 ?_
    refine z_iald hx hb hK hP 9 0 rfl rfl (by omega) (by decide) (v := wt1 0) (congrArg _ (show (0 : Int).toNat = 0 by omega)) dX0_first_20 ?_
    exact z_iret hx hb hr hlocks (v := wt1 0) (fl1, qk1, rc1, ll1, (k : Int), wt1, wa1) hS hP hK hD ⟨_, rfl, by have := mq_first hFW1; (first | rw [if_pos (show k = 0 by omega)] at this | rw [if_neg (show ¬ k = 0 by omega)] at this); exact this⟩ dX0_first_21
  · refine z_iconst hx hb dX0_first_11 ?_
    refine lv_goto (tgt := 21) hx hb dX0_first_12 (by decide) ?_
    exact z_iret hx hb hr hlocks (v := -1) (fl1, qk1, rc1, ll1, (k : Int), wt1, wa1) hS hP hK hD ⟨_, rfl, by have := mq_first hFW1; (first | rw [if_pos (show k = 0 by omega)] at this | rw [if_neg (show ¬ k = 0 by omega)] at this); exact this⟩ dX0_first_21
set_option maxHeartbeats 8000000 in
set_option maxRecDepth 100000 in
theorem m_steady (l : Launch) (D : va_G) (cI cZ : ClassId) (a : Nat → Nat) (sz : Nat) {n : Nat} {fr to wd ti fl qk rc ll : Nat → Int} {wy : Int} {wt wa : Nat → Int} (hN : mq_Net n fr to wd ti) :
    zMI l yX0_steady cX0_steady 3 (some .int) (zRm 3 72) [.ref (a 0)] D vwCl (zT cI cZ) sz (wX cI cZ a (n : Int) fr to wd ti fl qk rc ll wy wt wa)
      (fun r (u : zS7) => ∃ x : Int, r = zI x ∧ mq_Std n fr to wd ti x) (fun u => wS cI cZ a n fr to wd ti u) := by
  refine z_metI (by decide) (Nat.le_of_ble_eq_true rfl) ?_
  intro p e s m below meth c A ls hG
  obtain ⟨hx, hb, hr, hlocks, hml, hown, hts, hP, hK, hD, hS, hA, hl⟩ := hG
  have hown : s.vm.findClass RX0 = some m.cls := hown
  have hn8 := hN.1
  have hl : lv_has ls 3 [(0, .ref (a 0))] := hl
  refine lv_aload_n hx hb dX0_steady_0 rfl (lv_at hl 0 rfl) ?_
  refine z_callv (As := []) (rest := []) (n := 0) (C := RX0) (T := TX0) (N := 12) (ci := 0) hx hb hml hown hts hK hP hD hS hA (m_findWays l D cI cZ a _ hN) (lw_V q73 q75 qs0 q12 q76) rfl rfl (by decide +kernel) ⟨Nat.le_of_ble_eq_true rfl, Nat.le_of_ble_eq_true rfl⟩ rfl rfl rfl hl.1 rfl (by decide) dX0_steady_1 ⟨Nat.le_of_ble_eq_true rfl, Nat.le_of_ble_eq_true rfl⟩ (fun u H locs hFW hP hD hS => ?_)
  obtain ⟨fl1, qk1, rc1, ll1, wy1, wt1, wa1⟩ := u
  obtain ⟨k, hke, hFW1⟩ := hFW
  have hke : wy1 = (k : Int) := hke
  subst hke
  have hFW1 : mq_FW n fr to wd ti k wt1 wa1 := hFW1
  have hP : va_P D vwCl (wX cI cZ a (n : Int) fr to wd ti fl1 qk1 rc1 ll1 (k : Int) wt1 wa1) H := hP
  have hD : va_D A (wX cI cZ a (n : Int) fr to wd ti fl1 qk1 rc1 ll1 (k : Int) wt1 wa1) := hD
  have hk1 := hFW1.1
  refine z_iconst hx hb dX0_steady_4 ?_
  refine lv_istore_n (lv' := [(1, .int (zI 0)), (0, .ref (a 0))]) hx hb dX0_steady_5 rfl hl (by decide) rfl (fun ls hl => ?_)
  refine z_iconst hx hb dX0_steady_6 ?_
  refine lv_istore_n (lv' := [(2, .int (zI 0)), (1, .int (zI 0)), (0, .ref (a 0))]) hx hb dX0_steady_7 rfl hl (by decide) rfl (fun ls hl => ?_)
  have L1 : ∀ (g i : Nat), i + g = k + 1 → i ≤ k → ∀ (H : Heap) (locs : List Loc), va_P D vwCl (wX cI cZ a (n : Int) fr to wd ti fl1 qk1 rc1 ll1 (k : Int) wt1 wa1) H → va_D A (wX cI cZ a (n : Int) fr to wd ti fl1 qk1 rc1 ll1 (k : Int) wt1 wa1) → va_S A s.heap H locs → ∀ (ls : Array Slot), lv_has ls 3 [(0, .ref (a 0)), (1, .int (zI (mq_sm wa1 i))), (2, .int (zI (i : Int)))] → W p l e (zRm 3 72) s m ([.ref (a 0)] : List Value).toArray below meth c H locs 0 0 (MQ below (zQi D vwCl (zT cI cZ) (fun r (u : zS7) => ∃ x : Int, r = zI x ∧ mq_Std n fr to wd ti x) (fun u => wS cI cZ a n fr to wd ti u) A) ([.ref (a 0)] : List Value).toArray s 0 0 A) (F0 m 8 ls []) := by
    intro g
    induction g with
    | zero => intro i h1 h2; omega
    | succ g ih =>
      intro i hig hik H locs hP hD hS ls hl
      refine lv_iload_n hx hb dX0_steady_8 rfl (lv_at hl 2 rfl) ?_
      refine lv_aload_n hx hb dX0_steady_9 rfl (lv_at hl 0 rfl) ?_
      refine va_get (D := D) (ci := 0) (v := .int (zI (k : Int))) (C := RX0) (T := TX0) (N := 12) hx hb hts in_X0 hown hK hP 0 rfl rfl 9 (by decide) (hts _ q31) (fun _ h9 => h9) rfl dX0_steady_10 ?_
      refine z_icmp_ge (tgt := 31) hx hb dX0_steady_13 (by decide) (by omega) (by omega) (fun c_13 => ?_) (fun c_13 => ?_)
      · refine lv_iload_n hx hb dX0_steady_31 rfl (lv_at hl 1 rfl) ?_
        have e0 : i = k := by omega
        subst e0
        exact z_iret hx hb hr hlocks (v := mq_sm wa1 i) (fl1, qk1, rc1, ll1, (i : Int), wt1, wa1) hS hP hK hD ⟨_, rfl, hFW1.2.2.2.2⟩ dX0_steady_32
      · refine lv_iload_n hx hb dX0_steady_16 rfl (lv_at hl 1 rfl) ?_
        refine lv_aload_n hx hb dX0_steady_17 rfl (lv_at hl 0 rfl) ?_
        refine va_get (D := D) (ci := 0) (v := .ref (a 10)) (C := RX0) (T := TX0) (N := 12) hx hb hts in_X0 hown hK hP 0 rfl rfl 11 (by decide) (hts _ q33) (fun _ h9 => h9) rfl dX0_steady_18 ?_
        refine lv_iload_n hx hb dX0_steady_21 rfl (lv_at hl 2 rfl) ?_
        refine z_iald hx hb hK hP 10 0 rfl rfl (by omega) (by decide) (v := wa1 i) (congrArg _ (show ((i : Int) : Int).toNat = i by omega)) dX0_steady_22 ?_
        refine z_iadd hx hb dX0_steady_23 ?_
        refine z_top (y := mq_sm wa1 (i + 1)) rfl ?_
        refine lv_istore_n (lv' := [(1, .int (zI (mq_sm wa1 (i + 1)))), (0, .ref (a 0)), (2, .int (zI (i : Int)))]) hx hb dX0_steady_24 rfl hl (by decide) rfl (fun ls hl => ?_)
        refine z_iinc (y := ((i + 1 : Nat) : Int)) (lv' := [(2, .int (zI ((i + 1 : Nat) : Int))), (1, .int (zI (mq_sm wa1 (i + 1)))), (0, .ref (a 0))]) hx hb dX0_steady_25 hl (k := 2) rfl (by omega) (by decide) rfl (fun ls hl => ?_)
        refine lv_goto (tgt := 8) hx hb dX0_steady_28 (by decide) ?_
        exact ih (i + 1) (by omega) (by omega) H locs hP hD hS ls (lv_sub hl [2, 1, 0] rfl)
  exact L1 (k + 1) 0 (by omega) (by omega) H locs hP hD hS ls (lv_sub hl [2, 1, 0] rfl)
set_option maxHeartbeats 8000000 in
set_option maxRecDepth 100000 in
theorem m_gain (l : Launch) (D : va_G) (cI cZ : ClassId) (a : Nat → Nat) (sz : Nat) {n : Nat} {fr to wd ti fl qk rc ll : Nat → Int} {wy : Int} {wt wa : Nat → Int} (j t : Int) (hj : -2147483648 ≤ j ∧ j ≤ 2147483647) (ht : -2147483648 ≤ t ∧ t ≤ 2147483647) (hN : mq_Net n fr to wd ti) (hN2 : ∀ q, q < n → mq_Net n fr to (va_up wd q (wd q + 1)) ti) :
    zMI l yX0_gain cX0_gain 5 (some .int) (zRm 3 72) [.ref (a 0), .int (zI j), .int (zI t)] D vwCl (zT cI cZ) sz (wX cI cZ a (n : Int) fr to wd ti fl qk rc ll wy wt wa)
      (fun r (u : zS7) => ∃ x : Int, r = zI x ∧ mq_Gn n fr to wd ti j t x) (fun u => wS cI cZ a n fr to wd ti u) := by
  refine z_metI (by decide) (Nat.le_of_ble_eq_true rfl) ?_
  intro p e s m below meth c A ls hG
  obtain ⟨hx, hb, hr, hlocks, hml, hown, hts, hP, hK, hD, hS, hA, hl⟩ := hG
  have hown : s.vm.findClass RX0 = some m.cls := hown
  have hn8 := hN.1
  have hl : lv_has ls 5 [(0, .ref (a 0)), (1, .int (zI j)), (2, .int (zI t))] := hl
  refine lv_iload_n hx hb dX0_gain_0 rfl (lv_at hl 2 rfl) ?_
  refine z_if_lt (tgt := 22) hx hb dX0_gain_1 (by decide) (by omega) (fun c_1 => ?_) (fun c_1 => ?_)
  · refine z_iconst hx hb dX0_gain_22 ?_
    exact z_iret hx hb hr hlocks (v := -1) (fl, qk, rc, ll, wy, wt, wa) hS hP hK hD ⟨-1, rfl, by unfold mq_Gn; rw [if_neg (by omega)]⟩ dX0_gain_23
  · refine lv_iload_n hx hb dX0_gain_4 rfl (lv_at hl 2 rfl) ?_
    refine z_bipush hx hb dX0_gain_5 (by decide) ?_
    refine z_icmp_gt (tgt := 22) hx hb dX0_gain_7 (by decide) (by omega) (by omega) (fun c_7 => ?_) (fun c_7 => ?_)
    · refine z_iconst hx hb dX0_gain_22 ?_
      exact z_iret hx hb hr hlocks (v := -1) (fl, qk, rc, ll, wy, wt, wa) hS hP hK hD ⟨-1, rfl, by unfold mq_Gn; rw [if_neg (by omega)]⟩ dX0_gain_23
    · refine lv_iload_n hx hb dX0_gain_10 rfl (lv_at hl 1 rfl) ?_
      refine z_if_lt (tgt := 22) hx hb dX0_gain_11 (by decide) (by omega) (fun c_11 => ?_) (fun c_11 => ?_)
      · refine z_iconst hx hb dX0_gain_22 ?_
        exact z_iret hx hb hr hlocks (v := -1) (fl, qk, rc, ll, wy, wt, wa) hS hP hK hD ⟨-1, rfl, by unfold mq_Gn; rw [if_neg (by omega)]⟩ dX0_gain_23
      · refine lv_iload_n hx hb dX0_gain_14 rfl (lv_at hl 1 rfl) ?_
        refine lv_aload_n hx hb dX0_gain_15 rfl (lv_at hl 0 rfl) ?_
        refine va_get (D := D) (ci := 0) (v := .int (zI (n : Int))) (C := RX0) (T := TX0) (N := 12) hx hb hts in_X0 hown hK hP 0 rfl rfl 0 (by decide) (hts _ q22) (fun _ h9 => h9) rfl dX0_gain_16 ?_
        refine z_icmp_lt (tgt := 24) hx hb dX0_gain_19 (by decide) (by omega) (by omega) (fun c_19 => ?_) (fun c_19 => ?_)
        · refine lv_aload_n hx hb dX0_gain_24 rfl (lv_at hl 0 rfl) ?_
          refine z_callv (As := []) (rest := []) (n := 0) (C := RX0) (T := TX0) (N := 12) (ci := 0) hx hb hml hown hts hK hP hD hS hA (m_findWays l D cI cZ a _ hN) (lw_V q73 q75 qs0 q12 q76) rfl rfl (by decide +kernel) ⟨Nat.le_of_ble_eq_true rfl, Nat.le_of_ble_eq_true rfl⟩ rfl rfl rfl hl.1 rfl (by decide) dX0_gain_25 ⟨Nat.le_of_ble_eq_true rfl, Nat.le_of_ble_eq_true rfl⟩ (fun u H locs hFW hP hD hS => ?_)
          obtain ⟨fl1, qk1, rc1, ll1, wy1, wt1, wa1⟩ := u
          obtain ⟨k, hke, hFW1⟩ := hFW
          have hke : wy1 = (k : Int) := hke
          subst hke
          have hFW1 : mq_FW n fr to wd ti k wt1 wa1 := hFW1
          have hP : va_P D vwCl (wX cI cZ a (n : Int) fr to wd ti fl1 qk1 rc1 ll1 (k : Int) wt1 wa1) H := hP
          have hD : va_D A (wX cI cZ a (n : Int) fr to wd ti fl1 qk1 rc1 ll1 (k : Int) wt1 wa1) := hD
          have hk1 := hFW1.1
          refine lv_aload_n hx hb dX0_gain_28 rfl (lv_at hl 0 rfl) ?_
          refine lv_iload_n hx hb dX0_gain_29 rfl (lv_at hl 2 rfl) ?_
          refine z_calli (As := [.int (zI t)]) (rest := []) (n := 1) (C := RX0) (T := TX0) (N := 12) (ci := 0) hx hb hml hown hts hK hP hD hS hA (m_sumFor (wy := 0) l D cI cZ a _ k t (by omega) (by omega) hFW1.2.1) (lw_V q93 q95 qs5 q12 q96) rfl rfl (by decide +kernel) ⟨Nat.le_of_ble_eq_true rfl, Nat.le_of_ble_eq_true rfl⟩ rfl rfl rfl hl.1 rfl (by decide) dX0_gain_30 ⟨Nat.le_of_ble_eq_true rfl, Nat.le_of_ble_eq_true rfl⟩ (fun r32 u H locs hw hP hD hS => ?_)
          subst hw
          have hP : va_P D vwCl (wX cI cZ a (n : Int) fr to wd ti fl1 qk1 rc1 ll1 (k : Int) wt1 wa1) H := hP
          have hD : va_D A (wX cI cZ a (n : Int) fr to wd ti fl1 qk1 rc1 ll1 (k : Int) wt1 wa1) := hD
          refine lv_istore_n (lv' := [(3, .int (zI (mq_Fk wt1 wa1 k t))), (0, .ref (a 0)), (1, .int (zI j)), (2, .int (zI t))]) hx hb dX0_gain_33 rfl hl (by decide) rfl (fun ls hl => ?_)
          refine lv_aload_n hx hb dX0_gain_34 rfl (lv_at hl 1 rfl) ?_
          refine va_get (D := D) (ci := 0) (v := .ref (a 3)) (C := RX0) (T := TX0) (N := 12) hx hb hts in_X0 hown hK hP 0 rfl rfl 3 (by decide) (hts _ q25) (fun _ h9 => h9) rfl dX0_gain_35 ?_
          refine lv_iload_n hx hb dX0_gain_38 rfl (lv_at hl 2 rfl) ?_
          refine lv_dup2_11 hx hb dX0_gain_39 rfl rfl ?_
          refine z_iald hx hb hK hP 3 0 rfl rfl (by omega) (by decide) (v := wd (j).toNat) rfl dX0_gain_40 ?_
          refine z_iconst hx hb dX0_gain_41 ?_
          refine z_iadd hx hb dX0_gain_42 ?_
          refine z_iast hx hb hK hP hD hS 3 0 rfl rfl (by omega) (by decide) (k := (j).toNat) rfl dX0_gain_43 (fun H locs hP hD hS => ?_)
          have hP : va_P D vwCl (wX cI cZ a (n : Int) fr to (va_up wd (j).toNat ((wd (j).toNat) + 1)) ti fl1 qk1 rc1 ll1 (k : Int) wt1 wa1) H := hP
          have hD : va_D A (wX cI cZ a (n : Int) fr to (va_up wd (j).toNat ((wd (j).toNat) + 1)) ti fl1 qk1 rc1 ll1 (k : Int) wt1 wa1) := hD
          refine lv_aload_n hx hb dX0_gain_44 rfl (lv_at hl 1 rfl) ?_
          refine z_callv (As := []) (rest := []) (n := 0) (C := RX0) (T := TX0) (N := 12) (ci := 0) hx hb hml hown hts hK hP hD hS hA (m_findWays l D cI cZ a _ (hN2 j.toNat (by omega))) (lw_V q73 q75 qs0 q12 q76) rfl rfl (by decide +kernel) ⟨Nat.le_of_ble_eq_true rfl, Nat.le_of_ble_eq_true rfl⟩ rfl rfl rfl hl.1 rfl (by decide) dX0_gain_45 ⟨Nat.le_of_ble_eq_true rfl, Nat.le_of_ble_eq_true rfl⟩ (fun u H locs hFW hP hD hS => ?_)
          obtain ⟨fl2, qk2, rc2, ll2, wy2, wt2, wa2⟩ := u
          obtain ⟨k2, hke, hFW2⟩ := hFW
          have hke : wy2 = (k2 : Int) := hke
          subst hke
          have hFW2 : mq_FW n fr to (va_up wd (j).toNat ((wd (j).toNat) + 1)) ti k2 wt2 wa2 := hFW2
          have hP : va_P D vwCl (wX cI cZ a (n : Int) fr to (va_up wd (j).toNat ((wd (j).toNat) + 1)) ti fl2 qk2 rc2 ll2 (k2 : Int) wt2 wa2) H := hP
          have hD : va_D A (wX cI cZ a (n : Int) fr to (va_up wd (j).toNat ((wd (j).toNat) + 1)) ti fl2 qk2 rc2 ll2 (k2 : Int) wt2 wa2) := hD
          have hk2 := hFW2.1
          refine lv_aload_n hx hb dX0_gain_48 rfl (lv_at hl 1 rfl) ?_
          refine lv_iload_n hx hb dX0_gain_49 rfl (lv_at hl 3 rfl) ?_
          refine z_calli (As := [.int (zI t)]) (rest := []) (n := 1) (C := RX0) (T := TX0) (N := 12) (ci := 0) hx hb hml hown hts hK hP hD hS hA (m_sumFor (wy := 0) l D cI cZ a _ k2 t (by omega) (by omega) hFW2.2.1) (lw_V q93 q95 qs5 q12 q96) rfl rfl (by decide +kernel) ⟨Nat.le_of_ble_eq_true rfl, Nat.le_of_ble_eq_true rfl⟩ rfl rfl rfl hl.1 rfl (by decide) dX0_gain_50 ⟨Nat.le_of_ble_eq_true rfl, Nat.le_of_ble_eq_true rfl⟩ (fun r32 u H locs hw hP hD hS => ?_)
          subst hw
          have hP : va_P D vwCl (wX cI cZ a (n : Int) fr to (va_up wd (j).toNat ((wd (j).toNat) + 1)) ti fl2 qk2 rc2 ll2 (k2 : Int) wt2 wa2) H := hP
          have hD : va_D A (wX cI cZ a (n : Int) fr to (va_up wd (j).toNat ((wd (j).toNat) + 1)) ti fl2 qk2 rc2 ll2 (k2 : Int) wt2 wa2) := hD
          refine lv_istore (lv' := [(4, .int (zI (mq_Fk wt2 wa2 k2 t))), (3, .int (zI (mq_Fk wt1 wa1 k t))), (0, .ref (a 0)), (1, .int (zI j)), (2, .int (zI t))]) hx hb dX0_gain_53 hl (by decide) rfl (fun ls hl => ?_)
          refine lv_aload_n hx hb dX0_gain_55 rfl (lv_at hl 2 rfl) ?_
          refine va_get (D := D) (ci := 0) (v := .ref (a 3)) (C := RX0) (T := TX0) (N := 12) hx hb hts in_X0 hown hK hP 0 rfl rfl 3 (by decide) (hts _ q25) (fun _ h9 => h9) rfl dX0_gain_56 ?_
          refine lv_iload_n hx hb dX0_gain_59 rfl (lv_at hl 3 rfl) ?_
          refine lv_dup2_11 hx hb dX0_gain_60 rfl rfl ?_
          refine z_iald hx hb hK hP 3 0 rfl rfl (by omega) (by decide) (v := (wd j.toNat + 1)) (va_up_self _ _ _) dX0_gain_61 ?_
          refine z_iconst hx hb dX0_gain_62 ?_
          refine z_isub hx hb dX0_gain_63 ?_
          refine z_iast hx hb hK hP hD hS 3 0 rfl rfl (by omega) (by decide) (k := (j).toNat) rfl dX0_gain_64 (fun H locs hP hD hS => ?_)
          have hP : va_P D vwCl (wX cI cZ a (n : Int) fr to (va_up (va_up wd (j).toNat ((wd (j).toNat) + 1)) (j).toNat ((wd j.toNat + 1) - 1)) ti fl2 qk2 rc2 ll2 (k2 : Int) wt2 wa2) H := hP
          have hD : va_D A (wX cI cZ a (n : Int) fr to (va_up (va_up wd (j).toNat ((wd (j).toNat) + 1)) (j).toNat ((wd j.toNat + 1) - 1)) ti fl2 qk2 rc2 ll2 (k2 : Int) wt2 wa2) := hD
          refine lv_iload hx hb dX0_gain_65 (lv_at hl 0 rfl) ?_
          refine lv_iload_n hx hb dX0_gain_67 rfl (lv_at hl 1 rfl) ?_
          refine z_isub hx hb dX0_gain_68 ?_
          have hwb : va_up (va_up wd j.toNat (wd j.toNat + 1)) j.toNat (wd j.toNat + 1 - 1) = wd := by rw [bx_uu]; funext i; by_cases z : i = j.toNat; rw [z, va_up_self]; omega; rw [va_up_ne _ _ z]
          rw [hwb] at hP hD
          exact z_iret hx hb hr hlocks (v := (mq_Fk wt2 wa2 k2 t) - (mq_Fk wt1 wa1 k t)) (fl2, qk2, rc2, ll2, (k2 : Int), wt2, wa2) hS hP hK hD ⟨_, rfl, by unfold mq_Gn; rw [if_pos (by omega)]; exact ⟨_, _, by have := hFW1.2.2.2.1 t.toNat (by omega); rw [show ((t.toNat : Nat) : Int) = t by omega] at this; exact this, by have := hFW2.2.2.2.1 t.toNat (by omega); rw [show ((t.toNat : Nat) : Int) = t by omega] at this; exact this, rfl⟩⟩ dX0_gain_69
        · refine z_iconst hx hb dX0_gain_22 ?_
          exact z_iret hx hb hr hlocks (v := -1) (fl, qk, rc, ll, wy, wt, wa) hS hP hK hD ⟨-1, rfl, by unfold mq_Gn; rw [if_neg (by omega)]⟩ dX0_gain_23
end
section
/-! add and drop, as both classes do them -/
abbrev zS5 : Type := Nat × (Nat → Int) × (Nat → Int) × (Nat → Int) × (Nat → Int)
def mq_okA (n : Nat) (p1 p2 p3 p4 : Int) : Prop := n < 8 ∧ (0 ≤ p1 ∧ p1 ≤ 4) ∧ (0 ≤ p2 ∧ p2 ≤ 4) ∧ p1 ≠ p2 ∧ (1 ≤ p3 ∧ p3 ≤ 4) ∧ (0 ≤ p4 ∧ p4 ≤ 3)
def mq_Add (n : Nat) (fr to wd ti : Nat → Int) (p1 p2 p3 p4 r : Int) (u : zS5) : Prop := (mq_okA n p1 p2 p3 p4 ∧ r = ((n + 1 : Nat) : Int) ∧ u = (n + 1, va_up fr n p1, va_up to n p2, va_up wd n p3, va_up ti n p4)) ∨ (¬ mq_okA n p1 p2 p3 p4 ∧ r = -1 ∧ u = (n, fr, to, wd, ti))
def mq_sh (f : Nat → Int) (k l : Nat) : Nat → Int := fun i => if k ≤ i ∧ i < l then f (i + 1) else f i
theorem mq_sh_0 (f : Nat → Int) (k : Nat) : mq_sh f k k = f := by
  funext i
  show (if k ≤ i ∧ i < k then f (i + 1) else f i) = f i
  rw [if_neg (by omega)]
theorem mq_sh_at (f : Nat → Int) (k l : Nat) : mq_sh f k l (l + 1) = f (l + 1) := by
  show (if k ≤ l + 1 ∧ l + 1 < l then f (l + 1 + 1) else f (l + 1)) = f (l + 1)
  rw [if_neg (by omega)]
theorem mq_sh_s {f : Nat → Int} {k l : Nat} (h : k ≤ l) : va_up (mq_sh f k l) l (f (l + 1)) = mq_sh f k (l + 1) := by
  funext i
  show (if i = l then f (l + 1) else if k ≤ i ∧ i < l then f (i + 1) else f i) = if k ≤ i ∧ i < l + 1 then f (i + 1) else f i
  by_cases e : i = l
  · rw [if_pos e, if_pos (by omega), e]
  · rw [if_neg e]
    by_cases q : k ≤ i ∧ i < l
    · rw [if_pos q, if_pos (by omega)]
    · rw [if_neg q, if_neg (by omega)]
def mq_Drp (n : Nat) (fr to wd ti : Nat → Int) (j r : Int) (u : zS5) : Prop := ((0 ≤ j ∧ j < (n : Int)) ∧ r = ((n - 1 : Nat) : Int) ∧ u = (n - 1, mq_sh fr j.toNat (n - 1), mq_sh to j.toNat (n - 1), mq_sh wd j.toNat (n - 1), mq_sh ti j.toNat (n - 1))) ∨ (¬ (0 ≤ j ∧ j < (n : Int)) ∧ r = -1 ∧ u = (n, fr, to, wd, ti))
/-- the network of the law: widths up to 4 -/
def mq_NetL (n : Nat) (fr to wd ti : Nat → Int) : Prop := n ≤ 8 ∧ (∀ j, j < 8 → (0 ≤ fr j ∧ fr j ≤ 4) ∧ (0 ≤ to j ∧ to j ≤ 4) ∧ (0 ≤ ti j ∧ ti j ≤ 3)) ∧ ∀ j, j < n → fr j ≠ to j ∧ 1 ≤ wd j ∧ wd j ≤ 4
theorem mq_NetL_sm {n : Nat} {fr to wd ti : Nat → Int} (h : mq_NetL n fr to wd ti) : mq_sm wd n ≤ 32 := by
  have h1 : mq_sm wd n ≤ mq_sm (fun _ => 4) n := mq_sm_le (fun j hj => (h.2.2 j hj).2.2)
  rw [mq_sm_const] at h1
  have := h.1
  omega
theorem mq_NetL_N {n : Nat} {fr to wd ti : Nat → Int} (h : mq_NetL n fr to wd ti) : mq_Net n fr to wd ti := by
  have := mq_NetL_sm h
  exact ⟨h.1, h.2.1, fun j hj => by have := h.2.2 j hj; exact ⟨this.1, by omega, by omega⟩, by omega⟩
theorem mq_NetL_N2 {n : Nat} {fr to wd ti : Nat → Int} (h : mq_NetL n fr to wd ti) : ∀ q, q < n → mq_Net n fr to (va_up wd q (wd q + 1)) ti := by
  intro q hq
  have hs := mq_NetL_sm h
  refine ⟨h.1, h.2.1, fun j hj => ?_, by rw [mq_sm_up hq]; omega⟩
  have := h.2.2 j hj
  by_cases e : j = q
  · rw [e, va_up_self]
    rw [e] at this
    exact ⟨this.1, by omega, by omega⟩
  · rw [va_up_ne _ _ e]
    exact ⟨this.1, by omega, by omega⟩
theorem mq_NetL_0 : mq_NetL 0 (fun _ => 0) (fun _ => 0) (fun _ => 0) (fun _ => 0) := ⟨by omega, fun _ _ => by simp, fun j hj => absurd hj (by omega)⟩
theorem mq_NetL_add {n : Nat} {fr to wd ti : Nat → Int} {p1 p2 p3 p4 r : Int} {u : zS5} (h : mq_NetL n fr to wd ti) (ha : mq_Add n fr to wd ti p1 p2 p3 p4 r u) : mq_NetL u.1 u.2.1 u.2.2.1 u.2.2.2.1 u.2.2.2.2 := by
  rcases ha with ⟨⟨a1, a2, a3, a4, a5, a6⟩, -, rfl⟩ | ⟨-, -, rfl⟩
  · obtain ⟨h1, h2, h3⟩ := h
    refine ⟨by show n + 1 ≤ 8; omega, fun j hj => ?_, fun j hj => ?_⟩
    · show (0 ≤ va_up fr n p1 j ∧ va_up fr n p1 j ≤ 4) ∧ (0 ≤ va_up to n p2 j ∧ va_up to n p2 j ≤ 4) ∧ (0 ≤ va_up ti n p4 j ∧ va_up ti n p4 j ≤ 3)
      by_cases e : j = n
      · rw [e, va_up_self, va_up_self, va_up_self]
        exact ⟨a2, a3, a6⟩
      · rw [va_up_ne _ _ e, va_up_ne _ _ e, va_up_ne _ _ e]
        exact h2 j hj
    · have hj : j < n + 1 := hj
      show va_up fr n p1 j ≠ va_up to n p2 j ∧ 1 ≤ va_up wd n p3 j ∧ va_up wd n p3 j ≤ 4
      by_cases e : j = n
      · rw [e, va_up_self, va_up_self, va_up_self]
        exact ⟨a4, a5.1, a5.2⟩
      · rw [va_up_ne _ _ e, va_up_ne _ _ e, va_up_ne _ _ e]
        exact h3 j (by omega)
  · exact h
theorem mq_NetL_drop {n : Nat} {fr to wd ti : Nat → Int} {j r : Int} {u : zS5} (h : mq_NetL n fr to wd ti) (ha : mq_Drp n fr to wd ti j r u) : mq_NetL u.1 u.2.1 u.2.2.1 u.2.2.2.1 u.2.2.2.2 := by
  rcases ha with ⟨hj, -, rfl⟩ | ⟨-, -, rfl⟩
  · obtain ⟨h1, h2, h3⟩ := h
    generalize j.toNat = J
    refine ⟨by show n - 1 ≤ 8; omega, fun i hi => ?_, fun i hi => ?_⟩
    · show (0 ≤ mq_sh fr J (n - 1) i ∧ mq_sh fr J (n - 1) i ≤ 4) ∧ (0 ≤ mq_sh to J (n - 1) i ∧ mq_sh to J (n - 1) i ≤ 4) ∧ (0 ≤ mq_sh ti J (n - 1) i ∧ mq_sh ti J (n - 1) i ≤ 3)
      unfold mq_sh
      by_cases e : J ≤ i ∧ i < n - 1
      · rw [if_pos e, if_pos e, if_pos e]
        exact h2 (i + 1) (by omega)
      · rw [if_neg e, if_neg e, if_neg e]
        exact h2 i hi
    · have hi : i < n - 1 := hi
      show mq_sh fr J (n - 1) i ≠ mq_sh to J (n - 1) i ∧ 1 ≤ mq_sh wd J (n - 1) i ∧ mq_sh wd J (n - 1) i ≤ 4
      unfold mq_sh
      by_cases e : J ≤ i ∧ i < n - 1
      · rw [if_pos e, if_pos e, if_pos e]
        exact h3 (i + 1) (by omega)
      · rw [if_neg e, if_neg e, if_neg e]
        exact h3 i (by omega)
  · exact h
theorem mq_Add_u {n : Nat} {fr to wd ti : Nat → Int} {p1 p2 p3 p4 r r' : Int} {u u' : zS5} (h : mq_Add n fr to wd ti p1 p2 p3 p4 r u) (h' : mq_Add n fr to wd ti p1 p2 p3 p4 r' u') : r = r' ∧ u = u' := by
  rcases h with ⟨a, b, c⟩ | ⟨a, b, c⟩ <;> rcases h' with ⟨a', b', c'⟩ | ⟨a', b', c'⟩
  · exact ⟨b.trans b'.symm, c.trans c'.symm⟩
  · exact absurd a a'
  · exact absurd a' a
  · exact ⟨b.trans b'.symm, c.trans c'.symm⟩
theorem mq_Drp_u {n : Nat} {fr to wd ti : Nat → Int} {j r r' : Int} {u u' : zS5} (h : mq_Drp n fr to wd ti j r u) (h' : mq_Drp n fr to wd ti j r' u') : r = r' ∧ u = u' := by
  rcases h with ⟨a, b, c⟩ | ⟨a, b, c⟩ <;> rcases h' with ⟨a', b', c'⟩ | ⟨a', b', c'⟩
  · exact ⟨b.trans b'.symm, c.trans c'.symm⟩
  · exact absurd a a'
  · exact absurd a' a
  · exact ⟨b.trans b'.symm, c.trans c'.symm⟩
set_option maxHeartbeats 8000000 in
set_option maxRecDepth 100000 in
theorem m_add (l : Launch) (D : va_G) (cI cZ : ClassId) (a : Nat → Nat) (sz : Nat) {n : Nat} {fr to wd ti fl qk rc ll : Nat → Int} {wy : Int} {wt wa : Nat → Int} (p1 p2 p3 p4 : Int) (hn : n ≤ 8) (r1 : -2147483648 ≤ p1 ∧ p1 ≤ 2147483647) (r2 : -2147483648 ≤ p2 ∧ p2 ≤ 2147483647) (r3 : -2147483648 ≤ p3 ∧ p3 ≤ 2147483647) (r4 : -2147483648 ≤ p4 ∧ p4 ≤ 2147483647) :
    zMI l yX0_add cX0_add 6 (some .int) (zRm 0 0) [.ref (a 0), .int (zI p1), .int (zI p2), .int (zI p3), .int (zI p4)] D vwCl (zT cI cZ) sz (wX cI cZ a (n : Int) fr to wd ti fl qk rc ll wy wt wa)
      (fun r (u : zS5) => ∃ x : Int, r = zI x ∧ mq_Add n fr to wd ti p1 p2 p3 p4 x u) (fun u => wX cI cZ a (u.1 : Int) u.2.1 u.2.2.1 u.2.2.2.1 u.2.2.2.2 fl qk rc ll wy wt wa) := by
  refine z_metI (by decide) (Nat.le_of_ble_eq_true rfl) ?_
  intro p e s m below meth c A ls hG
  obtain ⟨hx, hb, hr, hlocks, hml, hown, hts, hP, hK, hD, hS, hA, hl⟩ := hG
  have hown : s.vm.findClass RX0 = some m.cls := hown
  have hl : lv_has ls 6 [(0, .ref (a 0)), (1, .int (zI p1)), (2, .int (zI p2)), (3, .int (zI p3)), (4, .int (zI p4))] := hl
  obtain ⟨H, hHe⟩ : ∃ H, H = s.heap := ⟨_, rfl⟩
  obtain ⟨locs, hle⟩ : ∃ q : List Loc, q = [] := ⟨_, rfl⟩
  rw [← hHe] at hP
  rw [← hHe, ← hle]
  have hS : va_S A s.heap H locs := by rw [hHe, hle]; exact va_S.rf
  have J : ∀ y : Int, ((y = 0 ∧ ¬ ((0 ≤ p1 ∧ p1 ≤ 4) ∧ (0 ≤ p2 ∧ p2 ≤ 4) ∧ p1 ≠ p2)) ∨ (y = 1 ∧ ((0 ≤ p1 ∧ p1 ≤ 4) ∧ (0 ≤ p2 ∧ p2 ≤ 4) ∧ p1 ≠ p2))) → W p l e (zRm 0 0) s m ([.ref (a 0), .int (zI p1), .int (zI p2), .int (zI p3), .int (zI p4)] : List Value).toArray below meth c H locs 0 0 (MQ below (zQi D vwCl (zT cI cZ) (fun r (u : zS5) => ∃ x : Int, r = zI x ∧ mq_Add n fr to wd ti p1 p2 p3 p4 x u) (fun u => wX cI cZ a (u.1 : Int) u.2.1 u.2.2.1 u.2.2.2.1 u.2.2.2.2 fl qk rc ll wy wt wa) A) ([.ref (a 0), .int (zI p1), .int (zI p2), .int (zI p3), .int (zI p4)] : List Value).toArray s 0 0 A) (F0 m 28 ls [.int (zI y)]) := by
    intro y hy
    refine lv_istore (lv' := [(5, .int (zI y)), (0, .ref (a 0)), (1, .int (zI p1)), (2, .int (zI p2)), (3, .int (zI p3)), (4, .int (zI p4))]) hx hb dX0_add_28 hl (by decide) rfl (fun ls hl => ?_)
    refine lv_aload_n hx hb dX0_add_30 rfl (lv_at hl 1 rfl) ?_
    refine va_get (D := D) (ci := 0) (v := .int (zI (n : Int))) (C := RX0) (T := TX0) (N := 12) hx hb hts in_X0 hown hK hP 0 rfl rfl 0 (by decide) (hts _ q22) (fun _ h9 => h9) rfl dX0_add_31 ?_
    refine z_bipush hx hb dX0_add_34 (by decide) ?_
    refine z_icmp_ge (tgt := 65) hx hb dX0_add_36 (by decide) (by omega) (by omega) (fun c_36 => ?_) (fun c_36 => ?_)
    · refine z_iconst hx hb dX0_add_65 ?_
      exact z_iret hx hb hr hlocks (v := -1) (n, fr, to, wd, ti) hS hP hK hD ⟨_, rfl, Or.inr ⟨by unfold mq_okA; omega, rfl, rfl⟩⟩ dX0_add_66
    · refine lv_iload hx hb dX0_add_39 (lv_at hl 0 rfl) ?_
      refine z_if_eq (tgt := 65) hx hb dX0_add_41 (by decide) (by omega) (fun c_41 => ?_) (fun c_41 => ?_)
      · refine z_iconst hx hb dX0_add_65 ?_
        exact z_iret hx hb hr hlocks (v := -1) (n, fr, to, wd, ti) hS hP hK hD ⟨_, rfl, Or.inr ⟨by unfold mq_okA; omega, rfl, rfl⟩⟩ dX0_add_66
      · refine lv_iload_n hx hb dX0_add_44 rfl (lv_at hl 4 rfl) ?_
        refine z_iconst hx hb dX0_add_45 ?_
        refine z_icmp_lt (tgt := 65) hx hb dX0_add_46 (by decide) (by omega) (by omega) (fun c_46 => ?_) (fun c_46 => ?_)
        · refine z_iconst hx hb dX0_add_65 ?_
          exact z_iret hx hb hr hlocks (v := -1) (n, fr, to, wd, ti) hS hP hK hD ⟨_, rfl, Or.inr ⟨by unfold mq_okA; omega, rfl, rfl⟩⟩ dX0_add_66
        · refine lv_iload_n hx hb dX0_add_49 rfl (lv_at hl 4 rfl) ?_
          refine z_iconst hx hb dX0_add_50 ?_
          refine z_icmp_gt (tgt := 65) hx hb dX0_add_51 (by decide) (by omega) (by omega) (fun c_51 => ?_) (fun c_51 => ?_)
          · refine z_iconst hx hb dX0_add_65 ?_
            exact z_iret hx hb hr hlocks (v := -1) (n, fr, to, wd, ti) hS hP hK hD ⟨_, rfl, Or.inr ⟨by unfold mq_okA; omega, rfl, rfl⟩⟩ dX0_add_66
          · refine lv_iload hx hb dX0_add_54 (lv_at hl 5 rfl) ?_
            refine z_if_lt (tgt := 65) hx hb dX0_add_56 (by decide) (by omega) (fun c_56 => ?_) (fun c_56 => ?_)
            · refine z_iconst hx hb dX0_add_65 ?_
              exact z_iret hx hb hr hlocks (v := -1) (n, fr, to, wd, ti) hS hP hK hD ⟨_, rfl, Or.inr ⟨by unfold mq_okA; omega, rfl, rfl⟩⟩ dX0_add_66
            · refine lv_iload hx hb dX0_add_59 (lv_at hl 5 rfl) ?_
              refine z_iconst hx hb dX0_add_61 ?_
              refine z_icmp_le (tgt := 67) hx hb dX0_add_62 (by decide) (by omega) (by omega) (fun c_62 => ?_) (fun c_62 => ?_)
              · refine lv_aload_n hx hb dX0_add_67 rfl (lv_at hl 1 rfl) ?_
                refine va_get (D := D) (ci := 0) (v := .ref (a 1)) (C := RX0) (T := TX0) (N := 12) hx hb hts in_X0 hown hK hP 0 rfl rfl 1 (by decide) (hts _ q23) (fun _ h9 => h9) rfl dX0_add_68 ?_
                refine lv_aload_n hx hb dX0_add_71 rfl (lv_at hl 1 rfl) ?_
                refine va_get (D := D) (ci := 0) (v := .int (zI (n : Int))) (C := RX0) (T := TX0) (N := 12) hx hb hts in_X0 hown hK hP 0 rfl rfl 0 (by decide) (hts _ q22) (fun _ h9 => h9) rfl dX0_add_72 ?_
                refine lv_iload_n hx hb dX0_add_75 rfl (lv_at hl 2 rfl) ?_
                refine z_iast hx hb hK hP hD hS 1 0 rfl rfl (by omega) (by decide) (k := n) (by omega) dX0_add_76 (fun H locs hP hD hS => ?_)
                have hP : va_P D vwCl (wX cI cZ a (n : Int) (va_up fr n p1) to wd ti fl qk rc ll wy wt wa) H := hP
                have hD : va_D A (wX cI cZ a (n : Int) (va_up fr n p1) to wd ti fl qk rc ll wy wt wa) := hD
                refine lv_aload_n hx hb dX0_add_77 rfl (lv_at hl 1 rfl) ?_
                refine va_get (D := D) (ci := 0) (v := .ref (a 2)) (C := RX0) (T := TX0) (N := 12) hx hb hts in_X0 hown hK hP 0 rfl rfl 2 (by decide) (hts _ q24) (fun _ h9 => h9) rfl dX0_add_78 ?_
                refine lv_aload_n hx hb dX0_add_81 rfl (lv_at hl 1 rfl) ?_
                refine va_get (D := D) (ci := 0) (v := .int (zI (n : Int))) (C := RX0) (T := TX0) (N := 12) hx hb hts in_X0 hown hK hP 0 rfl rfl 0 (by decide) (hts _ q22) (fun _ h9 => h9) rfl dX0_add_82 ?_
                refine lv_iload_n hx hb dX0_add_85 rfl (lv_at hl 3 rfl) ?_
                refine z_iast hx hb hK hP hD hS 2 0 rfl rfl (by omega) (by decide) (k := n) (by omega) dX0_add_86 (fun H locs hP hD hS => ?_)
                have hP : va_P D vwCl (wX cI cZ a (n : Int) (va_up fr n p1) (va_up to n p2) wd ti fl qk rc ll wy wt wa) H := hP
                have hD : va_D A (wX cI cZ a (n : Int) (va_up fr n p1) (va_up to n p2) wd ti fl qk rc ll wy wt wa) := hD
                refine lv_aload_n hx hb dX0_add_87 rfl (lv_at hl 1 rfl) ?_
                refine va_get (D := D) (ci := 0) (v := .ref (a 3)) (C := RX0) (T := TX0) (N := 12) hx hb hts in_X0 hown hK hP 0 rfl rfl 3 (by decide) (hts _ q25) (fun _ h9 => h9) rfl dX0_add_88 ?_
                refine lv_aload_n hx hb dX0_add_91 rfl (lv_at hl 1 rfl) ?_
                refine va_get (D := D) (ci := 0) (v := .int (zI (n : Int))) (C := RX0) (T := TX0) (N := 12) hx hb hts in_X0 hown hK hP 0 rfl rfl 0 (by decide) (hts _ q22) (fun _ h9 => h9) rfl dX0_add_92 ?_
                refine lv_iload_n hx hb dX0_add_95 rfl (lv_at hl 4 rfl) ?_
                refine z_iast hx hb hK hP hD hS 3 0 rfl rfl (by omega) (by decide) (k := n) (by omega) dX0_add_96 (fun H locs hP hD hS => ?_)
                have hP : va_P D vwCl (wX cI cZ a (n : Int) (va_up fr n p1) (va_up to n p2) (va_up wd n p3) ti fl qk rc ll wy wt wa) H := hP
                have hD : va_D A (wX cI cZ a (n : Int) (va_up fr n p1) (va_up to n p2) (va_up wd n p3) ti fl qk rc ll wy wt wa) := hD
                refine lv_aload_n hx hb dX0_add_97 rfl (lv_at hl 1 rfl) ?_
                refine va_get (D := D) (ci := 0) (v := .ref (a 4)) (C := RX0) (T := TX0) (N := 12) hx hb hts in_X0 hown hK hP 0 rfl rfl 4 (by decide) (hts _ q26) (fun _ h9 => h9) rfl dX0_add_98 ?_
                refine lv_aload_n hx hb dX0_add_101 rfl (lv_at hl 1 rfl) ?_
                refine va_get (D := D) (ci := 0) (v := .int (zI (n : Int))) (C := RX0) (T := TX0) (N := 12) hx hb hts in_X0 hown hK hP 0 rfl rfl 0 (by decide) (hts _ q22) (fun _ h9 => h9) rfl dX0_add_102 ?_
                refine lv_iload hx hb dX0_add_105 (lv_at hl 5 rfl) ?_
                refine z_iast hx hb hK hP hD hS 4 0 rfl rfl (by omega) (by decide) (k := n) (by omega) dX0_add_107 (fun H locs hP hD hS => ?_)
                have hP : va_P D vwCl (wX cI cZ a (n : Int) (va_up fr n p1) (va_up to n p2) (va_up wd n p3) (va_up ti n p4) fl qk rc ll wy wt wa) H := hP
                have hD : va_D A (wX cI cZ a (n : Int) (va_up fr n p1) (va_up to n p2) (va_up wd n p3) (va_up ti n p4) fl qk rc ll wy wt wa) := hD
                refine lv_aload_n hx hb dX0_add_108 rfl (lv_at hl 1 rfl) ?_
                refine lv_dup hx hb dX0_add_109 rfl ?_
                refine va_get (D := D) (ci := 0) (v := .int (zI (n : Int))) (C := RX0) (T := TX0) (N := 12) hx hb hts in_X0 hown hK hP 0 rfl rfl 0 (by decide) (hts _ q22) (fun _ h9 => h9) rfl dX0_add_110 ?_
                refine z_iconst hx hb dX0_add_113 ?_
                refine z_iadd hx hb dX0_add_114 ?_
                refine z_top (y := ((n + 1 : Nat) : Int)) (by omega) ?_
                refine va_put (D := D) (ci := 0) (v := .int (zI ((n + 1 : Nat) : Int))) (ty := .int) (C := RX0) (T := TX0) (N := 12) hx hb hts in_X0 tyX0 tyX0_ok nmX0 hown hK hP hD hS 0 rfl rfl 0 (by decide) (hts _ q22) (fun _ h9 => h9) rfl (by decide +kernel) rfl rfl (Nat.le_of_ble_eq_true rfl) dX0_add_115 (fun H locs hP hD hS => ?_)
                have hP : va_P D vwCl (wX cI cZ a ((n + 1 : Nat) : Int) (va_up fr n p1) (va_up to n p2) (va_up wd n p3) (va_up ti n p4) fl qk rc ll wy wt wa) H := hP
                have hD : va_D A (wX cI cZ a ((n + 1 : Nat) : Int) (va_up fr n p1) (va_up to n p2) (va_up wd n p3) (va_up ti n p4) fl qk rc ll wy wt wa) := hD
                refine lv_aload_n hx hb dX0_add_118 rfl (lv_at hl 1 rfl) ?_
                refine va_get (D := D) (ci := 0) (v := .int (zI ((n + 1 : Nat) : Int))) (C := RX0) (T := TX0) (N := 12) hx hb hts in_X0 hown hK hP 0 rfl rfl 0 (by decide) (hts _ q22) (fun _ h9 => h9) rfl dX0_add_119 ?_
                exact z_iret hx hb hr hlocks (v := ((n + 1 : Nat) : Int)) (n + 1, va_up fr n p1, va_up to n p2, va_up wd n p3, va_up ti n p4) hS hP hK hD ⟨_, rfl, Or.inl ⟨by unfold mq_okA; omega, rfl, rfl⟩⟩ dX0_add_122
              · refine z_iconst hx hb dX0_add_65 ?_
                exact z_iret hx hb hr hlocks (v := -1) (n, fr, to, wd, ti) hS hP hK hD ⟨_, rfl, Or.inr ⟨by unfold mq_okA; omega, rfl, rfl⟩⟩ dX0_add_66
  refine lv_iload_n hx hb dX0_add_0 rfl (lv_at hl 1 rfl) ?_
  refine z_if_lt (tgt := 27) hx hb dX0_add_1 (by decide) (by omega) (fun c_1 => ?_) (fun c_1 => ?_)
  · refine z_iconst hx hb dX0_add_27 ?_
    exact J _ (by omega)
  · refine lv_iload_n hx hb dX0_add_4 rfl (lv_at hl 1 rfl) ?_
    refine z_iconst hx hb dX0_add_5 ?_
    refine z_icmp_gt (tgt := 27) hx hb dX0_add_6 (by decide) (by omega) (by omega) (fun c_6 => ?_) (fun c_6 => ?_)
    · refine z_iconst hx hb dX0_add_27 ?_
      exact J _ (by omega)
    · refine lv_iload_n hx hb dX0_add_9 rfl (lv_at hl 2 rfl) ?_
      refine z_if_lt (tgt := 27) hx hb dX0_add_10 (by decide) (by omega) (fun c_10 => ?_) (fun c_10 => ?_)
      · refine z_iconst hx hb dX0_add_27 ?_
        exact J _ (by omega)
      · refine lv_iload_n hx hb dX0_add_13 rfl (lv_at hl 2 rfl) ?_
        refine z_iconst hx hb dX0_add_14 ?_
        refine z_icmp_gt (tgt := 27) hx hb dX0_add_15 (by decide) (by omega) (by omega) (fun c_15 => ?_) (fun c_15 => ?_)
        · refine z_iconst hx hb dX0_add_27 ?_
          exact J _ (by omega)
        · refine lv_iload_n hx hb dX0_add_18 rfl (lv_at hl 1 rfl) ?_
          refine lv_iload_n hx hb dX0_add_19 rfl (lv_at hl 2 rfl) ?_
          refine z_icmp_eq (tgt := 27) hx hb dX0_add_20 (by decide) (by omega) (by omega) (fun c_20 => ?_) (fun c_20 => ?_)
          · refine z_iconst hx hb dX0_add_27 ?_
            exact J _ (by omega)
          · refine z_iconst hx hb dX0_add_23 ?_
            refine lv_goto (tgt := 28) hx hb dX0_add_24 (by decide) ?_
            exact J _ (by omega)
set_option maxHeartbeats 8000000 in
set_option maxRecDepth 100000 in
theorem m_drop (l : Launch) (D : va_G) (cI cZ : ClassId) (a : Nat → Nat) (sz : Nat) {n : Nat} {fr to wd ti fl qk rc ll : Nat → Int} {wy : Int} {wt wa : Nat → Int} (j : Int) (hn : n ≤ 8) (hj : -2147483648 ≤ j ∧ j ≤ 2147483647) :
    zMI l yX0_drop cX0_drop 3 (some .int) (zRm 0 0) [.ref (a 0), .int (zI j)] D vwCl (zT cI cZ) sz (wX cI cZ a (n : Int) fr to wd ti fl qk rc ll wy wt wa)
      (fun r (u : zS5) => ∃ x : Int, r = zI x ∧ mq_Drp n fr to wd ti j x u) (fun u => wX cI cZ a (u.1 : Int) u.2.1 u.2.2.1 u.2.2.2.1 u.2.2.2.2 fl qk rc ll wy wt wa) := by
  refine z_metI (by decide) (Nat.le_of_ble_eq_true rfl) ?_
  intro p e s m below meth c A ls hG
  obtain ⟨hx, hb, hr, hlocks, hml, hown, hts, hP, hK, hD, hS, hA, hl⟩ := hG
  have hown : s.vm.findClass RX0 = some m.cls := hown
  have hl : lv_has ls 3 [(0, .ref (a 0)), (1, .int (zI j))] := hl
  refine lv_iload_n hx hb dX0_drop_0 rfl (lv_at hl 1 rfl) ?_
  refine z_if_lt (tgt := 12) hx hb dX0_drop_1 (by decide) (by omega) (fun c_1 => ?_) (fun c_1 => ?_)
  · refine z_iconst hx hb dX0_drop_12 ?_
    exact z_iret hx hb hr hlocks (v := -1) (n, fr, to, wd, ti) hS hP hK hD ⟨_, rfl, Or.inr ⟨by omega, rfl, rfl⟩⟩ dX0_drop_13
  · refine lv_iload_n hx hb dX0_drop_4 rfl (lv_at hl 1 rfl) ?_
    refine lv_aload_n hx hb dX0_drop_5 rfl (lv_at hl 0 rfl) ?_
    refine va_get (D := D) (ci := 0) (v := .int (zI (n : Int))) (C := RX0) (T := TX0) (N := 12) hx hb hts in_X0 hown hK hP 0 rfl rfl 0 (by decide) (hts _ q22) (fun _ h9 => h9) rfl dX0_drop_6 ?_
    refine z_icmp_lt (tgt := 14) hx hb dX0_drop_9 (by decide) (by omega) (by omega) (fun c_9 => ?_) (fun c_9 => ?_)
    · obtain ⟨J, hJe⟩ : ∃ J, J = j.toNat := ⟨_, rfl⟩
      obtain ⟨N, hNe⟩ : ∃ N, N = n - 1 := ⟨_, rfl⟩
      refine lv_aload_n hx hb dX0_drop_14 rfl (lv_at hl 0 rfl) ?_
      refine lv_dup hx hb dX0_drop_15 rfl ?_
      refine va_get (D := D) (ci := 0) (v := .int (zI (n : Int))) (C := RX0) (T := TX0) (N := 12) hx hb hts in_X0 hown hK hP 0 rfl rfl 0 (by decide) (hts _ q22) (fun _ h9 => h9) rfl dX0_drop_16 ?_
      refine z_iconst hx hb dX0_drop_19 ?_
      refine z_isub hx hb dX0_drop_20 ?_
      refine z_top (y := (N : Int)) (by omega) ?_
      refine va_put (D := D) (ci := 0) (v := .int (zI (N : Int))) (ty := .int) (C := RX0) (T := TX0) (N := 12) hx hb hts in_X0 tyX0 tyX0_ok nmX0 hown hK hP hD hS 0 rfl rfl 0 (by decide) (hts _ q22) (fun _ h9 => h9) rfl (by decide +kernel) rfl rfl (Nat.le_of_ble_eq_true rfl) dX0_drop_21 (fun H locs hP hD hS => ?_)
      have hP : va_P D vwCl (wX cI cZ a (N : Int) fr to wd ti fl qk rc ll wy wt wa) H := hP
      have hD : va_D A (wX cI cZ a (N : Int) fr to wd ti fl qk rc ll wy wt wa) := hD
      refine lv_iload_n hx hb dX0_drop_24 rfl (lv_at hl 1 rfl) ?_
      refine z_top (y := (J : Int)) (by omega) ?_
      refine lv_istore_n (lv' := [(2, .int (zI (J : Int))), (0, .ref (a 0)), (1, .int (zI j))]) hx hb dX0_drop_25 rfl hl (by decide) rfl (fun ls hl => ?_)
      have L1 : ∀ (g q : Nat), q + g = N + 1 → q ≤ N → J ≤ q → ∀ (H : Heap) (locs : List Loc), va_P D vwCl (wX cI cZ a (N : Int) (mq_sh fr J q) (mq_sh to J q) (mq_sh wd J q) (mq_sh ti J q) fl qk rc ll wy wt wa) H → va_D A (wX cI cZ a (N : Int) (mq_sh fr J q) (mq_sh to J q) (mq_sh wd J q) (mq_sh ti J q) fl qk rc ll wy wt wa) → va_S A s.heap H locs → ∀ (ls : Array Slot), lv_has ls 3 [(0, .ref (a 0)), (1, .int (zI j)), (2, .int (zI (q : Int)))] → W p l e (zRm 0 0) s m ([.ref (a 0), .int (zI j)] : List Value).toArray below meth c H locs 0 0 (MQ below (zQi D vwCl (zT cI cZ) (fun r (u : zS5) => ∃ x : Int, r = zI x ∧ mq_Drp n fr to wd ti j x u) (fun u => wX cI cZ a (u.1 : Int) u.2.1 u.2.2.1 u.2.2.2.1 u.2.2.2.2 fl qk rc ll wy wt wa) A) ([.ref (a 0), .int (zI j)] : List Value).toArray s 0 0 A) (F0 m 26 ls []) := by
        intro g
        induction g with
        | zero => intro q h1 h2; omega
        | succ g ih =>
          intro q hqg hqN hJq H locs hP hD hS ls hl
          refine lv_iload_n hx hb dX0_drop_26 rfl (lv_at hl 2 rfl) ?_
          refine lv_aload_n hx hb dX0_drop_27 rfl (lv_at hl 0 rfl) ?_
          refine va_get (D := D) (ci := 0) (v := .int (zI (N : Int))) (C := RX0) (T := TX0) (N := 12) hx hb hts in_X0 hown hK hP 0 rfl rfl 0 (by decide) (hts _ q22) (fun _ h9 => h9) rfl dX0_drop_28 ?_
          refine z_icmp_ge (tgt := 96) hx hb dX0_drop_31 (by decide) (by omega) (by omega) (fun c_31 => ?_) (fun c_31 => ?_)
          · refine lv_aload_n hx hb dX0_drop_96 rfl (lv_at hl 0 rfl) ?_
            refine va_get (D := D) (ci := 0) (v := .int (zI (N : Int))) (C := RX0) (T := TX0) (N := 12) hx hb hts in_X0 hown hK hP 0 rfl rfl 0 (by decide) (hts _ q22) (fun _ h9 => h9) rfl dX0_drop_97 ?_
            have e0 : q = N := by omega
            subst e0
            exact z_iret hx hb hr hlocks (v := (q : Int)) (q, mq_sh fr J q, mq_sh to J q, mq_sh wd J q, mq_sh ti J q) hS hP hK hD ⟨_, rfl, Or.inl ⟨by omega, by omega, by rw [← hJe, show n - 1 = q by omega]⟩⟩ dX0_drop_100
          · refine lv_aload_n hx hb dX0_drop_34 rfl (lv_at hl 0 rfl) ?_
            refine va_get (D := D) (ci := 0) (v := .ref (a 1)) (C := RX0) (T := TX0) (N := 12) hx hb hts in_X0 hown hK hP 0 rfl rfl 1 (by decide) (hts _ q23) (fun _ h9 => h9) rfl dX0_drop_35 ?_
            refine lv_iload_n hx hb dX0_drop_38 rfl (lv_at hl 2 rfl) ?_
            refine lv_aload_n hx hb dX0_drop_39 rfl (lv_at hl 0 rfl) ?_
            refine va_get (D := D) (ci := 0) (v := .ref (a 1)) (C := RX0) (T := TX0) (N := 12) hx hb hts in_X0 hown hK hP 0 rfl rfl 1 (by decide) (hts _ q23) (fun _ h9 => h9) rfl dX0_drop_40 ?_
            refine lv_iload_n hx hb dX0_drop_43 rfl (lv_at hl 2 rfl) ?_
            refine z_iconst hx hb dX0_drop_44 ?_
            refine z_iadd hx hb dX0_drop_45 ?_
            refine z_iald hx hb hK hP 1 0 rfl rfl (by omega) (by decide) (v := fr (q + 1)) (mq_sh_at fr J q) dX0_drop_46 ?_
            refine z_iast hx hb hK hP hD hS 1 0 rfl rfl (by omega) (by decide) (k := q) (by omega) dX0_drop_47 (fun H locs hP hD hS => ?_)
            have hP : va_P D vwCl (wX cI cZ a (N : Int) (va_up (mq_sh fr J q) q (fr (q + 1))) (mq_sh to J q) (mq_sh wd J q) (mq_sh ti J q) fl qk rc ll wy wt wa) H := hP
            have hD : va_D A (wX cI cZ a (N : Int) (va_up (mq_sh fr J q) q (fr (q + 1))) (mq_sh to J q) (mq_sh wd J q) (mq_sh ti J q) fl qk rc ll wy wt wa) := hD
            refine lv_aload_n hx hb dX0_drop_48 rfl (lv_at hl 0 rfl) ?_
            refine va_get (D := D) (ci := 0) (v := .ref (a 2)) (C := RX0) (T := TX0) (N := 12) hx hb hts in_X0 hown hK hP 0 rfl rfl 2 (by decide) (hts _ q24) (fun _ h9 => h9) rfl dX0_drop_49 ?_
            refine lv_iload_n hx hb dX0_drop_52 rfl (lv_at hl 2 rfl) ?_
            refine lv_aload_n hx hb dX0_drop_53 rfl (lv_at hl 0 rfl) ?_
            refine va_get (D := D) (ci := 0) (v := .ref (a 2)) (C := RX0) (T := TX0) (N := 12) hx hb hts in_X0 hown hK hP 0 rfl rfl 2 (by decide) (hts _ q24) (fun _ h9 => h9) rfl dX0_drop_54 ?_
            refine lv_iload_n hx hb dX0_drop_57 rfl (lv_at hl 2 rfl) ?_
            refine z_iconst hx hb dX0_drop_58 ?_
            refine z_iadd hx hb dX0_drop_59 ?_
            refine z_iald hx hb hK hP 2 0 rfl rfl (by omega) (by decide) (v := to (q + 1)) (mq_sh_at to J q) dX0_drop_60 ?_
            refine z_iast hx hb hK hP hD hS 2 0 rfl rfl (by omega) (by decide) (k := q) (by omega) dX0_drop_61 (fun H locs hP hD hS => ?_)
            have hP : va_P D vwCl (wX cI cZ a (N : Int) (va_up (mq_sh fr J q) q (fr (q + 1))) (va_up (mq_sh to J q) q (to (q + 1))) (mq_sh wd J q) (mq_sh ti J q) fl qk rc ll wy wt wa) H := hP
            have hD : va_D A (wX cI cZ a (N : Int) (va_up (mq_sh fr J q) q (fr (q + 1))) (va_up (mq_sh to J q) q (to (q + 1))) (mq_sh wd J q) (mq_sh ti J q) fl qk rc ll wy wt wa) := hD
            refine lv_aload_n hx hb dX0_drop_62 rfl (lv_at hl 0 rfl) ?_
            refine va_get (D := D) (ci := 0) (v := .ref (a 3)) (C := RX0) (T := TX0) (N := 12) hx hb hts in_X0 hown hK hP 0 rfl rfl 3 (by decide) (hts _ q25) (fun _ h9 => h9) rfl dX0_drop_63 ?_
            refine lv_iload_n hx hb dX0_drop_66 rfl (lv_at hl 2 rfl) ?_
            refine lv_aload_n hx hb dX0_drop_67 rfl (lv_at hl 0 rfl) ?_
            refine va_get (D := D) (ci := 0) (v := .ref (a 3)) (C := RX0) (T := TX0) (N := 12) hx hb hts in_X0 hown hK hP 0 rfl rfl 3 (by decide) (hts _ q25) (fun _ h9 => h9) rfl dX0_drop_68 ?_
            refine lv_iload_n hx hb dX0_drop_71 rfl (lv_at hl 2 rfl) ?_
            refine z_iconst hx hb dX0_drop_72 ?_
            refine z_iadd hx hb dX0_drop_73 ?_
            refine z_iald hx hb hK hP 3 0 rfl rfl (by omega) (by decide) (v := wd (q + 1)) (mq_sh_at wd J q) dX0_drop_74 ?_
            refine z_iast hx hb hK hP hD hS 3 0 rfl rfl (by omega) (by decide) (k := q) (by omega) dX0_drop_75 (fun H locs hP hD hS => ?_)
            have hP : va_P D vwCl (wX cI cZ a (N : Int) (va_up (mq_sh fr J q) q (fr (q + 1))) (va_up (mq_sh to J q) q (to (q + 1))) (va_up (mq_sh wd J q) q (wd (q + 1))) (mq_sh ti J q) fl qk rc ll wy wt wa) H := hP
            have hD : va_D A (wX cI cZ a (N : Int) (va_up (mq_sh fr J q) q (fr (q + 1))) (va_up (mq_sh to J q) q (to (q + 1))) (va_up (mq_sh wd J q) q (wd (q + 1))) (mq_sh ti J q) fl qk rc ll wy wt wa) := hD
            refine lv_aload_n hx hb dX0_drop_76 rfl (lv_at hl 0 rfl) ?_
            refine va_get (D := D) (ci := 0) (v := .ref (a 4)) (C := RX0) (T := TX0) (N := 12) hx hb hts in_X0 hown hK hP 0 rfl rfl 4 (by decide) (hts _ q26) (fun _ h9 => h9) rfl dX0_drop_77 ?_
            refine lv_iload_n hx hb dX0_drop_80 rfl (lv_at hl 2 rfl) ?_
            refine lv_aload_n hx hb dX0_drop_81 rfl (lv_at hl 0 rfl) ?_
            refine va_get (D := D) (ci := 0) (v := .ref (a 4)) (C := RX0) (T := TX0) (N := 12) hx hb hts in_X0 hown hK hP 0 rfl rfl 4 (by decide) (hts _ q26) (fun _ h9 => h9) rfl dX0_drop_82 ?_
            refine lv_iload_n hx hb dX0_drop_85 rfl (lv_at hl 2 rfl) ?_
            refine z_iconst hx hb dX0_drop_86 ?_
            refine z_iadd hx hb dX0_drop_87 ?_
            refine z_iald hx hb hK hP 4 0 rfl rfl (by omega) (by decide) (v := ti (q + 1)) (mq_sh_at ti J q) dX0_drop_88 ?_
            refine z_iast hx hb hK hP hD hS 4 0 rfl rfl (by omega) (by decide) (k := q) (by omega) dX0_drop_89 (fun H locs hP hD hS => ?_)
            have hP : va_P D vwCl (wX cI cZ a (N : Int) (va_up (mq_sh fr J q) q (fr (q + 1))) (va_up (mq_sh to J q) q (to (q + 1))) (va_up (mq_sh wd J q) q (wd (q + 1))) (va_up (mq_sh ti J q) q (ti (q + 1))) fl qk rc ll wy wt wa) H := hP
            have hD : va_D A (wX cI cZ a (N : Int) (va_up (mq_sh fr J q) q (fr (q + 1))) (va_up (mq_sh to J q) q (to (q + 1))) (va_up (mq_sh wd J q) q (wd (q + 1))) (va_up (mq_sh ti J q) q (ti (q + 1))) fl qk rc ll wy wt wa) := hD
            refine z_iinc (y := ((q + 1 : Nat) : Int)) (lv' := [(2, .int (zI ((q + 1 : Nat) : Int))), (0, .ref (a 0)), (1, .int (zI j))]) hx hb dX0_drop_90 hl (k := 2) rfl (by omega) (by decide) rfl (fun ls hl => ?_)
            refine lv_goto (tgt := 26) hx hb dX0_drop_93 (by decide) ?_
            rw [mq_sh_s hJq, mq_sh_s hJq, mq_sh_s hJq, mq_sh_s hJq] at hP hD
            exact ih (q + 1) (by omega) (by omega) (by omega) H locs hP hD hS ls (lv_sub hl [1, 2, 0] rfl)
      exact L1 (N + 1 - J) J (by omega) (by omega) (by omega) H locs (by rw [mq_sh_0, mq_sh_0, mq_sh_0, mq_sh_0]; exact hP) (by rw [mq_sh_0, mq_sh_0, mq_sh_0, mq_sh_0]; exact hD) hS ls (lv_sub hl [1, 2, 0] rfl)
    · refine z_iconst hx hb dX0_drop_12 ?_
      exact z_iret hx hb hr hlocks (v := -1) (n, fr, to, wd, ti) hS hP hK hD ⟨_, rfl, Or.inr ⟨by omega, rfl, rfl⟩⟩ dX0_drop_13
end
section
/-! PLAIN LAWS 5: the model's search over the copies, its send, its edges. An arc is an edge walked on (b false) or back (b true): mq_aS, mq_aD, mq_aR over starts, ends, rooms, flows -/
def mq_bL (e : Nat) (b : Bool) : Int := if b then 200 + (e : Int) else (e : Int)
theorem mq_bL_nn (e : Nat) (b : Bool) : 0 ≤ mq_bL e b := by cases b <;> simp [mq_bL] <;> omega
theorem mq_bL_inj {i j : Nat} {a b : Bool} (hi : i < 200) (hj : j < 200) (h : mq_bL i a = mq_bL j b) : i = j ∧ a = b := by
  cases a <;> cases b <;> simp [mq_bL] at h ⊢ <;> omega
/-- edges between copies, with flows in their rooms -/
def mq_EOk (E : Nat) (st en rm fl : Nat → Int) : Prop := E ≤ 170 ∧ ∀ e, e < E → (0 ≤ st e ∧ st e < 65) ∧ (0 ≤ en e ∧ en e < 65) ∧ st e ≠ en e ∧ (0 ≤ fl e ∧ fl e ≤ rm e) ∧ rm e ≤ 100000
theorem mq_eS_lt {E : Nat} {st en rm fl : Nat → Int} (h : mq_EOk E st en rm fl) {e : Nat} (he : e < E) (b : Bool) : mq_aS st en e b < 65 := by
  have := h.2 e he
  cases b <;> simp only [mq_aS] <;> simp <;> omega
theorem mq_eD_lt {E : Nat} {st en rm fl : Nat → Int} (h : mq_EOk E st en rm fl) {e : Nat} (he : e < E) (b : Bool) : mq_aD st en e b < 65 := by
  have := h.2 e he
  cases b <;> simp only [mq_aD] <;> simp <;> omega
/-- while the copies are searched: copy number i of the queue, its edges before e are done; ct copies are in the queue -/
def mq_BI (E : Nat) (st en rm fl : Nat → Int) (i e ct : Nat) (cm qu : Nat → Int) : Prop :=
  (ct : Int) = mq_sm (fun c => if 0 ≤ cm c then 1 else 0) 65 ∧ cm 0 = 999 ∧ (∀ c, c < 65 → -1 ≤ cm c ∧ cm c ≤ 999) ∧ (∀ p, p < ct → (0 ≤ qu p ∧ qu p < 65) ∧ 0 ≤ cm (qu p).toNat) ∧
  (∃ ps : Nat → Nat, (∀ c, c < 65 → 0 ≤ cm c → ps c < ct ∧ qu (ps c) = (c : Int)) ∧ ∀ c, c < 65 → c ≠ 0 → 0 ≤ cm c → ∃ (x : Nat) (b : Bool), x < E ∧ cm c = mq_bL x b ∧ mq_aD st en x b = c ∧ 0 < mq_aR rm fl x b ∧ 0 ≤ cm (mq_aS st en x b) ∧ ps (mq_aS st en x b) < ps c) ∧
  ∀ x b, x < E → 0 < mq_aR rm fl x b → ∀ p, p < ct → (p < i ∨ (p = i ∧ x < e)) → qu p = ((mq_aS st en x b : Nat) : Int) → 0 ≤ cm (mq_aD st en x b)
theorem mq_BI_0 {E : Nat} {st en rm fl cm qu : Nat → Int} (hc : ∀ c, c < 65 → cm c = if c = 0 then 999 else -1) (hq : qu 0 = 0) : mq_BI E st en rm fl 0 0 1 cm qu := by
  have h0 : cm 0 = 999 := by rw [hc 0 (by omega)]; rfl
  have h1 : ∀ c, c < 65 → 0 ≤ cm c → c = 0 := by
    intro c hc1 hc2
    rw [hc c hc1] at hc2
    by_cases e : c = 0
    · exact e
    · rw [if_neg e] at hc2
      omega
  refine ⟨?_, h0, fun c hc1 => ?_, fun p hp => ?_, ⟨fun _ => 0, fun c hc1 hc2 => ?_, fun c hc1 hc2 hc3 => absurd (h1 c hc1 hc3) hc2⟩, fun x b _ _ p hp1 hp2 => by omega⟩
  · rw [mq_sm_congr (g := va_up (fun _ => 0) 0 1) (fun c hc1 => ?_), mq_sm_up (by omega), mq_sm_const]
    · rfl
    · by_cases e : c = 0
      · rw [e, va_up_self, if_pos (by omega)]
      · rw [va_up_ne _ _ e, if_neg (fun z => e (h1 c hc1 z))]
  · rw [hc c hc1]
    split <;> omega
  · have e : p = 0 := by omega
    rw [e, hq]
    exact ⟨by omega, by show 0 ≤ cm 0; omega⟩
  · rw [h1 c hc1 hc2]
    exact ⟨Nat.zero_lt_one, hq⟩
/-- the edge e adds nothing -/
theorem mq_BI_no {E : Nat} {st en rm fl cm qu : Nat → Int} {i e ct : Nat} (h : mq_BI E st en rm fl i e ct cm qu) (hn : ∀ b, qu i = ((mq_aS st en e b : Nat) : Int) → 0 < mq_aR rm fl e b → 0 ≤ cm (mq_aD st en e b)) : mq_BI E st en rm fl i (e + 1) ct cm qu := by
  obtain ⟨h1, h2, h3, h4, h5, h6⟩ := h
  refine ⟨h1, h2, h3, h4, h5, fun x b hx hR p hp hs hq => ?_⟩
  by_cases z : p = i ∧ x = e
  · obtain ⟨rfl, rfl⟩ := z
    exact hn b hq hR
  · exact h6 x b hx hR p hp (by omega) hq
theorem mq_BI_ct {E : Nat} {st en rm fl cm qu : Nat → Int} {i e ct c : Nat} (h : mq_BI E st en rm fl i e ct cm qu) (hc : c < 65) (hn : cm c < 0) : ct ≤ 64 := by
  have h1 := h.1
  have : mq_sm (fun c => if 0 ≤ cm c then 1 else 0) 65 + 1 ≤ mq_sm (fun _ => 1) 65 := by
    refine mq_sm_lt (k := c) (fun j _ => by split <;> omega) hc ?_
    rw [if_neg (by omega)]
    omega
  rw [mq_sm_const] at this
  omega
/-- the edge e adds the copy d, on or back -/
theorem mq_BI_up {E : Nat} {st en rm fl cm qu : Nat → Int} {i e ct : Nat} {b : Bool} (hE : mq_EOk E st en rm fl) (h : mq_BI E st en rm fl i e ct cm qu) (hi : i < ct) (he : e < E) (hq : qu i = ((mq_aS st en e b : Nat) : Int)) (hR : 0 < mq_aR rm fl e b) (hd : cm (mq_aD st en e b) < 0) :
    mq_BI E st en rm fl i (e + 1) (ct + 1) (va_up cm (mq_aD st en e b) (mq_bL e b)) (va_up qu ct ((mq_aD st en e b : Nat) : Int)) := by
  have hdl := mq_eD_lt hE he b
  have hxl := mq_eS_lt hE he b
  have hb := mq_bL_nn e b
  have hbu : mq_bL e b ≤ 999 := by
    have := hE.1
    cases b <;> simp [mq_bL] <;> omega
  have hct := mq_BI_ct h hdl hd
  obtain ⟨h1, h2, h3, h4, ⟨ps, h5, h6⟩, h7⟩ := h
  obtain ⟨d, hde⟩ : ∃ d, mq_aD st en e b = d := ⟨_, rfl⟩
  obtain ⟨y, hye⟩ : ∃ y, mq_aS st en e b = y := ⟨_, rfl⟩
  rw [hde] at hdl hd ⊢
  rw [hye] at hxl hq
  have hy : 0 ≤ cm y := by
    have := (h4 i hi).2
    rw [hq] at this
    exact this
  have hyd : y ≠ d := fun z => by rw [z] at hy; omega
  have hd0 : d ≠ 0 := fun z => by rw [z] at hd; omega
  have hmo : ∀ c, 0 ≤ cm c → 0 ≤ va_up cm d (mq_bL e b) c := by
    intro c hc
    by_cases z : c = d
    · rw [z, va_up_self]
      exact hb
    · rw [va_up_ne _ _ z]
      exact hc
  have hun : ∀ c, c ≠ d → 0 ≤ va_up cm d (mq_bL e b) c → 0 ≤ cm c := by
    intro c hc1 hc2
    rw [va_up_ne _ _ hc1] at hc2
    exact hc2
  refine ⟨?_, ?_, fun c hc => ?_, fun p hp => ?_, ⟨va_up ps d ct, fun c hc1 hc2 => ?_, fun c hc1 hc2 hc3 => ?_⟩, fun x a hx hRx p hp hs hqp => ?_⟩
  · rw [mq_sm_congr (g := va_up (fun c => if 0 ≤ cm c then 1 else 0) d 1) (fun c hc1 => ?_), mq_sm_up hdl, ← h1, if_neg (by omega)]
    · omega
    · by_cases z : c = d
      · rw [z, va_up_self, va_up_self, if_pos hb]
      · rw [va_up_ne _ _ z, va_up_ne _ _ z]
  · rw [va_up_ne _ _ (fun z => hd0 z.symm)]
    exact h2
  · by_cases z : c = d
    · rw [z, va_up_self]
      exact ⟨by omega, hbu⟩
    · rw [va_up_ne _ _ z]
      exact h3 c hc
  · by_cases z : p = ct
    · rw [z, va_up_self]
      refine ⟨by omega, ?_⟩
      rw [show ((d : Nat) : Int).toNat = d from rfl, va_up_self]
      exact hb
    · rw [va_up_ne _ _ z]
      have := h4 p (by omega)
      exact ⟨this.1, hmo _ this.2⟩
  · by_cases z : c = d
    · rw [z, va_up_self, va_up_self]
      exact ⟨by omega, rfl⟩
    · rw [va_up_ne _ _ z]
      obtain ⟨a1, a2⟩ := h5 c hc1 (hun c z hc2)
      rw [va_up_ne _ _ (by omega)]
      exact ⟨by omega, a2⟩
  · by_cases z : c = d
    · rw [z]
      refine ⟨e, b, he, va_up_self _ _ _, hde, hR, ?_, ?_⟩
      · rw [hye]
        exact hmo y hy
      · rw [hye, va_up_ne _ _ hyd, va_up_self]
        exact (h5 y hxl hy).1
    · obtain ⟨x, a, g1, g2, g3, g4, g5, g6⟩ := h6 c hc1 hc2 (hun c z hc3)
      have gy : mq_aS st en x a ≠ d := fun w => by rw [w] at g5; omega
      refine ⟨x, a, g1, by rw [va_up_ne _ _ z]; exact g2, g3, g4, hmo _ g5, ?_⟩
      rw [va_up_ne _ _ gy, va_up_ne _ _ z]
      exact g6
  · have hpc : p ≠ ct := by omega
    rw [va_up_ne _ _ hpc] at hqp
    by_cases z : p = i ∧ x = e
    · obtain ⟨rfl, rfl⟩ := z
      by_cases w : a = b
      · subst w
        rw [hde, va_up_self]
        exact hb
      · exfalso
        have c1 : mq_aS st en x a = mq_aD st en x b := by cases a <;> cases b <;> simp [mq_aS, mq_aD] at w ⊢
        have c2 : mq_aS st en x a = y := by
          have := hqp.symm.trans hq
          omega
        rw [hde] at c1
        omega
    · exact hmo _ (h7 x a hx hRx p (by omega) (by omega) hqp)
theorem mq_BI_next {E : Nat} {st en rm fl cm qu : Nat → Int} {i ct : Nat} (h : mq_BI E st en rm fl i E ct cm qu) : mq_BI E st en rm fl (i + 1) 0 ct cm qu := by
  obtain ⟨h1, h2, h3, h4, h5, h6⟩ := h
  exact ⟨h1, h2, h3, h4, h5, fun x b hx hR p hp hs hq => h6 x b hx hR p hp (by omega) hq⟩
theorem mq_BI_le {E : Nat} {st en rm fl cm qu : Nat → Int} {i e ct : Nat} (h : mq_BI E st en rm fl i e ct cm qu) : ct ≤ 65 := by
  have h1 := h.1
  have : mq_sm (fun c => if 0 ≤ cm c then 1 else 0) 65 ≤ mq_sm (fun _ => 1) 65 := mq_sm_le (fun j _ => by split <;> omega)
  rw [mq_sm_const] at this
  omega
/-- the search is done -/
def mq_BS (E : Nat) (st en rm fl cm : Nat → Int) : Prop := cm 0 = 999 ∧ (∀ c, c < 65 → -1 ≤ cm c ∧ cm c ≤ 999) ∧ (∀ x b, x < E → 0 < mq_aR rm fl x b → 0 ≤ cm (mq_aS st en x b) → 0 ≤ cm (mq_aD st en x b)) ∧
  ∃ ps : Nat → Nat, (∀ c, c < 65 → 0 ≤ cm c → ps c < 65) ∧ ∀ c, c < 65 → c ≠ 0 → 0 ≤ cm c → ∃ (x : Nat) (b : Bool), x < E ∧ cm c = mq_bL x b ∧ mq_aD st en x b = c ∧ 0 < mq_aR rm fl x b ∧ 0 ≤ cm (mq_aS st en x b) ∧ ps (mq_aS st en x b) < ps c
theorem mq_BS_of {E : Nat} {st en rm fl cm qu : Nat → Int} {i ct : Nat} (hE : mq_EOk E st en rm fl) (h : mq_BI E st en rm fl i 0 ct cm qu) (hi : ct ≤ i) : mq_BS E st en rm fl cm := by
  have hle := mq_BI_le h
  obtain ⟨h1, h2, h3, h4, ⟨ps, h5, h6⟩, h7⟩ := h
  refine ⟨h2, h3, fun x b hx hR hS => ?_, ps, fun c hc1 hc2 => ?_, h6⟩
  · obtain ⟨a1, a2⟩ := h5 _ (mq_eS_lt hE hx b) hS
    exact h7 x b hx hR _ a1 (Or.inl (by omega)) a2
  · have := (h5 c hc1 hc2).1
    omega
/-- while one good is sent from g back to copy 0: now at c, the flows are f' -/
def mq_MS (E : Nat) (st en rm fl cm : Nat → Int) (ps : Nat → Nat) (g c : Nat) (f' : Nat → Int) : Prop :=
  (∀ x, x < E → 0 ≤ f' x ∧ f' x ≤ rm x) ∧ (∀ ch : Nat → Int, mq_sm (fun x => f' x * (ch (st x).toNat - ch (en x).toNat)) E = mq_sm (fun x => fl x * (ch (st x).toNat - ch (en x).toNat)) E + (ch c - ch g)) ∧
  ∀ q, q < 65 → q ≠ 0 → 0 ≤ cm q → ps q ≤ ps c → ∀ x b, cm q = mq_bL x b → x < E → f' x = fl x
theorem mq_MS_0 {E : Nat} {st en rm fl cm : Nat → Int} {ps : Nat → Nat} {g : Nat} (hE : mq_EOk E st en rm fl) : mq_MS E st en rm fl cm ps g g fl := by
  refine ⟨fun x hx => (hE.2 x hx).2.2.2.1, fun ch => ?_, fun _ _ _ _ _ _ _ _ _ => rfl⟩
  rw [Int.sub_self, Int.add_zero]
theorem mq_MS_s {E : Nat} {st en rm fl cm f' : Nat → Int} {ps : Nat → Nat} {g c : Nat} (hE : mq_EOk E st en rm fl) (hd : ∀ c, c < 65 → c ≠ 0 → 0 ≤ cm c → ∃ (x : Nat) (b : Bool), x < E ∧ cm c = mq_bL x b ∧ mq_aD st en x b = c ∧ 0 < mq_aR rm fl x b ∧ 0 ≤ cm (mq_aS st en x b) ∧ ps (mq_aS st en x b) < ps c) (h : mq_MS E st en rm fl cm ps g c f') (hc : c < 65) (hc0 : c ≠ 0) (hcr : 0 ≤ cm c) {x : Nat} {b : Bool} (hx : x < E) (hl : cm c = mq_bL x b) : mq_MS E st en rm fl cm ps g (mq_aS st en x b) (va_up f' x (if b then f' x - 1 else f' x + 1)) := by
  have hE170 := hE.1
  obtain ⟨s1, s2, s3⟩ := h
  obtain ⟨x0, b0, g1, g2, g3, g4, g5, g6⟩ := hd c hc hc0 hcr
  obtain ⟨rfl, rfl⟩ := mq_bL_inj (by omega) (by omega) (hl.symm.trans g2)
  have hfx : f' x = fl x := s3 c hc hc0 hcr (Nat.le_refl _) x b hl hx
  have h1x := s1 x hx
  refine ⟨fun i hi => ?_, fun ch => ?_, fun q hq hq0 hqr hqd i a hqa hi => ?_⟩
  · by_cases e : i = x
    · rw [e, va_up_self]
      cases b <;> simp [mq_aR] at g4 ⊢ <;> omega
    · rw [va_up_ne _ _ e]
      exact s1 i hi
  · rw [mq_sm_upw hx, s2 ch, ← g3]
    cases b
    · simp only [mq_aS, mq_aD]
      simp
      omega
    · simp only [mq_aS, mq_aD]
      simp
      omega
  · have hix : i ≠ x := by
      intro e
      subst e
      obtain ⟨j1, b1, k1, k2, k3, k4, k5, k6⟩ := hd q hq hq0 hqr
      obtain ⟨rfl, rfl⟩ := mq_bL_inj (by omega) (by omega) (hqa.symm.trans k2)
      by_cases e2 : a = b
      · subst e2
        have : q = c := k3.symm.trans g3
        rw [this] at hqd
        omega
      · have c2 : mq_aS st en i a = mq_aD st en i b := by cases a <;> cases b <;> simp [mq_aS, mq_aD] at e2 ⊢
        rw [c2, g3] at k6
        omega
    rw [va_up_ne _ _ hix]
    exact s3 q hq hq0 hqr (by omega) i a hqa hi
theorem mq_MS_end {E : Nat} {st en rm fl cm f' : Nat → Int} {ps : Nat → Nat} {g : Nat} {V : Int} (hE : mq_EOk E st en rm fl) (hF : mq_Fl E st en fl g V) (h : mq_MS E st en rm fl cm ps g 0 f') : mq_EOk E st en rm f' ∧ mq_Fl E st en f' g (V + 1) := by
  refine ⟨⟨hE.1, fun x hx => ?_⟩, fun ch => ?_⟩
  · have a1 := hE.2 x hx
    have a2 := h.1 x hx
    exact ⟨a1.1, a1.2.1, a1.2.2.1, a2, a1.2.2.2.2⟩
  · rw [h.2.1 ch, hF ch, Int.add_mul, Int.one_mul]
/-! the edges, while they are built -/
def mq_lns (n : Nat) (fr to wd tz : Nat → Int) (L : Nat) (ph : Int → Int → Int → Int) : Int := mq_sm (fun i => mq_sm (fun m => ph (13 * fr i + m) (13 * to i + m + tz i) (wd i)) (L + 1 - (tz i).toNat)) n
/-- edges between copies, no flow yet -/
def mq_E0 (E : Nat) (st en rm fl : Nat → Int) : Prop := ∀ e, e < E → (0 ≤ st e ∧ st e < 65) ∧ (0 ≤ en e ∧ en e < 65) ∧ st e ≠ en e ∧ fl e = 0 ∧ 0 ≤ rm e ∧ rm e ≤ 100000
/-- i lines are done, and m moments of line i -/
def mq_EdL (n : Nat) (fr to wd tz : Nat → Int) (L i m E : Nat) (st en rm fl : Nat → Int) : Prop := E ≤ 13 * i + m ∧ mq_E0 E st en rm fl ∧ ∀ ph : Int → Int → Int → Int, mq_sm (fun e => ph (st e) (en e) (rm e)) E = mq_lns i fr to wd tz L ph + mq_sm (fun m => ph (13 * fr i + m) (13 * to i + m + tz i) (wd i)) m
/-- all lines are done, the waiting of p places, and m moments of place p -/
def mq_EdW (n : Nat) (fr to wd tz : Nat → Int) (L p m E : Nat) (st en rm fl : Nat → Int) : Prop := E ≤ 13 * n + 12 * p + m ∧ mq_E0 E st en rm fl ∧ ∀ ph : Int → Int → Int → Int, mq_sm (fun e => ph (st e) (en e) (rm e)) E = mq_lns n fr to wd tz L ph + (mq_sm (fun p => mq_sm (fun m => ph (13 * p + m) (13 * p + m + 1) 100000) L) p + mq_sm (fun m => ph (13 * p + m) (13 * p + m + 1) 100000) m)
theorem mq_E0_s {E : Nat} {st en rm fl : Nat → Int} {s t r : Int} (h : mq_E0 E st en rm fl) (hs : 0 ≤ s ∧ s < 65) (ht : 0 ≤ t ∧ t < 65) (hst : s ≠ t) (hr : 0 ≤ r ∧ r ≤ 100000) : mq_E0 (E + 1) (va_up st E s) (va_up en E t) (va_up rm E r) (va_up fl E 0) := by
  intro e he
  by_cases z : e = E
  · rw [z, va_up_self, va_up_self, va_up_self, va_up_self]
    exact ⟨hs, ht, hst, rfl, hr⟩
  · rw [va_up_ne _ _ z, va_up_ne _ _ z, va_up_ne _ _ z, va_up_ne _ _ z]
    exact h e (by omega)
theorem mq_sum_s {E : Nat} {st en rm : Nat → Int} {s t r : Int} (ph : Int → Int → Int → Int) : mq_sm (fun e => ph (va_up st E s e) (va_up en E t e) (va_up rm E r e)) (E + 1) = mq_sm (fun e => ph (st e) (en e) (rm e)) E + ph s t r := by
  rw [mq_sm_s, va_up_self, va_up_self, va_up_self]
  congr 1
  refine mq_sm_congr (fun e he => ?_)
  rw [va_up_ne _ _ (by omega), va_up_ne _ _ (by omega), va_up_ne _ _ (by omega)]
theorem mq_EdL_0 {n : Nat} {fr to wd tz : Nat → Int} {L : Nat} {st en rm fl : Nat → Int} : mq_EdL n fr to wd tz L 0 0 0 st en rm fl := ⟨by omega, fun e he => absurd he (by omega), fun ph => rfl⟩
theorem mq_EdL_s {n : Nat} {fr to wd tz : Nat → Int} {L i m E : Nat} {st en rm fl : Nat → Int} (h : mq_EdL n fr to wd tz L i m E st en rm fl) (hs : 0 ≤ 13 * fr i + m ∧ 13 * fr i + m < 65) (ht : 0 ≤ 13 * to i + m + tz i ∧ 13 * to i + m + tz i < 65) (hst : 13 * fr i + m ≠ 13 * to i + m + tz i) (hr : 0 ≤ wd i ∧ wd i ≤ 100000) : mq_EdL n fr to wd tz L i (m + 1) (E + 1) (va_up st E (13 * fr i + m)) (va_up en E (13 * to i + m + tz i)) (va_up rm E (wd i)) (va_up fl E 0) := by
  obtain ⟨h1, h2, h3⟩ := h
  refine ⟨by omega, mq_E0_s h2 hs ht hst hr, fun ph => ?_⟩
  rw [mq_sum_s, h3 ph, mq_sm_s, Int.add_assoc]
theorem mq_EdL_n {n : Nat} {fr to wd tz : Nat → Int} {L i m E : Nat} {st en rm fl : Nat → Int} (h : mq_EdL n fr to wd tz L i m E st en rm fl) (hm : m = L + 1 - (tz i).toNat) (hm13 : m ≤ 13) : mq_EdL n fr to wd tz L (i + 1) 0 E st en rm fl := by
  obtain ⟨h1, h2, h3⟩ := h
  refine ⟨by omega, h2, fun ph => ?_⟩
  rw [h3 ph, mq_sm_0, Int.add_zero, hm]
  rfl
theorem mq_EdW_0 {n : Nat} {fr to wd tz : Nat → Int} {L E : Nat} {st en rm fl : Nat → Int} (h : mq_EdL n fr to wd tz L n 0 E st en rm fl) : mq_EdW n fr to wd tz L 0 0 E st en rm fl := by
  obtain ⟨h1, h2, h3⟩ := h
  exact ⟨by omega, h2, fun ph => by rw [h3 ph]; rfl⟩
theorem mq_EdW_s {n : Nat} {fr to wd tz : Nat → Int} {L p m E : Nat} {st en rm fl : Nat → Int} (h : mq_EdW n fr to wd tz L p m E st en rm fl) (hp : p < 5) (hm : m < 12) : mq_EdW n fr to wd tz L p (m + 1) (E + 1) (va_up st E (13 * p + m)) (va_up en E (13 * p + m + 1)) (va_up rm E 100000) (va_up fl E 0) := by
  obtain ⟨h1, h2, h3⟩ := h
  refine ⟨by omega, mq_E0_s h2 (by omega) (by omega) (by omega) (by omega), fun ph => ?_⟩
  rw [mq_sum_s, h3 ph, mq_sm_s, Int.add_assoc, Int.add_assoc]
theorem mq_EdW_n {n : Nat} {fr to wd tz : Nat → Int} {L p E : Nat} {st en rm fl : Nat → Int} (h : mq_EdW n fr to wd tz L p L E st en rm fl) (hL : L ≤ 12) : mq_EdW n fr to wd tz L (p + 1) 0 E st en rm fl := by
  obtain ⟨h1, h2, h3⟩ := h
  exact ⟨by omega, h2, fun ph => by rw [h3 ph, mq_sm_s, mq_sm_0, Int.add_zero]⟩
theorem mq_EdW_end {n : Nat} {fr to wd tz : Nat → Int} {L E : Nat} {st en rm fl : Nat → Int} (hn : n ≤ 8) (h : mq_EdW n fr to wd tz L 5 0 E st en rm fl) : mq_Ed n fr to wd tz L E st en rm ∧ mq_EOk E st en rm fl ∧ ∀ g, mq_Fl E st en fl g 0 := by
  obtain ⟨h1, h2, h3⟩ := h
  refine ⟨fun ph => ?_, ⟨by omega, fun e he => ?_⟩, fun g ch => ?_⟩
  · rw [h3 ph, mq_sm_0, Int.add_zero]
    rfl
  · have := h2 e he
    exact ⟨this.1, this.2.1, this.2.2.1, by omega, this.2.2.2.2.2⟩
  · rw [Int.zero_mul]
    exact mq_sm_zero (fun e he => by rw [(h2 e he).2.2.2.1, Int.zero_mul])
end
section
set_option maxHeartbeats 8000000 in
set_option maxRecDepth 100000 in
theorem m_badPlace (l : Launch) (D : va_G) (sz : Nat) (x : Int) (hx0 : -2147483648 ≤ x ∧ x ≤ 2147483647) :
    zMI l yX1_badPlace cX1_badPlace 1 (some .boolean) (zRm 0 0) [.int (zI x)] D vwCl ([]) sz ([])
      (fun r (u : Unit) => r = zI (if 0 ≤ x ∧ x ≤ 4 then 0 else 1)) (fun u => []) := by
  refine z_metI (by decide) (Nat.le_of_ble_eq_true rfl) ?_
  intro p e s m below meth c A ls hG
  obtain ⟨hx, hb, hr, hlocks, hml, hown, hts, hP, hK, hD, hS, hA, hl⟩ := hG
  have hown : s.vm.findClass RX1 = some m.cls := hown
  have hl : lv_has ls 1 [(0, .int (zI x))] := hl
  refine lv_iload_n hx hb dX1_badPlace_0 rfl (lv_at hl 0 rfl) ?_
  refine z_if_lt (tgt := 9) hx hb dX1_badPlace_1 (by decide) (by omega) (fun c_1 => ?_) (fun c_1 => ?_)
  · refine z_iconst hx hb dX1_badPlace_9 ?_
    refine lv_goto (tgt := 14) hx hb dX1_badPlace_10 (by decide) ?_
    exact z_zret hx hb hr hlocks (v := 1) (Or.inr rfl) () hS hP hK hD (by rw [if_neg (by omega)]) dX1_badPlace_14
  · refine lv_iload_n hx hb dX1_badPlace_4 rfl (lv_at hl 0 rfl) ?_
    refine z_iconst hx hb dX1_badPlace_5 ?_
    refine z_icmp_le (tgt := 13) hx hb dX1_badPlace_6 (by decide) (by omega) (by omega) (fun c_6 => ?_) (fun c_6 => ?_)
    · refine z_iconst hx hb dX1_badPlace_13 ?_
      exact z_zret hx hb hr hlocks (v := 0) (Or.inl rfl) () hS hP hK hD (by rw [if_pos (by omega)]) dX1_badPlace_14
    · refine z_iconst hx hb dX1_badPlace_9 ?_
      refine lv_goto (tgt := 14) hx hb dX1_badPlace_10 (by decide) ?_
      exact z_zret hx hb hr hlocks (v := 1) (Or.inr rfl) () hS hP hK hD (by rw [if_neg (by omega)]) dX1_badPlace_14
set_option maxHeartbeats 8000000 in
set_option maxRecDepth 100000 in
theorem m_badMoment (l : Launch) (D : va_G) (sz : Nat) (x : Int) (hx0 : -2147483648 ≤ x ∧ x ≤ 2147483647) :
    zMI l yX1_badMoment cX1_badMoment 1 (some .boolean) (zRm 0 0) [.int (zI x)] D vwCl ([]) sz ([])
      (fun r (u : Unit) => r = zI (if 0 ≤ x ∧ x ≤ 12 then 0 else 1)) (fun u => []) := by
  refine z_metI (by decide) (Nat.le_of_ble_eq_true rfl) ?_
  intro p e s m below meth c A ls hG
  obtain ⟨hx, hb, hr, hlocks, hml, hown, hts, hP, hK, hD, hS, hA, hl⟩ := hG
  have hown : s.vm.findClass RX1 = some m.cls := hown
  have hl : lv_has ls 1 [(0, .int (zI x))] := hl
  refine lv_iload_n hx hb dX1_badMoment_0 rfl (lv_at hl 0 rfl) ?_
  refine z_if_lt (tgt := 10) hx hb dX1_badMoment_1 (by decide) (by omega) (fun c_1 => ?_) (fun c_1 => ?_)
  · refine z_iconst hx hb dX1_badMoment_10 ?_
    refine lv_goto (tgt := 15) hx hb dX1_badMoment_11 (by decide) ?_
    exact z_zret hx hb hr hlocks (v := 1) (Or.inr rfl) () hS hP hK hD (by rw [if_neg (by omega)]) dX1_badMoment_15
  · refine lv_iload_n hx hb dX1_badMoment_4 rfl (lv_at hl 0 rfl) ?_
    refine z_bipush hx hb dX1_badMoment_5 (by decide) ?_
    refine z_icmp_le (tgt := 14) hx hb dX1_badMoment_7 (by decide) (by omega) (by omega) (fun c_7 => ?_) (fun c_7 => ?_)
    · refine z_iconst hx hb dX1_badMoment_14 ?_
      exact z_zret hx hb hr hlocks (v := 0) (Or.inl rfl) () hS hP hK hD (by rw [if_pos (by omega)]) dX1_badMoment_15
    · refine z_iconst hx hb dX1_badMoment_10 ?_
      refine lv_goto (tgt := 15) hx hb dX1_badMoment_11 (by decide) ?_
      exact z_zret hx hb hr hlocks (v := 1) (Or.inr rfl) () hS hP hK hD (by rw [if_neg (by omega)]) dX1_badMoment_15
set_option maxHeartbeats 8000000 in
set_option maxRecDepth 100000 in
theorem m_add1 (l : Launch) (D : va_G) (cI cZ : ClassId) (a : Nat → Nat) (sz : Nat) {n : Nat} {fr to wd ti : Nat → Int} {ed : Int} {st en rm fl cm qu : Nat → Int} (p1 p2 p3 p4 : Int) (hn : n ≤ 8) (r1 : -2147483648 ≤ p1 ∧ p1 ≤ 2147483647) (r2 : -2147483648 ≤ p2 ∧ p2 ≤ 2147483647) (r3 : -2147483648 ≤ p3 ∧ p3 ≤ 2147483647) (r4 : -2147483648 ≤ p4 ∧ p4 ≤ 2147483647) :
    zMI l yX1_add cX1_add 5 (some .int) (zRm 1 20) [.ref (a 0), .int (zI p1), .int (zI p2), .int (zI p3), .int (zI p4)] D vwCl (zT cI cZ) sz (wM cI a (n : Int) fr to wd ti ed st en rm fl cm qu)
      (fun r (u : zS5) => ∃ x : Int, r = zI x ∧ mq_Add n fr to wd ti p1 p2 p3 p4 x u) (fun u => wM cI a (u.1 : Int) u.2.1 u.2.2.1 u.2.2.2.1 u.2.2.2.2 ed st en rm fl cm qu) := by
  refine z_metI (by decide) (Nat.le_of_ble_eq_true rfl) ?_
  intro p e s m below meth c A ls hG
  obtain ⟨hx, hb, hr, hlocks, hml, hown, hts, hP, hK, hD, hS, hA, hl⟩ := hG
  have hown : s.vm.findClass RX1 = some m.cls := hown
  have hl : lv_has ls 5 [(0, .ref (a 0)), (1, .int (zI p1)), (2, .int (zI p2)), (3, .int (zI p3)), (4, .int (zI p4))] := hl
  refine lv_aload_n hx hb dX1_add_0 rfl (lv_at hl 0 rfl) ?_
  refine va_get (D := D) (ci := 1) (v := .int (zI (n : Int))) (C := RX1) (T := TX1) (N := 12) hx hb hts in_X1 hown hK hP 0 rfl rfl 0 (by decide) (hts _ q119) (fun _ h9 => h9) rfl dX1_add_1 ?_
  refine z_bipush hx hb dX1_add_4 (by decide) ?_
  refine z_icmp_eq (tgt := 49) hx hb dX1_add_6 (by decide) (by omega) (by omega) (fun c_6 => ?_) (fun c_6 => ?_)
  · refine z_iconst hx hb dX1_add_49 ?_
    exact z_iret hx hb hr hlocks (v := -1) (n, fr, to, wd, ti) hS hP hK hD ⟨_, rfl, Or.inr ⟨by unfold mq_okA; omega, rfl, rfl⟩⟩ dX1_add_50
  · refine lv_iload_n hx hb dX1_add_9 rfl (lv_at hl 1 rfl) ?_
    refine z_callS (As := [.int (zI p1)]) (rest := []) (n := 1) hx hb hml hown hts hK hP hS hA (m_badPlace l D _ p1 r1) (lw_S q160 q161 q13 q162) rfl rfl (by decide +kernel) ⟨Nat.le_of_ble_eq_true rfl, Nat.le_of_ble_eq_true rfl⟩ rfl hl.1 rfl (by decide) dX1_add_10 ⟨Nat.le_of_ble_eq_true rfl, Nat.le_of_ble_eq_true rfl⟩ (fun r32 H locs hw hP hS => ?_)
    subst hw
    refine z_if_ne (tgt := 49) hx hb dX1_add_13 (by decide) (by omega) (fun c_13 => ?_) (fun c_13 => ?_)
    · refine z_iconst hx hb dX1_add_49 ?_
      exact z_iret hx hb hr hlocks (v := -1) (n, fr, to, wd, ti) hS hP hK hD ⟨_, rfl, Or.inr ⟨by unfold mq_okA; omega, rfl, rfl⟩⟩ dX1_add_50
    · refine lv_iload_n hx hb dX1_add_16 rfl (lv_at hl 2 rfl) ?_
      refine z_callS (As := [.int (zI p2)]) (rest := []) (n := 1) hx hb hml hown hts hK hP hS hA (m_badPlace l D _ p2 r2) (lw_S q160 q161 q13 q162) rfl rfl (by decide +kernel) ⟨Nat.le_of_ble_eq_true rfl, Nat.le_of_ble_eq_true rfl⟩ rfl hl.1 rfl (by decide) dX1_add_17 ⟨Nat.le_of_ble_eq_true rfl, Nat.le_of_ble_eq_true rfl⟩ (fun r32 H locs hw hP hS => ?_)
      subst hw
      refine z_if_ne (tgt := 49) hx hb dX1_add_20 (by decide) (by omega) (fun c_20 => ?_) (fun c_20 => ?_)
      · refine z_iconst hx hb dX1_add_49 ?_
        exact z_iret hx hb hr hlocks (v := -1) (n, fr, to, wd, ti) hS hP hK hD ⟨_, rfl, Or.inr ⟨by unfold mq_okA; omega, rfl, rfl⟩⟩ dX1_add_50
      · refine lv_iload_n hx hb dX1_add_23 rfl (lv_at hl 1 rfl) ?_
        refine lv_iload_n hx hb dX1_add_24 rfl (lv_at hl 2 rfl) ?_
        refine z_icmp_eq (tgt := 49) hx hb dX1_add_25 (by decide) (by omega) (by omega) (fun c_25 => ?_) (fun c_25 => ?_)
        · refine z_iconst hx hb dX1_add_49 ?_
          exact z_iret hx hb hr hlocks (v := -1) (n, fr, to, wd, ti) hS hP hK hD ⟨_, rfl, Or.inr ⟨by unfold mq_okA; omega, rfl, rfl⟩⟩ dX1_add_50
        · refine lv_iload_n hx hb dX1_add_28 rfl (lv_at hl 3 rfl) ?_
          refine z_iconst hx hb dX1_add_29 ?_
          refine z_icmp_lt (tgt := 49) hx hb dX1_add_30 (by decide) (by omega) (by omega) (fun c_30 => ?_) (fun c_30 => ?_)
          · refine z_iconst hx hb dX1_add_49 ?_
            exact z_iret hx hb hr hlocks (v := -1) (n, fr, to, wd, ti) hS hP hK hD ⟨_, rfl, Or.inr ⟨by unfold mq_okA; omega, rfl, rfl⟩⟩ dX1_add_50
          · refine lv_iload_n hx hb dX1_add_33 rfl (lv_at hl 3 rfl) ?_
            refine z_iconst hx hb dX1_add_34 ?_
            refine z_icmp_gt (tgt := 49) hx hb dX1_add_35 (by decide) (by omega) (by omega) (fun c_35 => ?_) (fun c_35 => ?_)
            · refine z_iconst hx hb dX1_add_49 ?_
              exact z_iret hx hb hr hlocks (v := -1) (n, fr, to, wd, ti) hS hP hK hD ⟨_, rfl, Or.inr ⟨by unfold mq_okA; omega, rfl, rfl⟩⟩ dX1_add_50
            · refine lv_iload hx hb dX1_add_38 (lv_at hl 4 rfl) ?_
              refine z_if_lt (tgt := 49) hx hb dX1_add_40 (by decide) (by omega) (fun c_40 => ?_) (fun c_40 => ?_)
              · refine z_iconst hx hb dX1_add_49 ?_
                exact z_iret hx hb hr hlocks (v := -1) (n, fr, to, wd, ti) hS hP hK hD ⟨_, rfl, Or.inr ⟨by unfold mq_okA; omega, rfl, rfl⟩⟩ dX1_add_50
              · refine lv_iload hx hb dX1_add_43 (lv_at hl 4 rfl) ?_
                refine z_iconst hx hb dX1_add_45 ?_
                refine z_icmp_le (tgt := 51) hx hb dX1_add_46 (by decide) (by omega) (by omega) (fun c_46 => ?_) (fun c_46 => ?_)
                · refine lv_aload_n hx hb dX1_add_51 rfl (lv_at hl 0 rfl) ?_
                  refine va_get (D := D) (ci := 1) (v := .ref (a 1)) (C := RX1) (T := TX1) (N := 12) hx hb hts in_X1 hown hK hP 0 rfl rfl 1 (by decide) (hts _ q120) (fun _ h9 => h9) rfl dX1_add_52 ?_
                  refine lv_aload_n hx hb dX1_add_55 rfl (lv_at hl 0 rfl) ?_
                  refine va_get (D := D) (ci := 1) (v := .int (zI (n : Int))) (C := RX1) (T := TX1) (N := 12) hx hb hts in_X1 hown hK hP 0 rfl rfl 0 (by decide) (hts _ q119) (fun _ h9 => h9) rfl dX1_add_56 ?_
                  refine lv_iload_n hx hb dX1_add_59 rfl (lv_at hl 1 rfl) ?_
                  refine z_iast hx hb hK hP hD hS 1 0 rfl rfl (by omega) (by decide) (k := n) (by omega) dX1_add_60 (fun H locs hP hD hS => ?_)
                  have hP : va_P D vwCl (wM cI a (n : Int) (va_up fr n p1) to wd ti ed st en rm fl cm qu) H := hP
                  have hD : va_D A (wM cI a (n : Int) (va_up fr n p1) to wd ti ed st en rm fl cm qu) := hD
                  refine lv_aload_n hx hb dX1_add_61 rfl (lv_at hl 0 rfl) ?_
                  refine va_get (D := D) (ci := 1) (v := .ref (a 2)) (C := RX1) (T := TX1) (N := 12) hx hb hts in_X1 hown hK hP 0 rfl rfl 2 (by decide) (hts _ q121) (fun _ h9 => h9) rfl dX1_add_62 ?_
                  refine lv_aload_n hx hb dX1_add_65 rfl (lv_at hl 0 rfl) ?_
                  refine va_get (D := D) (ci := 1) (v := .int (zI (n : Int))) (C := RX1) (T := TX1) (N := 12) hx hb hts in_X1 hown hK hP 0 rfl rfl 0 (by decide) (hts _ q119) (fun _ h9 => h9) rfl dX1_add_66 ?_
                  refine lv_iload_n hx hb dX1_add_69 rfl (lv_at hl 2 rfl) ?_
                  refine z_iast hx hb hK hP hD hS 2 0 rfl rfl (by omega) (by decide) (k := n) (by omega) dX1_add_70 (fun H locs hP hD hS => ?_)
                  have hP : va_P D vwCl (wM cI a (n : Int) (va_up fr n p1) (va_up to n p2) wd ti ed st en rm fl cm qu) H := hP
                  have hD : va_D A (wM cI a (n : Int) (va_up fr n p1) (va_up to n p2) wd ti ed st en rm fl cm qu) := hD
                  refine lv_aload_n hx hb dX1_add_71 rfl (lv_at hl 0 rfl) ?_
                  refine va_get (D := D) (ci := 1) (v := .ref (a 3)) (C := RX1) (T := TX1) (N := 12) hx hb hts in_X1 hown hK hP 0 rfl rfl 3 (by decide) (hts _ q122) (fun _ h9 => h9) rfl dX1_add_72 ?_
                  refine lv_aload_n hx hb dX1_add_75 rfl (lv_at hl 0 rfl) ?_
                  refine va_get (D := D) (ci := 1) (v := .int (zI (n : Int))) (C := RX1) (T := TX1) (N := 12) hx hb hts in_X1 hown hK hP 0 rfl rfl 0 (by decide) (hts _ q119) (fun _ h9 => h9) rfl dX1_add_76 ?_
                  refine lv_iload_n hx hb dX1_add_79 rfl (lv_at hl 3 rfl) ?_
                  refine z_iast hx hb hK hP hD hS 3 0 rfl rfl (by omega) (by decide) (k := n) (by omega) dX1_add_80 (fun H locs hP hD hS => ?_)
                  have hP : va_P D vwCl (wM cI a (n : Int) (va_up fr n p1) (va_up to n p2) (va_up wd n p3) ti ed st en rm fl cm qu) H := hP
                  have hD : va_D A (wM cI a (n : Int) (va_up fr n p1) (va_up to n p2) (va_up wd n p3) ti ed st en rm fl cm qu) := hD
                  refine lv_aload_n hx hb dX1_add_81 rfl (lv_at hl 0 rfl) ?_
                  refine va_get (D := D) (ci := 1) (v := .ref (a 4)) (C := RX1) (T := TX1) (N := 12) hx hb hts in_X1 hown hK hP 0 rfl rfl 4 (by decide) (hts _ q123) (fun _ h9 => h9) rfl dX1_add_82 ?_
                  refine lv_aload_n hx hb dX1_add_85 rfl (lv_at hl 0 rfl) ?_
                  refine va_get (D := D) (ci := 1) (v := .int (zI (n : Int))) (C := RX1) (T := TX1) (N := 12) hx hb hts in_X1 hown hK hP 0 rfl rfl 0 (by decide) (hts _ q119) (fun _ h9 => h9) rfl dX1_add_86 ?_
                  refine lv_iload hx hb dX1_add_89 (lv_at hl 4 rfl) ?_
                  refine z_iast hx hb hK hP hD hS 4 0 rfl rfl (by omega) (by decide) (k := n) (by omega) dX1_add_91 (fun H locs hP hD hS => ?_)
                  have hP : va_P D vwCl (wM cI a (n : Int) (va_up fr n p1) (va_up to n p2) (va_up wd n p3) (va_up ti n p4) ed st en rm fl cm qu) H := hP
                  have hD : va_D A (wM cI a (n : Int) (va_up fr n p1) (va_up to n p2) (va_up wd n p3) (va_up ti n p4) ed st en rm fl cm qu) := hD
                  refine lv_aload_n hx hb dX1_add_92 rfl (lv_at hl 0 rfl) ?_
                  refine lv_dup hx hb dX1_add_93 rfl ?_
                  refine va_get (D := D) (ci := 1) (v := .int (zI (n : Int))) (C := RX1) (T := TX1) (N := 12) hx hb hts in_X1 hown hK hP 0 rfl rfl 0 (by decide) (hts _ q119) (fun _ h9 => h9) rfl dX1_add_94 ?_
                  refine z_iconst hx hb dX1_add_97 ?_
                  refine z_iadd hx hb dX1_add_98 ?_
                  refine z_top (y := ((n + 1 : Nat) : Int)) (by omega) ?_
                  refine va_put (D := D) (ci := 1) (v := .int (zI ((n + 1 : Nat) : Int))) (ty := .int) (C := RX1) (T := TX1) (N := 12) hx hb hts in_X1 tyX1 tyX1_ok nmX1 hown hK hP hD hS 0 rfl rfl 0 (by decide) (hts _ q119) (fun _ h9 => h9) rfl (by decide +kernel) rfl rfl (Nat.le_of_ble_eq_true rfl) dX1_add_99 (fun H locs hP hD hS => ?_)
                  have hP : va_P D vwCl (wM cI a ((n + 1 : Nat) : Int) (va_up fr n p1) (va_up to n p2) (va_up wd n p3) (va_up ti n p4) ed st en rm fl cm qu) H := hP
                  have hD : va_D A (wM cI a ((n + 1 : Nat) : Int) (va_up fr n p1) (va_up to n p2) (va_up wd n p3) (va_up ti n p4) ed st en rm fl cm qu) := hD
                  refine lv_aload_n hx hb dX1_add_102 rfl (lv_at hl 0 rfl) ?_
                  refine va_get (D := D) (ci := 1) (v := .int (zI ((n + 1 : Nat) : Int))) (C := RX1) (T := TX1) (N := 12) hx hb hts in_X1 hown hK hP 0 rfl rfl 0 (by decide) (hts _ q119) (fun _ h9 => h9) rfl dX1_add_103 ?_
                  exact z_iret hx hb hr hlocks (v := ((n + 1 : Nat) : Int)) (n + 1, va_up fr n p1, va_up to n p2, va_up wd n p3, va_up ti n p4) hS hP hK hD ⟨_, rfl, Or.inl ⟨by unfold mq_okA; omega, rfl, rfl⟩⟩ dX1_add_106
                · refine z_iconst hx hb dX1_add_49 ?_
                  exact z_iret hx hb hr hlocks (v := -1) (n, fr, to, wd, ti) hS hP hK hD ⟨_, rfl, Or.inr ⟨by unfold mq_okA; omega, rfl, rfl⟩⟩ dX1_add_50
set_option maxHeartbeats 8000000 in
set_option maxRecDepth 100000 in
theorem m_drop1 (l : Launch) (D : va_G) (cI cZ : ClassId) (a : Nat → Nat) (sz : Nat) {n : Nat} {fr to wd ti : Nat → Int} {ed : Int} {st en rm fl cm qu : Nat → Int} (j : Int) (hn : n ≤ 8) (hj : -2147483648 ≤ j ∧ j ≤ 2147483647) :
    zMI l yX1_drop cX1_drop 3 (some .int) (zRm 0 0) [.ref (a 0), .int (zI j)] D vwCl (zT cI cZ) sz (wM cI a (n : Int) fr to wd ti ed st en rm fl cm qu)
      (fun r (u : zS5) => ∃ x : Int, r = zI x ∧ mq_Drp n fr to wd ti j x u) (fun u => wM cI a (u.1 : Int) u.2.1 u.2.2.1 u.2.2.2.1 u.2.2.2.2 ed st en rm fl cm qu) := by
  refine z_metI (by decide) (Nat.le_of_ble_eq_true rfl) ?_
  intro p e s m below meth c A ls hG
  obtain ⟨hx, hb, hr, hlocks, hml, hown, hts, hP, hK, hD, hS, hA, hl⟩ := hG
  have hown : s.vm.findClass RX1 = some m.cls := hown
  have hl : lv_has ls 3 [(0, .ref (a 0)), (1, .int (zI j))] := hl
  refine lv_iload_n hx hb dX1_drop_0 rfl (lv_at hl 1 rfl) ?_
  refine z_if_lt (tgt := 12) hx hb dX1_drop_1 (by decide) (by omega) (fun c_1 => ?_) (fun c_1 => ?_)
  · refine z_iconst hx hb dX1_drop_12 ?_
    exact z_iret hx hb hr hlocks (v := -1) (n, fr, to, wd, ti) hS hP hK hD ⟨_, rfl, Or.inr ⟨by omega, rfl, rfl⟩⟩ dX1_drop_13
  · refine lv_iload_n hx hb dX1_drop_4 rfl (lv_at hl 1 rfl) ?_
    refine lv_aload_n hx hb dX1_drop_5 rfl (lv_at hl 0 rfl) ?_
    refine va_get (D := D) (ci := 1) (v := .int (zI (n : Int))) (C := RX1) (T := TX1) (N := 12) hx hb hts in_X1 hown hK hP 0 rfl rfl 0 (by decide) (hts _ q119) (fun _ h9 => h9) rfl dX1_drop_6 ?_
    refine z_icmp_lt (tgt := 14) hx hb dX1_drop_9 (by decide) (by omega) (by omega) (fun c_9 => ?_) (fun c_9 => ?_)
    · obtain ⟨J, hJe⟩ : ∃ J, J = j.toNat := ⟨_, rfl⟩
      obtain ⟨N, hNe⟩ : ∃ N, N = n - 1 := ⟨_, rfl⟩
      refine lv_aload_n hx hb dX1_drop_14 rfl (lv_at hl 0 rfl) ?_
      refine lv_dup hx hb dX1_drop_15 rfl ?_
      refine va_get (D := D) (ci := 1) (v := .int (zI (n : Int))) (C := RX1) (T := TX1) (N := 12) hx hb hts in_X1 hown hK hP 0 rfl rfl 0 (by decide) (hts _ q119) (fun _ h9 => h9) rfl dX1_drop_16 ?_
      refine z_iconst hx hb dX1_drop_19 ?_
      refine z_isub hx hb dX1_drop_20 ?_
      refine z_top (y := (N : Int)) (by omega) ?_
      refine va_put (D := D) (ci := 1) (v := .int (zI (N : Int))) (ty := .int) (C := RX1) (T := TX1) (N := 12) hx hb hts in_X1 tyX1 tyX1_ok nmX1 hown hK hP hD hS 0 rfl rfl 0 (by decide) (hts _ q119) (fun _ h9 => h9) rfl (by decide +kernel) rfl rfl (Nat.le_of_ble_eq_true rfl) dX1_drop_21 (fun H locs hP hD hS => ?_)
      have hP : va_P D vwCl (wM cI a (N : Int) fr to wd ti ed st en rm fl cm qu) H := hP
      have hD : va_D A (wM cI a (N : Int) fr to wd ti ed st en rm fl cm qu) := hD
      refine lv_iload_n hx hb dX1_drop_24 rfl (lv_at hl 1 rfl) ?_
      refine z_top (y := (J : Int)) (by omega) ?_
      refine lv_istore_n (lv' := [(2, .int (zI (J : Int))), (0, .ref (a 0)), (1, .int (zI j))]) hx hb dX1_drop_25 rfl hl (by decide) rfl (fun ls hl => ?_)
      have L1 : ∀ (g q : Nat), q + g = N + 1 → q ≤ N → J ≤ q → ∀ (H : Heap) (locs : List Loc), va_P D vwCl (wM cI a (N : Int) (mq_sh fr J q) (mq_sh to J q) (mq_sh wd J q) (mq_sh ti J q) ed st en rm fl cm qu) H → va_D A (wM cI a (N : Int) (mq_sh fr J q) (mq_sh to J q) (mq_sh wd J q) (mq_sh ti J q) ed st en rm fl cm qu) → va_S A s.heap H locs → ∀ (ls : Array Slot), lv_has ls 3 [(0, .ref (a 0)), (1, .int (zI j)), (2, .int (zI (q : Int)))] → W p l e (zRm 0 0) s m ([.ref (a 0), .int (zI j)] : List Value).toArray below meth c H locs 0 0 (MQ below (zQi D vwCl (zT cI cZ) (fun r (u : zS5) => ∃ x : Int, r = zI x ∧ mq_Drp n fr to wd ti j x u) (fun u => wM cI a (u.1 : Int) u.2.1 u.2.2.1 u.2.2.2.1 u.2.2.2.2 ed st en rm fl cm qu) A) ([.ref (a 0), .int (zI j)] : List Value).toArray s 0 0 A) (F0 m 26 ls []) := by
        intro g
        induction g with
        | zero => intro q h1 h2; omega
        | succ g ih =>
          intro q hqg hqN hJq H locs hP hD hS ls hl
          refine lv_iload_n hx hb dX1_drop_26 rfl (lv_at hl 2 rfl) ?_
          refine lv_aload_n hx hb dX1_drop_27 rfl (lv_at hl 0 rfl) ?_
          refine va_get (D := D) (ci := 1) (v := .int (zI (N : Int))) (C := RX1) (T := TX1) (N := 12) hx hb hts in_X1 hown hK hP 0 rfl rfl 0 (by decide) (hts _ q119) (fun _ h9 => h9) rfl dX1_drop_28 ?_
          refine z_icmp_ge (tgt := 96) hx hb dX1_drop_31 (by decide) (by omega) (by omega) (fun c_31 => ?_) (fun c_31 => ?_)
          · refine lv_aload_n hx hb dX1_drop_96 rfl (lv_at hl 0 rfl) ?_
            refine va_get (D := D) (ci := 1) (v := .int (zI (N : Int))) (C := RX1) (T := TX1) (N := 12) hx hb hts in_X1 hown hK hP 0 rfl rfl 0 (by decide) (hts _ q119) (fun _ h9 => h9) rfl dX1_drop_97 ?_
            have e0 : q = N := by omega
            subst e0
            exact z_iret hx hb hr hlocks (v := (q : Int)) (q, mq_sh fr J q, mq_sh to J q, mq_sh wd J q, mq_sh ti J q) hS hP hK hD ⟨_, rfl, Or.inl ⟨by omega, by omega, by rw [← hJe, show n - 1 = q by omega]⟩⟩ dX1_drop_100
          · refine lv_aload_n hx hb dX1_drop_34 rfl (lv_at hl 0 rfl) ?_
            refine va_get (D := D) (ci := 1) (v := .ref (a 1)) (C := RX1) (T := TX1) (N := 12) hx hb hts in_X1 hown hK hP 0 rfl rfl 1 (by decide) (hts _ q120) (fun _ h9 => h9) rfl dX1_drop_35 ?_
            refine lv_iload_n hx hb dX1_drop_38 rfl (lv_at hl 2 rfl) ?_
            refine lv_aload_n hx hb dX1_drop_39 rfl (lv_at hl 0 rfl) ?_
            refine va_get (D := D) (ci := 1) (v := .ref (a 1)) (C := RX1) (T := TX1) (N := 12) hx hb hts in_X1 hown hK hP 0 rfl rfl 1 (by decide) (hts _ q120) (fun _ h9 => h9) rfl dX1_drop_40 ?_
            refine lv_iload_n hx hb dX1_drop_43 rfl (lv_at hl 2 rfl) ?_
            refine z_iconst hx hb dX1_drop_44 ?_
            refine z_iadd hx hb dX1_drop_45 ?_
            refine z_iald hx hb hK hP 1 0 rfl rfl (by omega) (by decide) (v := fr (q + 1)) (mq_sh_at fr J q) dX1_drop_46 ?_
            refine z_iast hx hb hK hP hD hS 1 0 rfl rfl (by omega) (by decide) (k := q) (by omega) dX1_drop_47 (fun H locs hP hD hS => ?_)
            have hP : va_P D vwCl (wM cI a (N : Int) (va_up (mq_sh fr J q) q (fr (q + 1))) (mq_sh to J q) (mq_sh wd J q) (mq_sh ti J q) ed st en rm fl cm qu) H := hP
            have hD : va_D A (wM cI a (N : Int) (va_up (mq_sh fr J q) q (fr (q + 1))) (mq_sh to J q) (mq_sh wd J q) (mq_sh ti J q) ed st en rm fl cm qu) := hD
            refine lv_aload_n hx hb dX1_drop_48 rfl (lv_at hl 0 rfl) ?_
            refine va_get (D := D) (ci := 1) (v := .ref (a 2)) (C := RX1) (T := TX1) (N := 12) hx hb hts in_X1 hown hK hP 0 rfl rfl 2 (by decide) (hts _ q121) (fun _ h9 => h9) rfl dX1_drop_49 ?_
            refine lv_iload_n hx hb dX1_drop_52 rfl (lv_at hl 2 rfl) ?_
            refine lv_aload_n hx hb dX1_drop_53 rfl (lv_at hl 0 rfl) ?_
            refine va_get (D := D) (ci := 1) (v := .ref (a 2)) (C := RX1) (T := TX1) (N := 12) hx hb hts in_X1 hown hK hP 0 rfl rfl 2 (by decide) (hts _ q121) (fun _ h9 => h9) rfl dX1_drop_54 ?_
            refine lv_iload_n hx hb dX1_drop_57 rfl (lv_at hl 2 rfl) ?_
            refine z_iconst hx hb dX1_drop_58 ?_
            refine z_iadd hx hb dX1_drop_59 ?_
            refine z_iald hx hb hK hP 2 0 rfl rfl (by omega) (by decide) (v := to (q + 1)) (mq_sh_at to J q) dX1_drop_60 ?_
            refine z_iast hx hb hK hP hD hS 2 0 rfl rfl (by omega) (by decide) (k := q) (by omega) dX1_drop_61 (fun H locs hP hD hS => ?_)
            have hP : va_P D vwCl (wM cI a (N : Int) (va_up (mq_sh fr J q) q (fr (q + 1))) (va_up (mq_sh to J q) q (to (q + 1))) (mq_sh wd J q) (mq_sh ti J q) ed st en rm fl cm qu) H := hP
            have hD : va_D A (wM cI a (N : Int) (va_up (mq_sh fr J q) q (fr (q + 1))) (va_up (mq_sh to J q) q (to (q + 1))) (mq_sh wd J q) (mq_sh ti J q) ed st en rm fl cm qu) := hD
            refine lv_aload_n hx hb dX1_drop_62 rfl (lv_at hl 0 rfl) ?_
            refine va_get (D := D) (ci := 1) (v := .ref (a 3)) (C := RX1) (T := TX1) (N := 12) hx hb hts in_X1 hown hK hP 0 rfl rfl 3 (by decide) (hts _ q122) (fun _ h9 => h9) rfl dX1_drop_63 ?_
            refine lv_iload_n hx hb dX1_drop_66 rfl (lv_at hl 2 rfl) ?_
            refine lv_aload_n hx hb dX1_drop_67 rfl (lv_at hl 0 rfl) ?_
            refine va_get (D := D) (ci := 1) (v := .ref (a 3)) (C := RX1) (T := TX1) (N := 12) hx hb hts in_X1 hown hK hP 0 rfl rfl 3 (by decide) (hts _ q122) (fun _ h9 => h9) rfl dX1_drop_68 ?_
            refine lv_iload_n hx hb dX1_drop_71 rfl (lv_at hl 2 rfl) ?_
            refine z_iconst hx hb dX1_drop_72 ?_
            refine z_iadd hx hb dX1_drop_73 ?_
            refine z_iald hx hb hK hP 3 0 rfl rfl (by omega) (by decide) (v := wd (q + 1)) (mq_sh_at wd J q) dX1_drop_74 ?_
            refine z_iast hx hb hK hP hD hS 3 0 rfl rfl (by omega) (by decide) (k := q) (by omega) dX1_drop_75 (fun H locs hP hD hS => ?_)
            have hP : va_P D vwCl (wM cI a (N : Int) (va_up (mq_sh fr J q) q (fr (q + 1))) (va_up (mq_sh to J q) q (to (q + 1))) (va_up (mq_sh wd J q) q (wd (q + 1))) (mq_sh ti J q) ed st en rm fl cm qu) H := hP
            have hD : va_D A (wM cI a (N : Int) (va_up (mq_sh fr J q) q (fr (q + 1))) (va_up (mq_sh to J q) q (to (q + 1))) (va_up (mq_sh wd J q) q (wd (q + 1))) (mq_sh ti J q) ed st en rm fl cm qu) := hD
            refine lv_aload_n hx hb dX1_drop_76 rfl (lv_at hl 0 rfl) ?_
            refine va_get (D := D) (ci := 1) (v := .ref (a 4)) (C := RX1) (T := TX1) (N := 12) hx hb hts in_X1 hown hK hP 0 rfl rfl 4 (by decide) (hts _ q123) (fun _ h9 => h9) rfl dX1_drop_77 ?_
            refine lv_iload_n hx hb dX1_drop_80 rfl (lv_at hl 2 rfl) ?_
            refine lv_aload_n hx hb dX1_drop_81 rfl (lv_at hl 0 rfl) ?_
            refine va_get (D := D) (ci := 1) (v := .ref (a 4)) (C := RX1) (T := TX1) (N := 12) hx hb hts in_X1 hown hK hP 0 rfl rfl 4 (by decide) (hts _ q123) (fun _ h9 => h9) rfl dX1_drop_82 ?_
            refine lv_iload_n hx hb dX1_drop_85 rfl (lv_at hl 2 rfl) ?_
            refine z_iconst hx hb dX1_drop_86 ?_
            refine z_iadd hx hb dX1_drop_87 ?_
            refine z_iald hx hb hK hP 4 0 rfl rfl (by omega) (by decide) (v := ti (q + 1)) (mq_sh_at ti J q) dX1_drop_88 ?_
            refine z_iast hx hb hK hP hD hS 4 0 rfl rfl (by omega) (by decide) (k := q) (by omega) dX1_drop_89 (fun H locs hP hD hS => ?_)
            have hP : va_P D vwCl (wM cI a (N : Int) (va_up (mq_sh fr J q) q (fr (q + 1))) (va_up (mq_sh to J q) q (to (q + 1))) (va_up (mq_sh wd J q) q (wd (q + 1))) (va_up (mq_sh ti J q) q (ti (q + 1))) ed st en rm fl cm qu) H := hP
            have hD : va_D A (wM cI a (N : Int) (va_up (mq_sh fr J q) q (fr (q + 1))) (va_up (mq_sh to J q) q (to (q + 1))) (va_up (mq_sh wd J q) q (wd (q + 1))) (va_up (mq_sh ti J q) q (ti (q + 1))) ed st en rm fl cm qu) := hD
            refine z_iinc (y := ((q + 1 : Nat) : Int)) (lv' := [(2, .int (zI ((q + 1 : Nat) : Int))), (0, .ref (a 0)), (1, .int (zI j))]) hx hb dX1_drop_90 hl (k := 2) rfl (by omega) (by decide) rfl (fun ls hl => ?_)
            refine lv_goto (tgt := 26) hx hb dX1_drop_93 (by decide) ?_
            rw [mq_sh_s hJq, mq_sh_s hJq, mq_sh_s hJq, mq_sh_s hJq] at hP hD
            exact ih (q + 1) (by omega) (by omega) (by omega) H locs hP hD hS ls (lv_sub hl [1, 2, 0] rfl)
      exact L1 (N + 1 - J) J (by omega) (by omega) (by omega) H locs (by rw [mq_sh_0, mq_sh_0, mq_sh_0, mq_sh_0]; exact hP) (by rw [mq_sh_0, mq_sh_0, mq_sh_0, mq_sh_0]; exact hD) hS ls (lv_sub hl [1, 2, 0] rfl)
    · refine z_iconst hx hb dX1_drop_12 ?_
      exact z_iret hx hb hr hlocks (v := -1) (n, fr, to, wd, ti) hS hP hK hD ⟨_, rfl, Or.inr ⟨by omega, rfl, rfl⟩⟩ dX1_drop_13
set_option maxHeartbeats 8000000 in
set_option maxRecDepth 100000 in
theorem m_edge (l : Launch) (D : va_G) (cI cZ : ClassId) (a : Nat → Nat) (sz : Nat) {n : Nat} {fr to wd ti : Nat → Int} {ed : Int} {st en rm fl cm qu : Nat → Int} (E : Nat) (hE : E < 170) (x1 x2 x3 : Int) :
    zMV l yX1_edge cX1_edge 4 (zRm 0 0) [.ref (a 0), .int (zI x1), .int (zI x2), .int (zI x3)] D vwCl (zT cI cZ) sz (wM cI a (n : Int) fr to wd ti (E : Int) st en rm fl cm qu)
      (fun (u : Unit) => True) (fun u => wM cI a n fr to wd ti ((E + 1 : Nat) : Int) (va_up st E x1) (va_up en E x2) (va_up rm E x3) (va_up fl E 0) cm qu) := by
  refine z_metV (by decide) (Nat.le_of_ble_eq_true rfl) ?_
  intro p e s m below meth c A ls hG
  obtain ⟨hx, hb, hr, hlocks, hml, hown, hts, hP, hK, hD, hS, hA, hl⟩ := hG
  have hown : s.vm.findClass RX1 = some m.cls := hown
  have hl : lv_has ls 4 [(0, .ref (a 0)), (1, .int (zI x1)), (2, .int (zI x2)), (3, .int (zI x3))] := hl
  refine lv_aload_n hx hb dX1_edge_0 rfl (lv_at hl 0 rfl) ?_
  refine va_get (D := D) (ci := 1) (v := .ref (a 5)) (C := RX1) (T := TX1) (N := 12) hx hb hts in_X1 hown hK hP 0 rfl rfl 6 (by decide) (hts _ q125) (fun _ h9 => h9) rfl dX1_edge_1 ?_
  refine lv_aload_n hx hb dX1_edge_4 rfl (lv_at hl 0 rfl) ?_
  refine va_get (D := D) (ci := 1) (v := .int (zI (E : Int))) (C := RX1) (T := TX1) (N := 12) hx hb hts in_X1 hown hK hP 0 rfl rfl 5 (by decide) (hts _ q124) (fun _ h9 => h9) rfl dX1_edge_5 ?_
  refine lv_iload_n hx hb dX1_edge_8 rfl (lv_at hl 1 rfl) ?_
  refine z_iast hx hb hK hP hD hS 5 0 rfl rfl (by omega) (by decide) (k := E) (by omega) dX1_edge_9 (fun H locs hP hD hS => ?_)
  have hP : va_P D vwCl (wM cI a (n : Int) fr to wd ti (E : Int) (va_up st E x1) en rm fl cm qu) H := hP
  have hD : va_D A (wM cI a (n : Int) fr to wd ti (E : Int) (va_up st E x1) en rm fl cm qu) := hD
  refine lv_aload_n hx hb dX1_edge_10 rfl (lv_at hl 0 rfl) ?_
  refine va_get (D := D) (ci := 1) (v := .ref (a 6)) (C := RX1) (T := TX1) (N := 12) hx hb hts in_X1 hown hK hP 0 rfl rfl 7 (by decide) (hts _ q126) (fun _ h9 => h9) rfl dX1_edge_11 ?_
  refine lv_aload_n hx hb dX1_edge_14 rfl (lv_at hl 0 rfl) ?_
  refine va_get (D := D) (ci := 1) (v := .int (zI (E : Int))) (C := RX1) (T := TX1) (N := 12) hx hb hts in_X1 hown hK hP 0 rfl rfl 5 (by decide) (hts _ q124) (fun _ h9 => h9) rfl dX1_edge_15 ?_
  refine lv_iload_n hx hb dX1_edge_18 rfl (lv_at hl 2 rfl) ?_
  refine z_iast hx hb hK hP hD hS 6 0 rfl rfl (by omega) (by decide) (k := E) (by omega) dX1_edge_19 (fun H locs hP hD hS => ?_)
  have hP : va_P D vwCl (wM cI a (n : Int) fr to wd ti (E : Int) (va_up st E x1) (va_up en E x2) rm fl cm qu) H := hP
  have hD : va_D A (wM cI a (n : Int) fr to wd ti (E : Int) (va_up st E x1) (va_up en E x2) rm fl cm qu) := hD
  refine lv_aload_n hx hb dX1_edge_20 rfl (lv_at hl 0 rfl) ?_
  refine va_get (D := D) (ci := 1) (v := .ref (a 7)) (C := RX1) (T := TX1) (N := 12) hx hb hts in_X1 hown hK hP 0 rfl rfl 8 (by decide) (hts _ q127) (fun _ h9 => h9) rfl dX1_edge_21 ?_
  refine lv_aload_n hx hb dX1_edge_24 rfl (lv_at hl 0 rfl) ?_
  refine va_get (D := D) (ci := 1) (v := .int (zI (E : Int))) (C := RX1) (T := TX1) (N := 12) hx hb hts in_X1 hown hK hP 0 rfl rfl 5 (by decide) (hts _ q124) (fun _ h9 => h9) rfl dX1_edge_25 ?_
  refine lv_iload_n hx hb dX1_edge_28 rfl (lv_at hl 3 rfl) ?_
  refine z_iast hx hb hK hP hD hS 7 0 rfl rfl (by omega) (by decide) (k := E) (by omega) dX1_edge_29 (fun H locs hP hD hS => ?_)
  have hP : va_P D vwCl (wM cI a (n : Int) fr to wd ti (E : Int) (va_up st E x1) (va_up en E x2) (va_up rm E x3) fl cm qu) H := hP
  have hD : va_D A (wM cI a (n : Int) fr to wd ti (E : Int) (va_up st E x1) (va_up en E x2) (va_up rm E x3) fl cm qu) := hD
  refine lv_aload_n hx hb dX1_edge_30 rfl (lv_at hl 0 rfl) ?_
  refine va_get (D := D) (ci := 1) (v := .ref (a 8)) (C := RX1) (T := TX1) (N := 12) hx hb hts in_X1 hown hK hP 0 rfl rfl 9 (by decide) (hts _ q128) (fun _ h9 => h9) rfl dX1_edge_31 ?_
  refine lv_aload_n hx hb dX1_edge_34 rfl (lv_at hl 0 rfl) ?_
  refine va_get (D := D) (ci := 1) (v := .int (zI (E : Int))) (C := RX1) (T := TX1) (N := 12) hx hb hts in_X1 hown hK hP 0 rfl rfl 5 (by decide) (hts _ q124) (fun _ h9 => h9) rfl dX1_edge_35 ?_
  refine z_iconst hx hb dX1_edge_38 ?_
  refine z_iast hx hb hK hP hD hS 8 0 rfl rfl (by omega) (by decide) (k := E) (by omega) dX1_edge_39 (fun H locs hP hD hS => ?_)
  have hP : va_P D vwCl (wM cI a (n : Int) fr to wd ti (E : Int) (va_up st E x1) (va_up en E x2) (va_up rm E x3) (va_up fl E 0) cm qu) H := hP
  have hD : va_D A (wM cI a (n : Int) fr to wd ti (E : Int) (va_up st E x1) (va_up en E x2) (va_up rm E x3) (va_up fl E 0) cm qu) := hD
  refine lv_aload_n hx hb dX1_edge_40 rfl (lv_at hl 0 rfl) ?_
  refine lv_dup hx hb dX1_edge_41 rfl ?_
  refine va_get (D := D) (ci := 1) (v := .int (zI (E : Int))) (C := RX1) (T := TX1) (N := 12) hx hb hts in_X1 hown hK hP 0 rfl rfl 5 (by decide) (hts _ q124) (fun _ h9 => h9) rfl dX1_edge_42 ?_
  refine z_iconst hx hb dX1_edge_45 ?_
  refine z_iadd hx hb dX1_edge_46 ?_
  refine z_top (y := ((E + 1 : Nat) : Int)) (by omega) ?_
  refine va_put (D := D) (ci := 1) (v := .int (zI ((E + 1 : Nat) : Int))) (ty := .int) (C := RX1) (T := TX1) (N := 12) hx hb hts in_X1 tyX1 tyX1_ok nmX1 hown hK hP hD hS 0 rfl rfl 5 (by decide) (hts _ q124) (fun _ h9 => h9) rfl (by decide +kernel) rfl rfl (Nat.le_of_ble_eq_true rfl) dX1_edge_47 (fun H locs hP hD hS => ?_)
  have hP : va_P D vwCl (wM cI a (n : Int) fr to wd ti ((E + 1 : Nat) : Int) (va_up st E x1) (va_up en E x2) (va_up rm E x3) (va_up fl E 0) cm qu) H := hP
  have hD : va_D A (wM cI a (n : Int) fr to wd ti ((E + 1 : Nat) : Int) (va_up st E x1) (va_up en E x2) (va_up rm E x3) (va_up fl E 0) cm qu) := hD
  exact z_vret hx hb hr hlocks () hS hP hK hD trivial dX1_edge_50
set_option maxHeartbeats 8000000 in
set_option maxRecDepth 100000 in
theorem m_build (l : Launch) (D : va_G) (cI cZ : ClassId) (a : Nat → Nat) (sz : Nat) {n : Nat} {fr to wd ti : Nat → Int} {ed : Int} {st en rm fl cm qu : Nat → Int} (L : Nat) (bt : Int) (tz : Nat → Int) (hN : mq_Net n fr to wd ti) (hL : L ≤ 12) (hbt : (bt = 1 ∧ ∀ i, tz i = ti i) ∨ (bt = 0 ∧ ∀ i, tz i = 0)) :
    zMV l yX1_build cX1_build 6 (zRm 1 23) [.ref (a 0), .int (zI (L : Int)), .int (zI bt)] D vwCl (zT cI cZ) sz (wM cI a (n : Int) fr to wd ti ed st en rm fl cm qu)
      (fun (u : Nat × (Nat → Int) × (Nat → Int) × (Nat → Int) × (Nat → Int)) => mq_Ed n fr to wd tz L u.1 u.2.1 u.2.2.1 u.2.2.2.1 ∧ mq_EOk u.1 u.2.1 u.2.2.1 u.2.2.2.1 u.2.2.2.2 ∧ ∀ g, mq_Fl u.1 u.2.1 u.2.2.1 u.2.2.2.2 g 0) (fun u => wM cI a n fr to wd ti (u.1 : Int) u.2.1 u.2.2.1 u.2.2.2.1 u.2.2.2.2 cm qu) := by
  refine z_metV (by decide) (Nat.le_of_ble_eq_true rfl) ?_
  intro p e s m below meth c A ls hG
  obtain ⟨hx, hb, hr, hlocks, hml, hown, hts, hP, hK, hD, hS, hA, hl⟩ := hG
  have hown : s.vm.findClass RX1 = some m.cls := hown
  have hn8 := hN.1
  have L3 : ∀ (g q E : Nat) (st en rm fl : Nat → Int), q + g = 6 → q ≤ 5 → mq_EdW n fr to wd tz L q 0 E st en rm fl → ∀ (H : Heap) (locs : List Loc), va_P D vwCl (wM cI a (n : Int) fr to wd ti (E : Int) st en rm fl cm qu) H → va_D A (wM cI a (n : Int) fr to wd ti (E : Int) st en rm fl cm qu) → va_S A s.heap H locs → ∀ (ls : Array Slot), lv_has ls 6 [(0, .ref (a 0)), (1, .int (zI (L : Int))), (3, .int (zI (q : Int)))] → W p l e (zRm 1 23) s m ([.ref (a 0), .int (zI (L : Int)), .int (zI bt)] : List Value).toArray below meth c H locs 0 0 (MQ below (zQv D vwCl (zT cI cZ) (fun (u : Nat × (Nat → Int) × (Nat → Int) × (Nat → Int) × (Nat → Int)) => mq_Ed n fr to wd tz L u.1 u.2.1 u.2.2.1 u.2.2.2.1 ∧ mq_EOk u.1 u.2.1 u.2.2.1 u.2.2.2.1 u.2.2.2.2 ∧ ∀ g, mq_Fl u.1 u.2.1 u.2.2.1 u.2.2.2.2 g 0) (fun u => wM cI a n fr to wd ti (u.1 : Int) u.2.1 u.2.2.1 u.2.2.2.1 u.2.2.2.2 cm qu) A) ([.ref (a 0), .int (zI (L : Int)), .int (zI bt)] : List Value).toArray s 0 0 A) (F0 m 94 ls []) := by
    intro g
    induction g with
    | zero => intro q E st en rm fl h1 h2; omega
    | succ g ih =>
      intro q E st en rm fl hqg hq5 hW H locs hP hD hS ls hl
      refine lv_iload_n hx hb dX1_build_94 rfl (lv_at hl 2 rfl) ?_
      refine z_iconst hx hb dX1_build_95 ?_
      refine z_icmp_ge (tgt := 142) hx hb dX1_build_96 (by decide) (by omega) (by omega) (fun c_96 => ?_) (fun c_96 => ?_)
      · have e0 : q = 5 := by omega
        subst e0
        exact z_vret hx hb hr hlocks (E, st, en, rm, fl) hS hP hK hD (mq_EdW_end hn8 hW) dX1_build_142
      · refine z_iconst hx hb dX1_build_99 ?_
        refine lv_istore (lv' := [(4, .int (zI 0)), (0, .ref (a 0)), (1, .int (zI (L : Int))), (3, .int (zI (q : Int)))]) hx hb dX1_build_100 hl (by decide) rfl (fun ls hl => ?_)
        have L4 : ∀ (g x E : Nat) (st en rm fl : Nat → Int), x + g = L + 1 → x ≤ L → mq_EdW n fr to wd tz L q x E st en rm fl → ∀ (H : Heap) (locs : List Loc), va_P D vwCl (wM cI a (n : Int) fr to wd ti (E : Int) st en rm fl cm qu) H → va_D A (wM cI a (n : Int) fr to wd ti (E : Int) st en rm fl cm qu) → va_S A s.heap H locs → ∀ (ls : Array Slot), lv_has ls 6 [(0, .ref (a 0)), (1, .int (zI (L : Int))), (3, .int (zI (q : Int))), (4, .int (zI (x : Int)))] → W p l e (zRm 1 23) s m ([.ref (a 0), .int (zI (L : Int)), .int (zI bt)] : List Value).toArray below meth c H locs 0 0 (MQ below (zQv D vwCl (zT cI cZ) (fun (u : Nat × (Nat → Int) × (Nat → Int) × (Nat → Int) × (Nat → Int)) => mq_Ed n fr to wd tz L u.1 u.2.1 u.2.2.1 u.2.2.2.1 ∧ mq_EOk u.1 u.2.1 u.2.2.1 u.2.2.2.1 u.2.2.2.2 ∧ ∀ g, mq_Fl u.1 u.2.1 u.2.2.1 u.2.2.2.2 g 0) (fun u => wM cI a n fr to wd ti (u.1 : Int) u.2.1 u.2.2.1 u.2.2.2.1 u.2.2.2.2 cm qu) A) ([.ref (a 0), .int (zI (L : Int)), .int (zI bt)] : List Value).toArray s 0 0 A) (F0 m 102 ls []) := by
          intro g
          induction g with
          | zero => intro x E st en rm fl h1 h2; omega
          | succ g ih4 =>
            intro x E st en rm fl hxg hxL hW H locs hP hD hS ls hl
            have hEb := hW.1
            refine lv_iload hx hb dX1_build_102 (lv_at hl 3 rfl) ?_
            refine lv_iload_n hx hb dX1_build_104 rfl (lv_at hl 1 rfl) ?_
            refine z_icmp_ge (tgt := 136) hx hb dX1_build_105 (by decide) (by omega) (by omega) (fun c_105 => ?_) (fun c_105 => ?_)
            · have e0 : x = L := by omega
              rw [e0] at hW
              refine z_iinc (y := ((q + 1 : Nat) : Int)) (lv' := [(3, .int (zI ((q + 1 : Nat) : Int))), (0, .ref (a 0)), (1, .int (zI (L : Int))), (4, .int (zI (x : Int)))]) hx hb dX1_build_136 hl (k := 2) rfl (by omega) (by decide) rfl (fun ls hl => ?_)
              refine lv_goto (tgt := 94) hx hb dX1_build_139 (by decide) ?_
              exact ih (q + 1) E st en rm fl (by omega) (by omega) (mq_EdW_n hW hL) H locs hP hD hS ls (lv_sub hl [1, 2, 0] rfl)
            · refine lv_aload_n hx hb dX1_build_108 rfl (lv_at hl 0 rfl) ?_
              refine z_bipush hx hb dX1_build_109 (by decide) ?_
              refine lv_iload_n hx hb dX1_build_111 rfl (lv_at hl 2 rfl) ?_
              refine z_imul hx hb dX1_build_112 ?_
              refine lv_iload hx hb dX1_build_113 (lv_at hl 3 rfl) ?_
              refine z_iadd hx hb dX1_build_115 ?_
              refine z_bipush hx hb dX1_build_116 (by decide) ?_
              refine lv_iload_n hx hb dX1_build_118 rfl (lv_at hl 2 rfl) ?_
              refine z_imul hx hb dX1_build_119 ?_
              refine lv_iload hx hb dX1_build_120 (lv_at hl 3 rfl) ?_
              refine z_iadd hx hb dX1_build_122 ?_
              refine z_iconst hx hb dX1_build_123 ?_
              refine z_iadd hx hb dX1_build_124 ?_
              refine lv_ldc hx hb hown (hts _ q186) dX1_build_125 ?_
              rw [show (100000 : Int32) = zI 100000 from rfl]
              refine z_callv (As := [.int (zI ((13 * (q : Int)) + (x : Int))), .int (zI (((13 * (q : Int)) + (x : Int)) + 1)), .int (zI 100000)]) (rest := []) (n := 3) (C := RX1) (T := TX1) (N := 12) (ci := 1) hx hb hml hown hts hK hP hD hS hA (m_edge (ed := 0) l D cI cZ a _ E (by omega) (13 * (q : Int) + (x : Int)) (13 * (q : Int) + (x : Int) + 1) 100000) (lw_V q182 q184 qs8 q13 q185) rfl rfl (by decide +kernel) ⟨Nat.le_of_ble_eq_true rfl, Nat.le_of_ble_eq_true rfl⟩ rfl rfl rfl hl.1 rfl (by decide) dX1_build_127 ⟨Nat.le_of_ble_eq_true rfl, Nat.le_of_ble_eq_true rfl⟩ (fun u H locs _ hP hD hS => ?_)
              have hP : va_P D vwCl (wM cI a (n : Int) fr to wd ti ((E + 1 : Nat) : Int) (va_up st E (13 * (q : Int) + (x : Int))) (va_up en E (13 * (q : Int) + (x : Int) + 1)) (va_up rm E 100000) (va_up fl E 0) cm qu) H := hP
              have hD : va_D A (wM cI a (n : Int) fr to wd ti ((E + 1 : Nat) : Int) (va_up st E (13 * (q : Int) + (x : Int))) (va_up en E (13 * (q : Int) + (x : Int) + 1)) (va_up rm E 100000) (va_up fl E 0) cm qu) := hD
              refine z_iinc (y := ((x + 1 : Nat) : Int)) (lv' := [(4, .int (zI ((x + 1 : Nat) : Int))), (0, .ref (a 0)), (1, .int (zI (L : Int))), (3, .int (zI (q : Int)))]) hx hb dX1_build_130 hl (k := 3) rfl (by omega) (by decide) rfl (fun ls hl => ?_)
              refine lv_goto (tgt := 102) hx hb dX1_build_133 (by decide) ?_
              exact ih4 (x + 1) (E + 1) _ _ _ _ (by omega) (by omega) (mq_EdW_s hW (by omega) (by omega)) H locs hP hD hS ls (lv_sub hl [1, 2, 3, 0] rfl)
        exact L4 (L + 1) 0 E st en rm fl (by omega) (by omega) hW H locs hP hD hS ls (lv_sub hl [1, 2, 3, 0] rfl)
  have L1 : ∀ (g i E : Nat) (st en rm fl : Nat → Int), i + g = n + 1 → i ≤ n → mq_EdL n fr to wd tz L i 0 E st en rm fl → ∀ (H : Heap) (locs : List Loc), va_P D vwCl (wM cI a (n : Int) fr to wd ti (E : Int) st en rm fl cm qu) H → va_D A (wM cI a (n : Int) fr to wd ti (E : Int) st en rm fl cm qu) → va_S A s.heap H locs → ∀ (ls : Array Slot), lv_has ls 6 [(0, .ref (a 0)), (1, .int (zI (L : Int))), (2, .int (zI bt)), (3, .int (zI (i : Int)))] → W p l e (zRm 1 23) s m ([.ref (a 0), .int (zI (L : Int)), .int (zI bt)] : List Value).toArray below meth c H locs 0 0 (MQ below (zQv D vwCl (zT cI cZ) (fun (u : Nat × (Nat → Int) × (Nat → Int) × (Nat → Int) × (Nat → Int)) => mq_Ed n fr to wd tz L u.1 u.2.1 u.2.2.1 u.2.2.2.1 ∧ mq_EOk u.1 u.2.1 u.2.2.1 u.2.2.2.1 u.2.2.2.2 ∧ ∀ g, mq_Fl u.1 u.2.1 u.2.2.1 u.2.2.2.2 g 0) (fun u => wM cI a n fr to wd ti (u.1 : Int) u.2.1 u.2.2.1 u.2.2.2.1 u.2.2.2.2 cm qu) A) ([.ref (a 0), .int (zI (L : Int)), .int (zI bt)] : List Value).toArray s 0 0 A) (F0 m 7 ls []) := by
    intro g
    induction g with
    | zero => intro i E st en rm fl h1 h2; omega
    | succ g ih =>
      intro i E st en rm fl hig hin hEL H locs hP hD hS ls hl
      refine lv_iload_n hx hb dX1_build_7 rfl (lv_at hl 3 rfl) ?_
      refine lv_aload_n hx hb dX1_build_8 rfl (lv_at hl 0 rfl) ?_
      refine va_get (D := D) (ci := 1) (v := .int (zI (n : Int))) (C := RX1) (T := TX1) (N := 12) hx hb hts in_X1 hown hK hP 0 rfl rfl 0 (by decide) (hts _ q119) (fun _ h9 => h9) rfl dX1_build_9 ?_
      refine z_icmp_ge (tgt := 92) hx hb dX1_build_12 (by decide) (by omega) (by omega) (fun c_12 => ?_) (fun c_12 => ?_)
      · have e0 : i = n := by omega
        subst e0
        refine z_iconst hx hb dX1_build_92 ?_
        refine lv_istore_n (lv' := [(3, .int (zI 0)), (0, .ref (a 0)), (1, .int (zI (L : Int))), (2, .int (zI bt))]) hx hb dX1_build_93 rfl hl (by decide) rfl (fun ls hl => ?_)
        exact L3 6 0 E st en rm fl (by omega) (by omega) (mq_EdW_0 hEL) H locs hP hD hS ls (lv_sub hl [1, 2, 0] rfl)
      · have hi8 := hN.2.1 i (by omega)
        have hw5 := hN.2.2.1 i (by omega)
        have htz : (bt = 1 ∧ tz i = ti i) ∨ (bt = 0 ∧ tz i = 0) := by rcases hbt with ⟨h, h2⟩ | ⟨h, h2⟩; exact Or.inl ⟨h, h2 i⟩; exact Or.inr ⟨h, h2 i⟩
        have J : W p l e (zRm 1 23) s m ([.ref (a 0), .int (zI (L : Int)), .int (zI bt)] : List Value).toArray below meth c H locs 0 0 (MQ below (zQv D vwCl (zT cI cZ) (fun (u : Nat × (Nat → Int) × (Nat → Int) × (Nat → Int) × (Nat → Int)) => mq_Ed n fr to wd tz L u.1 u.2.1 u.2.2.1 u.2.2.2.1 ∧ mq_EOk u.1 u.2.1 u.2.2.1 u.2.2.2.1 u.2.2.2.2 ∧ ∀ g, mq_Fl u.1 u.2.1 u.2.2.1 u.2.2.2.2 g 0) (fun u => wM cI a n fr to wd ti (u.1 : Int) u.2.1 u.2.2.1 u.2.2.2.1 u.2.2.2.2 cm qu) A) ([.ref (a 0), .int (zI (L : Int)), .int (zI bt)] : List Value).toArray s 0 0 A) (F0 m 29 ls [.int (zI (tz i))]) := by
          refine lv_istore (lv' := [(4, .int (zI (tz i))), (0, .ref (a 0)), (1, .int (zI (L : Int))), (2, .int (zI bt)), (3, .int (zI (i : Int)))]) hx hb dX1_build_29 hl (by decide) rfl (fun ls hl => ?_)
          refine z_iconst hx hb dX1_build_31 ?_
          refine lv_istore (lv' := [(5, .int (zI 0)), (4, .int (zI (tz i))), (0, .ref (a 0)), (1, .int (zI (L : Int))), (2, .int (zI bt)), (3, .int (zI (i : Int)))]) hx hb dX1_build_32 hl (by decide) rfl (fun ls hl => ?_)
          have L2 : ∀ (g x E : Nat) (st en rm fl : Nat → Int), x + g = L + 1 - (tz i).toNat + 1 → x ≤ L + 1 - (tz i).toNat → mq_EdL n fr to wd tz L i x E st en rm fl → ∀ (H : Heap) (locs : List Loc), va_P D vwCl (wM cI a (n : Int) fr to wd ti (E : Int) st en rm fl cm qu) H → va_D A (wM cI a (n : Int) fr to wd ti (E : Int) st en rm fl cm qu) → va_S A s.heap H locs → ∀ (ls : Array Slot), lv_has ls 6 [(0, .ref (a 0)), (1, .int (zI (L : Int))), (2, .int (zI bt)), (3, .int (zI (i : Int))), (4, .int (zI (tz i))), (5, .int (zI (x : Int)))] → W p l e (zRm 1 23) s m ([.ref (a 0), .int (zI (L : Int)), .int (zI bt)] : List Value).toArray below meth c H locs 0 0 (MQ below (zQv D vwCl (zT cI cZ) (fun (u : Nat × (Nat → Int) × (Nat → Int) × (Nat → Int) × (Nat → Int)) => mq_Ed n fr to wd tz L u.1 u.2.1 u.2.2.1 u.2.2.2.1 ∧ mq_EOk u.1 u.2.1 u.2.2.1 u.2.2.2.1 u.2.2.2.2 ∧ ∀ g, mq_Fl u.1 u.2.1 u.2.2.1 u.2.2.2.2 g 0) (fun u => wM cI a n fr to wd ti (u.1 : Int) u.2.1 u.2.2.1 u.2.2.2.1 u.2.2.2.2 cm qu) A) ([.ref (a 0), .int (zI (L : Int)), .int (zI bt)] : List Value).toArray s 0 0 A) (F0 m 34 ls []) := by
            intro g
            induction g with
            | zero => intro x E st en rm fl h1 h2; omega
            | succ g ih2 =>
              intro x E st en rm fl hxg hxL hEL H locs hP hD hS ls hl
              have hEb := hEL.1
              refine lv_iload hx hb dX1_build_34 (lv_at hl 5 rfl) ?_
              refine lv_iload hx hb dX1_build_36 (lv_at hl 4 rfl) ?_
              refine z_iadd hx hb dX1_build_38 ?_
              refine lv_iload_n hx hb dX1_build_39 rfl (lv_at hl 1 rfl) ?_
              refine z_icmp_gt (tgt := 86) hx hb dX1_build_40 (by decide) (by omega) (by omega) (fun c_40 => ?_) (fun c_40 => ?_)
              · have e0 : x = L + 1 - (tz i).toNat := by omega
                refine z_iinc (y := ((i + 1 : Nat) : Int)) (lv' := [(3, .int (zI ((i + 1 : Nat) : Int))), (0, .ref (a 0)), (1, .int (zI (L : Int))), (2, .int (zI bt)), (4, .int (zI (tz i))), (5, .int (zI (x : Int)))]) hx hb dX1_build_86 hl (k := 3) rfl (by omega) (by decide) rfl (fun ls hl => ?_)
                refine lv_goto (tgt := 7) hx hb dX1_build_89 (by decide) ?_
                exact ih (i + 1) E st en rm fl (by omega) (by omega) (mq_EdL_n hEL e0 (by omega)) H locs hP hD hS ls (lv_sub hl [1, 2, 3, 0] rfl)
              · refine lv_aload_n hx hb dX1_build_43 rfl (lv_at hl 0 rfl) ?_
                refine z_bipush hx hb dX1_build_44 (by decide) ?_
                refine lv_aload_n hx hb dX1_build_46 rfl (lv_at hl 0 rfl) ?_
                refine va_get (D := D) (ci := 1) (v := .ref (a 1)) (C := RX1) (T := TX1) (N := 12) hx hb hts in_X1 hown hK hP 0 rfl rfl 1 (by decide) (hts _ q120) (fun _ h9 => h9) rfl dX1_build_47 ?_
                refine lv_iload_n hx hb dX1_build_50 rfl (lv_at hl 3 rfl) ?_
                refine z_iald hx hb hK hP 1 0 rfl rfl (by omega) (by decide) (v := fr i) (congrArg _ (show ((i : Int) : Int).toNat = i by omega)) dX1_build_51 ?_
                refine z_imul hx hb dX1_build_52 ?_
                refine lv_iload hx hb dX1_build_53 (lv_at hl 5 rfl) ?_
                refine z_iadd hx hb dX1_build_55 ?_
                refine z_bipush hx hb dX1_build_56 (by decide) ?_
                refine lv_aload_n hx hb dX1_build_58 rfl (lv_at hl 0 rfl) ?_
                refine va_get (D := D) (ci := 1) (v := .ref (a 2)) (C := RX1) (T := TX1) (N := 12) hx hb hts in_X1 hown hK hP 0 rfl rfl 2 (by decide) (hts _ q121) (fun _ h9 => h9) rfl dX1_build_59 ?_
                refine lv_iload_n hx hb dX1_build_62 rfl (lv_at hl 3 rfl) ?_
                refine z_iald hx hb hK hP 2 0 rfl rfl (by omega) (by decide) (v := to i) (congrArg _ (show ((i : Int) : Int).toNat = i by omega)) dX1_build_63 ?_
                refine z_imul hx hb dX1_build_64 ?_
                refine lv_iload hx hb dX1_build_65 (lv_at hl 5 rfl) ?_
                refine z_iadd hx hb dX1_build_67 ?_
                refine lv_iload hx hb dX1_build_68 (lv_at hl 4 rfl) ?_
                refine z_iadd hx hb dX1_build_70 ?_
                refine lv_aload_n hx hb dX1_build_71 rfl (lv_at hl 0 rfl) ?_
                refine va_get (D := D) (ci := 1) (v := .ref (a 3)) (C := RX1) (T := TX1) (N := 12) hx hb hts in_X1 hown hK hP 0 rfl rfl 3 (by decide) (hts _ q122) (fun _ h9 => h9) rfl dX1_build_72 ?_
                refine lv_iload_n hx hb dX1_build_75 rfl (lv_at hl 3 rfl) ?_
                refine z_iald hx hb hK hP 3 0 rfl rfl (by omega) (by decide) (v := wd i) (congrArg _ (show ((i : Int) : Int).toNat = i by omega)) dX1_build_76 ?_
                refine z_callv (As := [.int (zI ((13 * (fr i)) + (x : Int))), .int (zI (((13 * (to i)) + (x : Int)) + (tz i))), .int (zI (wd i))]) (rest := []) (n := 3) (C := RX1) (T := TX1) (N := 12) (ci := 1) hx hb hml hown hts hK hP hD hS hA (m_edge (ed := 0) l D cI cZ a _ E (by omega) (13 * fr i + (x : Int)) (13 * to i + (x : Int) + tz i) (wd i)) (lw_V q182 q184 qs8 q13 q185) rfl rfl (by decide +kernel) ⟨Nat.le_of_ble_eq_true rfl, Nat.le_of_ble_eq_true rfl⟩ rfl rfl rfl hl.1 rfl (by decide) dX1_build_77 ⟨Nat.le_of_ble_eq_true rfl, Nat.le_of_ble_eq_true rfl⟩ (fun u H locs _ hP hD hS => ?_)
                have hP : va_P D vwCl (wM cI a (n : Int) fr to wd ti ((E + 1 : Nat) : Int) (va_up st E (13 * fr i + (x : Int))) (va_up en E (13 * to i + (x : Int) + tz i)) (va_up rm E (wd i)) (va_up fl E 0) cm qu) H := hP
                have hD : va_D A (wM cI a (n : Int) fr to wd ti ((E + 1 : Nat) : Int) (va_up st E (13 * fr i + (x : Int))) (va_up en E (13 * to i + (x : Int) + tz i)) (va_up rm E (wd i)) (va_up fl E 0) cm qu) := hD
                refine z_iinc (y := ((x + 1 : Nat) : Int)) (lv' := [(5, .int (zI ((x + 1 : Nat) : Int))), (0, .ref (a 0)), (1, .int (zI (L : Int))), (2, .int (zI bt)), (3, .int (zI (i : Int))), (4, .int (zI (tz i)))]) hx hb dX1_build_80 hl (k := 5) rfl (by omega) (by decide) rfl (fun ls hl => ?_)
                refine lv_goto (tgt := 34) hx hb dX1_build_83 (by decide) ?_
                exact ih2 (x + 1) (E + 1) _ _ _ _ (by omega) (by omega) (mq_EdL_s hEL (by omega) (by omega) (by omega) (by omega)) H locs hP hD hS ls (lv_sub hl [1, 2, 3, 4, 5, 0] rfl)
          exact L2 (L + 1 - (tz i).toNat + 1) 0 E st en rm fl (by omega) (by omega) hEL H locs hP hD hS ls (lv_sub hl [2, 3, 4, 5, 1, 0] rfl)
        refine lv_iload_n hx hb dX1_build_15 rfl (lv_at hl 2 rfl) ?_
        refine z_if_eq (tgt := 28) hx hb dX1_build_16 (by decide) (by omega) (fun c_16 => ?_) (fun c_16 => ?_)
        · refine z_iconst hx hb dX1_build_28 ?_
          refine z_top (y := tz i) (by omega) ?_
          exact J
        · refine lv_aload_n hx hb dX1_build_19 rfl (lv_at hl 0 rfl) ?_
          refine va_get (D := D) (ci := 1) (v := .ref (a 4)) (C := RX1) (T := TX1) (N := 12) hx hb hts in_X1 hown hK hP 0 rfl rfl 4 (by decide) (hts _ q123) (fun _ h9 => h9) rfl dX1_build_20 ?_
          refine lv_iload_n hx hb dX1_build_23 rfl (lv_at hl 3 rfl) ?_
          refine z_iald hx hb hK hP 4 0 rfl rfl (by omega) (by decide) (v := ti i) (congrArg _ (show ((i : Int) : Int).toNat = i by omega)) dX1_build_24 ?_
          refine lv_goto (tgt := 29) hx hb dX1_build_25 (by decide) ?_
          refine z_top (y := tz i) (by omega) ?_
          exact J
  have hl : lv_has ls 6 [(0, .ref (a 0)), (1, .int (zI (L : Int))), (2, .int (zI bt))] := hl
  refine lv_aload_n hx hb dX1_build_0 rfl (lv_at hl 0 rfl) ?_
  refine z_iconst hx hb dX1_build_1 ?_
  refine va_put (D := D) (ci := 1) (v := .int (zI 0)) (ty := .int) (C := RX1) (T := TX1) (N := 12) hx hb hts in_X1 tyX1 tyX1_ok nmX1 hown hK hP hD hS 0 rfl rfl 5 (by decide) (hts _ q124) (fun _ h9 => h9) rfl (by decide +kernel) rfl rfl (Nat.le_of_ble_eq_true rfl) dX1_build_2 (fun H locs hP hD hS => ?_)
  have hP : va_P D vwCl (wM cI a (n : Int) fr to wd ti 0 st en rm fl cm qu) H := hP
  have hD : va_D A (wM cI a (n : Int) fr to wd ti 0 st en rm fl cm qu) := hD
  refine z_iconst hx hb dX1_build_5 ?_
  refine lv_istore_n (lv' := [(3, .int (zI 0)), (0, .ref (a 0)), (1, .int (zI (L : Int))), (2, .int (zI bt))]) hx hb dX1_build_6 rfl hl (by decide) rfl (fun ls hl => ?_)
  exact L1 (n + 1) 0 0 st en rm fl (by omega) (by omega) mq_EdL_0 _ _ hP hD hS ls (lv_sub hl [1, 2, 3, 0] rfl)
end
section
set_option maxHeartbeats 8000000 in
set_option maxRecDepth 100000 in
theorem m_search (l : Launch) (D : va_G) (cI cZ : ClassId) (a : Nat → Nat) (sz : Nat) {n : Nat} {fr to wd ti : Nat → Int} {ed : Int} {st en rm fl cm qu : Nat → Int} (E gl : Nat) (hgl : gl < 65) (hE : mq_EOk E st en rm fl) :
    zMI l yX1_search cX1_search 8 (some .boolean) (zRm 0 0) [.ref (a 0), .int (zI (gl : Int))] D vwCl (zT cI cZ) sz (wM cI a (n : Int) fr to wd ti (E : Int) st en rm fl cm qu)
      (fun r (u : (Nat → Int) × (Nat → Int)) => ∃ x : Int, r = zI x ∧ mq_BS E st en rm fl u.1 ∧ ((x = 1 ∧ 0 ≤ u.1 gl) ∨ (x = 0 ∧ u.1 gl < 0))) (fun u => wM cI a n fr to wd ti (E : Int) st en rm fl u.1 u.2) := by
  refine z_metI (by decide) (Nat.le_of_ble_eq_true rfl) ?_
  intro p e s m below meth c A ls hG
  obtain ⟨hx, hb, hr, hlocks, hml, hown, hts, hP, hK, hD, hS, hA, hl⟩ := hG
  have hown : s.vm.findClass RX1 = some m.cls := hown
  have hE170 := hE.1
  have L2 : ∀ (g i ct : Nat) (cm qu : Nat → Int), i + g = 66 → i ≤ ct → ct ≤ 65 → mq_BI E st en rm fl i 0 ct cm qu → ∀ (H : Heap) (locs : List Loc), va_P D vwCl (wM cI a (n : Int) fr to wd ti (E : Int) st en rm fl cm qu) H → va_D A (wM cI a (n : Int) fr to wd ti (E : Int) st en rm fl cm qu) → va_S A s.heap H locs → ∀ (ls : Array Slot), lv_has ls 8 [(0, .ref (a 0)), (1, .int (zI (gl : Int))), (2, .int (zI (ct : Int))), (3, .int (zI (i : Int)))] → W p l e (zRm 0 0) s m ([.ref (a 0), .int (zI (gl : Int))] : List Value).toArray below meth c H locs 0 0 (MQ below (zQi D vwCl (zT cI cZ) (fun r (u : (Nat → Int) × (Nat → Int)) => ∃ x : Int, r = zI x ∧ mq_BS E st en rm fl u.1 ∧ ((x = 1 ∧ 0 ≤ u.1 gl) ∨ (x = 0 ∧ u.1 gl < 0))) (fun u => wM cI a n fr to wd ti (E : Int) st en rm fl u.1 u.2) A) ([.ref (a 0), .int (zI (gl : Int))] : List Value).toArray s 0 0 A) (F0 m 41 ls []) := by
    intro g
    induction g with
    | zero => intro i ct cm qu h1 h2 h3; omega
    | succ g ih =>
      intro i ct cm qu hig hic hc65 hBI H locs hP hD hS ls hl
      have hgc := hBI.2.2.1 gl hgl
      refine lv_iload_n hx hb dX1_search_41 rfl (lv_at hl 3 rfl) ?_
      refine lv_iload_n hx hb dX1_search_42 rfl (lv_at hl 2 rfl) ?_
      refine z_icmp_ge (tgt := 241) hx hb dX1_search_43 (by decide) (by omega) (by omega) (fun c_43 => ?_) (fun c_43 => ?_)
      · refine lv_aload_n hx hb dX1_search_241 rfl (lv_at hl 0 rfl) ?_
        refine va_get (D := D) (ci := 1) (v := .ref (a 9)) (C := RX1) (T := TX1) (N := 12) hx hb hts in_X1 hown hK hP 0 rfl rfl 10 (by decide) (hts _ q129) (fun _ h9 => h9) rfl dX1_search_242 ?_
        refine lv_iload_n hx hb dX1_search_245 rfl (lv_at hl 1 rfl) ?_
        refine z_iald hx hb hK hP 9 0 rfl rfl (by omega) (by decide) (v := cm gl) (congrArg _ (show ((gl : Int) : Int).toNat = gl by omega)) dX1_search_246 ?_
        refine z_if_lt (tgt := 254) hx hb dX1_search_247 (by decide) (by omega) (fun c_247 => ?_) (fun c_247 => ?_)
        · refine z_iconst hx hb dX1_search_254 ?_
          exact z_zret hx hb hr hlocks (v := 0) (Or.inl rfl) (cm, qu) hS hP hK hD ⟨0, rfl, mq_BS_of hE hBI (by omega), Or.inr ⟨rfl, show cm gl < 0 by omega⟩⟩ dX1_search_255
        · refine z_iconst hx hb dX1_search_250 ?_
          refine lv_goto (tgt := 255) hx hb dX1_search_251 (by decide) ?_
          exact z_zret hx hb hr hlocks (v := 1) (Or.inr rfl) (cm, qu) hS hP hK hD ⟨1, rfl, mq_BS_of hE hBI (by omega), Or.inl ⟨rfl, show 0 ≤ cm gl by omega⟩⟩ dX1_search_255
      · refine z_iconst hx hb dX1_search_46 ?_
        refine lv_istore (lv' := [(4, .int (zI 0)), (0, .ref (a 0)), (1, .int (zI (gl : Int))), (2, .int (zI (ct : Int))), (3, .int (zI (i : Int)))]) hx hb dX1_search_47 hl (by decide) rfl (fun ls hl => ?_)
        have L3 : ∀ (g ex ct : Nat) (cm qu : Nat → Int), ex + g = E + 1 → ex ≤ E → i < ct → mq_BI E st en rm fl i ex ct cm qu → ∀ (H : Heap) (locs : List Loc), va_P D vwCl (wM cI a (n : Int) fr to wd ti (E : Int) st en rm fl cm qu) H → va_D A (wM cI a (n : Int) fr to wd ti (E : Int) st en rm fl cm qu) → va_S A s.heap H locs → ∀ (ls : Array Slot), lv_has ls 8 [(0, .ref (a 0)), (1, .int (zI (gl : Int))), (2, .int (zI (ct : Int))), (3, .int (zI (i : Int))), (4, .int (zI (ex : Int)))] → W p l e (zRm 0 0) s m ([.ref (a 0), .int (zI (gl : Int))] : List Value).toArray below meth c H locs 0 0 (MQ below (zQi D vwCl (zT cI cZ) (fun r (u : (Nat → Int) × (Nat → Int)) => ∃ x : Int, r = zI x ∧ mq_BS E st en rm fl u.1 ∧ ((x = 1 ∧ 0 ≤ u.1 gl) ∨ (x = 0 ∧ u.1 gl < 0))) (fun u => wM cI a n fr to wd ti (E : Int) st en rm fl u.1 u.2) A) ([.ref (a 0), .int (zI (gl : Int))] : List Value).toArray s 0 0 A) (F0 m 49 ls []) := by
          intro g
          induction g with
          | zero => intro ex ct cm qu h1 h2; omega
          | succ g ih3 =>
            intro ex ct cm qu hexg hexE hict hBI H locs hP hD hS ls hl
            have hc65 := mq_BI_le hBI
            refine lv_iload hx hb dX1_search_49 (lv_at hl 4 rfl) ?_
            refine lv_aload_n hx hb dX1_search_51 rfl (lv_at hl 0 rfl) ?_
            refine va_get (D := D) (ci := 1) (v := .int (zI (E : Int))) (C := RX1) (T := TX1) (N := 12) hx hb hts in_X1 hown hK hP 0 rfl rfl 5 (by decide) (hts _ q124) (fun _ h9 => h9) rfl dX1_search_52 ?_
            refine z_icmp_ge (tgt := 235) hx hb dX1_search_55 (by decide) (by omega) (by omega) (fun c_55 => ?_) (fun c_55 => ?_)
            · have e0 : ex = E := by omega
              rw [e0] at hBI
              refine z_iinc (y := ((i + 1 : Nat) : Int)) (lv' := [(3, .int (zI ((i + 1 : Nat) : Int))), (0, .ref (a 0)), (1, .int (zI (gl : Int))), (2, .int (zI (ct : Int))), (4, .int (zI (ex : Int)))]) hx hb dX1_search_235 hl (k := 3) rfl (by omega) (by decide) rfl (fun ls hl => ?_)
              refine lv_goto (tgt := 41) hx hb dX1_search_238 (by decide) ?_
              exact ih (i + 1) ct cm qu (by omega) (by omega) (by omega) (mq_BI_next hBI) H locs hP hD hS ls (lv_sub hl [1, 2, 3, 0] rfl)
            · have hEx := hE.2 ex (by omega)
              have hqi := (hBI.2.2.2.1 i hict).1
              have hcs := hBI.2.2.1 (st ex).toNat (by omega)
              have hce := hBI.2.2.1 (en ex).toNat (by omega)
              have J1 : ∀ y : Int, ((y = 1 ∧ (st ex = qu i ∧ fl ex < rm ex ∧ cm (en ex).toNat < 0)) ∨ (y = 0 ∧ ¬ (st ex = qu i ∧ fl ex < rm ex ∧ cm (en ex).toNat < 0))) → W p l e (zRm 0 0) s m ([.ref (a 0), .int (zI (gl : Int))] : List Value).toArray below meth c H locs 0 0 (MQ below (zQi D vwCl (zT cI cZ) (fun r (u : (Nat → Int) × (Nat → Int)) => ∃ x : Int, r = zI x ∧ mq_BS E st en rm fl u.1 ∧ ((x = 1 ∧ 0 ≤ u.1 gl) ∨ (x = 0 ∧ u.1 gl < 0))) (fun u => wM cI a n fr to wd ti (E : Int) st en rm fl u.1 u.2) A) ([.ref (a 0), .int (zI (gl : Int))] : List Value).toArray s 0 0 A) (F0 m 111 ls [.int (zI y)]) := by
                intro y hy
                refine lv_istore (lv' := [(5, .int (zI y)), (0, .ref (a 0)), (1, .int (zI (gl : Int))), (2, .int (zI (ct : Int))), (3, .int (zI (i : Int))), (4, .int (zI (ex : Int)))]) hx hb dX1_search_111 hl (by decide) rfl (fun ls hl => ?_)
                have J2 : ∀ z : Int, ((z = 1 ∧ (en ex = qu i ∧ 0 < fl ex ∧ cm (st ex).toNat < 0)) ∨ (z = 0 ∧ ¬ (en ex = qu i ∧ 0 < fl ex ∧ cm (st ex).toNat < 0))) → W p l e (zRm 0 0) s m ([.ref (a 0), .int (zI (gl : Int))] : List Value).toArray below meth c H locs 0 0 (MQ below (zQi D vwCl (zT cI cZ) (fun r (u : (Nat → Int) × (Nat → Int)) => ∃ x : Int, r = zI x ∧ mq_BS E st en rm fl u.1 ∧ ((x = 1 ∧ 0 ≤ u.1 gl) ∨ (x = 0 ∧ u.1 gl < 0))) (fun u => wM cI a n fr to wd ti (E : Int) st en rm fl u.1 u.2) A) ([.ref (a 0), .int (zI (gl : Int))] : List Value).toArray s 0 0 A) (F0 m 159 ls [.int (zI z)]) := by
                  intro z hz
                  refine lv_istore (lv' := [(6, .int (zI z)), (5, .int (zI y)), (0, .ref (a 0)), (1, .int (zI (gl : Int))), (2, .int (zI (ct : Int))), (3, .int (zI (i : Int))), (4, .int (zI (ex : Int)))]) hx hb dX1_search_159 hl (by decide) rfl (fun ls hl => ?_)
                  refine lv_iload hx hb dX1_search_161 (lv_at hl 1 rfl) ?_
                  refine z_if_eq (tgt := 176) hx hb dX1_search_163 (by decide) (by omega) (fun c_163 => ?_) (fun c_163 => ?_)
                  · refine lv_aload_n hx hb dX1_search_176 rfl (lv_at hl 2 rfl) ?_
                    refine va_get (D := D) (ci := 1) (v := .ref (a 5)) (C := RX1) (T := TX1) (N := 12) hx hb hts in_X1 hown hK hP 0 rfl rfl 6 (by decide) (hts _ q125) (fun _ h9 => h9) rfl dX1_search_177 ?_
                    refine lv_iload hx hb dX1_search_180 (lv_at hl 6 rfl) ?_
                    refine z_iald hx hb hK hP 5 0 rfl rfl (by omega) (by decide) (v := st ex) (congrArg _ (show ((ex : Int) : Int).toNat = ex by omega)) dX1_search_182 ?_
                    refine lv_istore (lv' := [(7, .int (zI (st ex))), (6, .int (zI z)), (5, .int (zI y)), (0, .ref (a 0)), (1, .int (zI (gl : Int))), (2, .int (zI (ct : Int))), (3, .int (zI (i : Int))), (4, .int (zI (ex : Int)))]) hx hb dX1_search_183 hl (by decide) rfl (fun ls hl => ?_)
                    refine lv_iload hx hb dX1_search_185 (lv_at hl 2 rfl) ?_
                    refine z_if_ne (tgt := 195) hx hb dX1_search_187 (by decide) (by omega) (fun c_187 => absurd c_187 (by omega)) (fun c_187 => ?_)
                    refine lv_iload hx hb dX1_search_190 (lv_at hl 1 rfl) ?_
                    refine z_if_eq (tgt := 229) hx hb dX1_search_192 (by decide) (by omega) (fun c_192 => ?_) (fun c_192 => ?_)
                    · refine z_iinc (y := ((ex + 1 : Nat) : Int)) (lv' := [(4, .int (zI ((ex + 1 : Nat) : Int))), (7, .int (zI (st ex))), (6, .int (zI z)), (5, .int (zI y)), (0, .ref (a 0)), (1, .int (zI (gl : Int))), (2, .int (zI (ct : Int))), (3, .int (zI (i : Int)))]) hx hb dX1_search_229 hl (k := 7) rfl (by omega) (by decide) rfl (fun ls hl => ?_)
                      refine lv_goto (tgt := 49) hx hb dX1_search_232 (by decide) ?_
                      refine ih3 (ex + 1) ct cm qu (by omega) (by omega) (by omega) (mq_BI_no hBI (fun b => ?_)) H locs hP hD hS ls (lv_sub hl [4, 5, 6, 7, 0] rfl)
                      cases b
                      · exact fun (g1 : qu i = (((st ex).toNat : Nat) : Int)) (g2 : 0 < rm ex - fl ex) => show 0 ≤ cm (en ex).toNat by omega
                      · exact fun (g1 : qu i = (((en ex).toNat : Nat) : Int)) (g2 : 0 < fl ex) => show 0 ≤ cm (st ex).toNat by omega
                    · have hct := mq_BI_ct hBI (c := (st ex).toNat) (by omega) (by omega)
                      refine lv_aload_n hx hb dX1_search_195 rfl (lv_at hl 3 rfl) ?_
                      refine va_get (D := D) (ci := 1) (v := .ref (a 9)) (C := RX1) (T := TX1) (N := 12) hx hb hts in_X1 hown hK hP 0 rfl rfl 10 (by decide) (hts _ q129) (fun _ h9 => h9) rfl dX1_search_196 ?_
                      refine lv_iload hx hb dX1_search_199 (lv_at hl 0 rfl) ?_
                      refine lv_iload hx hb dX1_search_201 (lv_at hl 2 rfl) ?_
                      refine z_if_eq (tgt := 211) hx hb dX1_search_203 (by decide) (by omega) (fun c_203 => ?_) (fun c_203 => absurd c_203 (by omega))
                      refine z_sipush hx hb dX1_search_211 (by decide) ?_
                      refine lv_iload hx hb dX1_search_214 (lv_at hl 7 rfl) ?_
                      refine z_iadd hx hb dX1_search_216 ?_
                      refine z_iast hx hb hK hP hD hS 9 0 rfl rfl (by omega) (by decide) (k := (st ex).toNat) rfl dX1_search_217 (fun H locs hP hD hS => ?_)
                      have hP : va_P D vwCl (wM cI a (n : Int) fr to wd ti (E : Int) st en rm fl (va_up cm (st ex).toNat (200 + (ex : Int))) qu) H := hP
                      have hD : va_D A (wM cI a (n : Int) fr to wd ti (E : Int) st en rm fl (va_up cm (st ex).toNat (200 + (ex : Int))) qu) := hD
                      refine lv_aload_n hx hb dX1_search_218 rfl (lv_at hl 3 rfl) ?_
                      refine va_get (D := D) (ci := 1) (v := .ref (a 10)) (C := RX1) (T := TX1) (N := 12) hx hb hts in_X1 hown hK hP 0 rfl rfl 11 (by decide) (hts _ q130) (fun _ h9 => h9) rfl dX1_search_219 ?_
                      refine lv_iload_n hx hb dX1_search_222 rfl (lv_at hl 5 rfl) ?_
                      refine lv_iload hx hb dX1_search_223 (lv_at hl 0 rfl) ?_
                      refine z_top (y := (((st ex).toNat : Nat) : Int)) (by omega) ?_
                      refine z_iast hx hb hK hP hD hS 10 0 rfl rfl (by omega) (by decide) (k := ct) (by omega) dX1_search_225 (fun H locs hP hD hS => ?_)
                      have hP : va_P D vwCl (wM cI a (n : Int) fr to wd ti (E : Int) st en rm fl (va_up cm (st ex).toNat (200 + (ex : Int))) (va_up qu ct (((st ex).toNat : Nat) : Int))) H := hP
                      have hD : va_D A (wM cI a (n : Int) fr to wd ti (E : Int) st en rm fl (va_up cm (st ex).toNat (200 + (ex : Int))) (va_up qu ct (((st ex).toNat : Nat) : Int))) := hD
                      refine z_iinc (y := ((ct + 1 : Nat) : Int)) (lv' := [(2, .int (zI ((ct + 1 : Nat) : Int))), (7, .int (zI (st ex))), (6, .int (zI z)), (5, .int (zI y)), (0, .ref (a 0)), (1, .int (zI (gl : Int))), (3, .int (zI (i : Int))), (4, .int (zI (ex : Int)))]) hx hb dX1_search_226 hl (k := 5) rfl (by omega) (by decide) rfl (fun ls hl => ?_)
                      refine z_iinc (y := ((ex + 1 : Nat) : Int)) (lv' := [(4, .int (zI ((ex + 1 : Nat) : Int))), (2, .int (zI ((ct + 1 : Nat) : Int))), (7, .int (zI (st ex))), (6, .int (zI z)), (5, .int (zI y)), (0, .ref (a 0)), (1, .int (zI (gl : Int))), (3, .int (zI (i : Int)))]) hx hb dX1_search_229 hl (k := 7) rfl (by omega) (by decide) rfl (fun ls hl => ?_)
                      refine lv_goto (tgt := 49) hx hb dX1_search_232 (by decide) ?_
                      exact ih3 (ex + 1) (ct + 1) _ _ (by omega) (by omega) (by omega) (mq_BI_up (b := true) hE hBI hict (by omega) (show qu i = (((en ex).toNat : Nat) : Int) by omega) (show 0 < fl ex by omega) (show cm (st ex).toNat < 0 by omega)) H locs hP hD hS ls (lv_sub hl [5, 6, 1, 7, 0] rfl)
                  · refine lv_aload_n hx hb dX1_search_166 rfl (lv_at hl 2 rfl) ?_
                    refine va_get (D := D) (ci := 1) (v := .ref (a 6)) (C := RX1) (T := TX1) (N := 12) hx hb hts in_X1 hown hK hP 0 rfl rfl 7 (by decide) (hts _ q126) (fun _ h9 => h9) rfl dX1_search_167 ?_
                    refine lv_iload hx hb dX1_search_170 (lv_at hl 6 rfl) ?_
                    refine z_iald hx hb hK hP 6 0 rfl rfl (by omega) (by decide) (v := en ex) (congrArg _ (show ((ex : Int) : Int).toNat = ex by omega)) dX1_search_172 ?_
                    refine lv_goto (tgt := 183) hx hb dX1_search_173 (by decide) ?_
                    refine lv_istore (lv' := [(7, .int (zI (en ex))), (6, .int (zI z)), (5, .int (zI y)), (0, .ref (a 0)), (1, .int (zI (gl : Int))), (2, .int (zI (ct : Int))), (3, .int (zI (i : Int))), (4, .int (zI (ex : Int)))]) hx hb dX1_search_183 hl (by decide) rfl (fun ls hl => ?_)
                    refine lv_iload hx hb dX1_search_185 (lv_at hl 2 rfl) ?_
                    refine z_if_ne (tgt := 195) hx hb dX1_search_187 (by decide) (by omega) (fun c_187 => ?_) (fun c_187 => absurd c_187 (by omega))
                    have hct := mq_BI_ct hBI (c := (en ex).toNat) (by omega) (by omega)
                    refine lv_aload_n hx hb dX1_search_195 rfl (lv_at hl 3 rfl) ?_
                    refine va_get (D := D) (ci := 1) (v := .ref (a 9)) (C := RX1) (T := TX1) (N := 12) hx hb hts in_X1 hown hK hP 0 rfl rfl 10 (by decide) (hts _ q129) (fun _ h9 => h9) rfl dX1_search_196 ?_
                    refine lv_iload hx hb dX1_search_199 (lv_at hl 0 rfl) ?_
                    refine lv_iload hx hb dX1_search_201 (lv_at hl 2 rfl) ?_
                    refine z_if_eq (tgt := 211) hx hb dX1_search_203 (by decide) (by omega) (fun c_203 => absurd c_203 (by omega)) (fun c_203 => ?_)
                    refine lv_iload hx hb dX1_search_206 (lv_at hl 7 rfl) ?_
                    refine lv_goto (tgt := 217) hx hb dX1_search_208 (by decide) ?_
                    refine z_iast hx hb hK hP hD hS 9 0 rfl rfl (by omega) (by decide) (k := (en ex).toNat) rfl dX1_search_217 (fun H locs hP hD hS => ?_)
                    have hP : va_P D vwCl (wM cI a (n : Int) fr to wd ti (E : Int) st en rm fl (va_up cm (en ex).toNat (ex : Int)) qu) H := hP
                    have hD : va_D A (wM cI a (n : Int) fr to wd ti (E : Int) st en rm fl (va_up cm (en ex).toNat (ex : Int)) qu) := hD
                    refine lv_aload_n hx hb dX1_search_218 rfl (lv_at hl 3 rfl) ?_
                    refine va_get (D := D) (ci := 1) (v := .ref (a 10)) (C := RX1) (T := TX1) (N := 12) hx hb hts in_X1 hown hK hP 0 rfl rfl 11 (by decide) (hts _ q130) (fun _ h9 => h9) rfl dX1_search_219 ?_
                    refine lv_iload_n hx hb dX1_search_222 rfl (lv_at hl 5 rfl) ?_
                    refine lv_iload hx hb dX1_search_223 (lv_at hl 0 rfl) ?_
                    refine z_top (y := (((en ex).toNat : Nat) : Int)) (by omega) ?_
                    refine z_iast hx hb hK hP hD hS 10 0 rfl rfl (by omega) (by decide) (k := ct) (by omega) dX1_search_225 (fun H locs hP hD hS => ?_)
                    have hP : va_P D vwCl (wM cI a (n : Int) fr to wd ti (E : Int) st en rm fl (va_up cm (en ex).toNat (ex : Int)) (va_up qu ct (((en ex).toNat : Nat) : Int))) H := hP
                    have hD : va_D A (wM cI a (n : Int) fr to wd ti (E : Int) st en rm fl (va_up cm (en ex).toNat (ex : Int)) (va_up qu ct (((en ex).toNat : Nat) : Int))) := hD
                    refine z_iinc (y := ((ct + 1 : Nat) : Int)) (lv' := [(2, .int (zI ((ct + 1 : Nat) : Int))), (7, .int (zI (en ex))), (6, .int (zI z)), (5, .int (zI y)), (0, .ref (a 0)), (1, .int (zI (gl : Int))), (3, .int (zI (i : Int))), (4, .int (zI (ex : Int)))]) hx hb dX1_search_226 hl (k := 5) rfl (by omega) (by decide) rfl (fun ls hl => ?_)
                    refine z_iinc (y := ((ex + 1 : Nat) : Int)) (lv' := [(4, .int (zI ((ex + 1 : Nat) : Int))), (2, .int (zI ((ct + 1 : Nat) : Int))), (7, .int (zI (en ex))), (6, .int (zI z)), (5, .int (zI y)), (0, .ref (a 0)), (1, .int (zI (gl : Int))), (3, .int (zI (i : Int)))]) hx hb dX1_search_229 hl (k := 7) rfl (by omega) (by decide) rfl (fun ls hl => ?_)
                    refine lv_goto (tgt := 49) hx hb dX1_search_232 (by decide) ?_
                    exact ih3 (ex + 1) (ct + 1) _ _ (by omega) (by omega) (by omega) (mq_BI_up (b := false) hE hBI hict (by omega) (show qu i = (((st ex).toNat : Nat) : Int) by omega) (show 0 < rm ex - fl ex by omega) (show cm (en ex).toNat < 0 by omega)) H locs hP hD hS ls (lv_sub hl [5, 6, 1, 7, 0] rfl)
                refine lv_aload_n hx hb dX1_search_113 rfl (lv_at hl 1 rfl) ?_
                refine va_get (D := D) (ci := 1) (v := .ref (a 6)) (C := RX1) (T := TX1) (N := 12) hx hb hts in_X1 hown hK hP 0 rfl rfl 7 (by decide) (hts _ q126) (fun _ h9 => h9) rfl dX1_search_114 ?_
                refine lv_iload hx hb dX1_search_117 (lv_at hl 5 rfl) ?_
                refine z_iald hx hb hK hP 6 0 rfl rfl (by omega) (by decide) (v := en ex) (congrArg _ (show ((ex : Int) : Int).toNat = ex by omega)) dX1_search_119 ?_
                refine lv_aload_n hx hb dX1_search_120 rfl (lv_at hl 1 rfl) ?_
                refine va_get (D := D) (ci := 1) (v := .ref (a 10)) (C := RX1) (T := TX1) (N := 12) hx hb hts in_X1 hown hK hP 0 rfl rfl 11 (by decide) (hts _ q130) (fun _ h9 => h9) rfl dX1_search_121 ?_
                refine lv_iload_n hx hb dX1_search_124 rfl (lv_at hl 4 rfl) ?_
                refine z_iald hx hb hK hP 10 0 rfl rfl (by omega) (by decide) (v := qu i) (congrArg _ (show ((i : Int) : Int).toNat = i by omega)) dX1_search_125 ?_
                refine z_icmp_ne (tgt := 158) hx hb dX1_search_126 (by decide) (by omega) (by omega) (fun c_126 => ?_) (fun c_126 => ?_)
                · refine z_iconst hx hb dX1_search_158 ?_
                  exact J2 _ (by omega)
                · refine lv_aload_n hx hb dX1_search_129 rfl (lv_at hl 1 rfl) ?_
                  refine va_get (D := D) (ci := 1) (v := .ref (a 8)) (C := RX1) (T := TX1) (N := 12) hx hb hts in_X1 hown hK hP 0 rfl rfl 9 (by decide) (hts _ q128) (fun _ h9 => h9) rfl dX1_search_130 ?_
                  refine lv_iload hx hb dX1_search_133 (lv_at hl 5 rfl) ?_
                  refine z_iald hx hb hK hP 8 0 rfl rfl (by omega) (by decide) (v := fl ex) (congrArg _ (show ((ex : Int) : Int).toNat = ex by omega)) dX1_search_135 ?_
                  refine z_if_le (tgt := 158) hx hb dX1_search_136 (by decide) (by omega) (fun c_136 => ?_) (fun c_136 => ?_)
                  · refine z_iconst hx hb dX1_search_158 ?_
                    exact J2 _ (by omega)
                  · refine lv_aload_n hx hb dX1_search_139 rfl (lv_at hl 1 rfl) ?_
                    refine va_get (D := D) (ci := 1) (v := .ref (a 9)) (C := RX1) (T := TX1) (N := 12) hx hb hts in_X1 hown hK hP 0 rfl rfl 10 (by decide) (hts _ q129) (fun _ h9 => h9) rfl dX1_search_140 ?_
                    refine lv_aload_n hx hb dX1_search_143 rfl (lv_at hl 1 rfl) ?_
                    refine va_get (D := D) (ci := 1) (v := .ref (a 5)) (C := RX1) (T := TX1) (N := 12) hx hb hts in_X1 hown hK hP 0 rfl rfl 6 (by decide) (hts _ q125) (fun _ h9 => h9) rfl dX1_search_144 ?_
                    refine lv_iload hx hb dX1_search_147 (lv_at hl 5 rfl) ?_
                    refine z_iald hx hb hK hP 5 0 rfl rfl (by omega) (by decide) (v := st ex) (congrArg _ (show ((ex : Int) : Int).toNat = ex by omega)) dX1_search_149 ?_
                    refine z_iald hx hb hK hP 9 0 rfl rfl (by omega) (by decide) (v := cm (st ex).toNat) rfl dX1_search_150 ?_
                    refine z_if_ge (tgt := 158) hx hb dX1_search_151 (by decide) (by omega) (fun c_151 => ?_) (fun c_151 => ?_)
                    · refine z_iconst hx hb dX1_search_158 ?_
                      exact J2 _ (by omega)
                    · refine z_iconst hx hb dX1_search_154 ?_
                      refine lv_goto (tgt := 159) hx hb dX1_search_155 (by decide) ?_
                      exact J2 _ (by omega)
              refine lv_aload_n hx hb dX1_search_58 rfl (lv_at hl 0 rfl) ?_
              refine va_get (D := D) (ci := 1) (v := .ref (a 5)) (C := RX1) (T := TX1) (N := 12) hx hb hts in_X1 hown hK hP 0 rfl rfl 6 (by decide) (hts _ q125) (fun _ h9 => h9) rfl dX1_search_59 ?_
              refine lv_iload hx hb dX1_search_62 (lv_at hl 4 rfl) ?_
              refine z_iald hx hb hK hP 5 0 rfl rfl (by omega) (by decide) (v := st ex) (congrArg _ (show ((ex : Int) : Int).toNat = ex by omega)) dX1_search_64 ?_
              refine lv_aload_n hx hb dX1_search_65 rfl (lv_at hl 0 rfl) ?_
              refine va_get (D := D) (ci := 1) (v := .ref (a 10)) (C := RX1) (T := TX1) (N := 12) hx hb hts in_X1 hown hK hP 0 rfl rfl 11 (by decide) (hts _ q130) (fun _ h9 => h9) rfl dX1_search_66 ?_
              refine lv_iload_n hx hb dX1_search_69 rfl (lv_at hl 3 rfl) ?_
              refine z_iald hx hb hK hP 10 0 rfl rfl (by omega) (by decide) (v := qu i) (congrArg _ (show ((i : Int) : Int).toNat = i by omega)) dX1_search_70 ?_
              refine z_icmp_ne (tgt := 110) hx hb dX1_search_71 (by decide) (by omega) (by omega) (fun c_71 => ?_) (fun c_71 => ?_)
              · refine z_iconst hx hb dX1_search_110 ?_
                exact J1 _ (by omega)
              · refine lv_aload_n hx hb dX1_search_74 rfl (lv_at hl 0 rfl) ?_
                refine va_get (D := D) (ci := 1) (v := .ref (a 8)) (C := RX1) (T := TX1) (N := 12) hx hb hts in_X1 hown hK hP 0 rfl rfl 9 (by decide) (hts _ q128) (fun _ h9 => h9) rfl dX1_search_75 ?_
                refine lv_iload hx hb dX1_search_78 (lv_at hl 4 rfl) ?_
                refine z_iald hx hb hK hP 8 0 rfl rfl (by omega) (by decide) (v := fl ex) (congrArg _ (show ((ex : Int) : Int).toNat = ex by omega)) dX1_search_80 ?_
                refine lv_aload_n hx hb dX1_search_81 rfl (lv_at hl 0 rfl) ?_
                refine va_get (D := D) (ci := 1) (v := .ref (a 7)) (C := RX1) (T := TX1) (N := 12) hx hb hts in_X1 hown hK hP 0 rfl rfl 8 (by decide) (hts _ q127) (fun _ h9 => h9) rfl dX1_search_82 ?_
                refine lv_iload hx hb dX1_search_85 (lv_at hl 4 rfl) ?_
                refine z_iald hx hb hK hP 7 0 rfl rfl (by omega) (by decide) (v := rm ex) (congrArg _ (show ((ex : Int) : Int).toNat = ex by omega)) dX1_search_87 ?_
                refine z_icmp_ge (tgt := 110) hx hb dX1_search_88 (by decide) (by omega) (by omega) (fun c_88 => ?_) (fun c_88 => ?_)
                · refine z_iconst hx hb dX1_search_110 ?_
                  exact J1 _ (by omega)
                · refine lv_aload_n hx hb dX1_search_91 rfl (lv_at hl 0 rfl) ?_
                  refine va_get (D := D) (ci := 1) (v := .ref (a 9)) (C := RX1) (T := TX1) (N := 12) hx hb hts in_X1 hown hK hP 0 rfl rfl 10 (by decide) (hts _ q129) (fun _ h9 => h9) rfl dX1_search_92 ?_
                  refine lv_aload_n hx hb dX1_search_95 rfl (lv_at hl 0 rfl) ?_
                  refine va_get (D := D) (ci := 1) (v := .ref (a 6)) (C := RX1) (T := TX1) (N := 12) hx hb hts in_X1 hown hK hP 0 rfl rfl 7 (by decide) (hts _ q126) (fun _ h9 => h9) rfl dX1_search_96 ?_
                  refine lv_iload hx hb dX1_search_99 (lv_at hl 4 rfl) ?_
                  refine z_iald hx hb hK hP 6 0 rfl rfl (by omega) (by decide) (v := en ex) (congrArg _ (show ((ex : Int) : Int).toNat = ex by omega)) dX1_search_101 ?_
                  refine z_iald hx hb hK hP 9 0 rfl rfl (by omega) (by decide) (v := cm (en ex).toNat) rfl dX1_search_102 ?_
                  refine z_if_ge (tgt := 110) hx hb dX1_search_103 (by decide) (by omega) (fun c_103 => ?_) (fun c_103 => ?_)
                  · refine z_iconst hx hb dX1_search_110 ?_
                    exact J1 _ (by omega)
                  · refine z_iconst hx hb dX1_search_106 ?_
                    refine lv_goto (tgt := 111) hx hb dX1_search_107 (by decide) ?_
                    exact J1 _ (by omega)
        exact L3 (E + 1) 0 ct cm qu (by omega) (by omega) (by omega) hBI H locs hP hD hS ls (lv_sub hl [1, 2, 3, 4, 0] rfl)
  have L1 : ∀ (g i : Nat) (cm : Nat → Int), i + g = 66 → i ≤ 65 → (∀ p, p < i → cm p = -1) → ∀ (H : Heap) (locs : List Loc), va_P D vwCl (wM cI a (n : Int) fr to wd ti (E : Int) st en rm fl cm qu) H → va_D A (wM cI a (n : Int) fr to wd ti (E : Int) st en rm fl cm qu) → va_S A s.heap H locs → ∀ (ls : Array Slot), lv_has ls 8 [(0, .ref (a 0)), (1, .int (zI (gl : Int))), (2, .int (zI (i : Int)))] → W p l e (zRm 0 0) s m ([.ref (a 0), .int (zI (gl : Int))] : List Value).toArray below meth c H locs 0 0 (MQ below (zQi D vwCl (zT cI cZ) (fun r (u : (Nat → Int) × (Nat → Int)) => ∃ x : Int, r = zI x ∧ mq_BS E st en rm fl u.1 ∧ ((x = 1 ∧ 0 ≤ u.1 gl) ∨ (x = 0 ∧ u.1 gl < 0))) (fun u => wM cI a n fr to wd ti (E : Int) st en rm fl u.1 u.2) A) ([.ref (a 0), .int (zI (gl : Int))] : List Value).toArray s 0 0 A) (F0 m 2 ls []) := by
    intro g
    induction g with
    | zero => intro i cm h1 h2; omega
    | succ g ih =>
      intro i cm hig hi5 hcm H locs hP hD hS ls hl
      refine lv_iload_n hx hb dX1_search_2 rfl (lv_at hl 2 rfl) ?_
      refine z_bipush hx hb dX1_search_3 (by decide) ?_
      refine z_icmp_ge (tgt := 21) hx hb dX1_search_5 (by decide) (by omega) (by omega) (fun c_5 => ?_) (fun c_5 => ?_)
      · refine lv_aload_n hx hb dX1_search_21 rfl (lv_at hl 0 rfl) ?_
        refine va_get (D := D) (ci := 1) (v := .ref (a 9)) (C := RX1) (T := TX1) (N := 12) hx hb hts in_X1 hown hK hP 0 rfl rfl 10 (by decide) (hts _ q129) (fun _ h9 => h9) rfl dX1_search_22 ?_
        refine z_iconst hx hb dX1_search_25 ?_
        refine z_sipush hx hb dX1_search_26 (by decide) ?_
        refine z_iast hx hb hK hP hD hS 9 0 rfl rfl (by omega) (by decide) (k := 0) (by omega) dX1_search_29 (fun H locs hP hD hS => ?_)
        have hP : va_P D vwCl (wM cI a (n : Int) fr to wd ti (E : Int) st en rm fl (va_up cm 0 999) qu) H := hP
        have hD : va_D A (wM cI a (n : Int) fr to wd ti (E : Int) st en rm fl (va_up cm 0 999) qu) := hD
        refine lv_aload_n hx hb dX1_search_30 rfl (lv_at hl 0 rfl) ?_
        refine va_get (D := D) (ci := 1) (v := .ref (a 10)) (C := RX1) (T := TX1) (N := 12) hx hb hts in_X1 hown hK hP 0 rfl rfl 11 (by decide) (hts _ q130) (fun _ h9 => h9) rfl dX1_search_31 ?_
        refine z_iconst hx hb dX1_search_34 ?_
        refine z_iconst hx hb dX1_search_35 ?_
        refine z_iast hx hb hK hP hD hS 10 0 rfl rfl (by omega) (by decide) (k := 0) (by omega) dX1_search_36 (fun H locs hP hD hS => ?_)
        have hP : va_P D vwCl (wM cI a (n : Int) fr to wd ti (E : Int) st en rm fl (va_up cm 0 999) (va_up qu 0 0)) H := hP
        have hD : va_D A (wM cI a (n : Int) fr to wd ti (E : Int) st en rm fl (va_up cm 0 999) (va_up qu 0 0)) := hD
        refine z_iconst hx hb dX1_search_37 ?_
        refine lv_istore_n (lv' := [(2, .int (zI 1)), (0, .ref (a 0)), (1, .int (zI (gl : Int)))]) hx hb dX1_search_38 rfl hl (by decide) rfl (fun ls hl => ?_)
        refine z_iconst hx hb dX1_search_39 ?_
        refine lv_istore_n (lv' := [(3, .int (zI 0)), (2, .int (zI 1)), (0, .ref (a 0)), (1, .int (zI (gl : Int)))]) hx hb dX1_search_40 rfl hl (by decide) rfl (fun ls hl => ?_)
        have hc0 : ∀ c, c < 65 → va_up cm 0 999 c = if c = 0 then 999 else -1 := by
          intro c hc
          by_cases z : c = 0
          · rw [z, va_up_self]; rfl
          · rw [va_up_ne _ _ z, if_neg z]; exact hcm c (by omega)
        exact L2 66 0 1 _ _ (by omega) (by omega) (by omega) (mq_BI_0 hc0 (va_up_self _ _ _)) H locs hP hD hS ls (lv_sub hl [2, 3, 1, 0] rfl)
      · refine lv_aload_n hx hb dX1_search_8 rfl (lv_at hl 0 rfl) ?_
        refine va_get (D := D) (ci := 1) (v := .ref (a 9)) (C := RX1) (T := TX1) (N := 12) hx hb hts in_X1 hown hK hP 0 rfl rfl 10 (by decide) (hts _ q129) (fun _ h9 => h9) rfl dX1_search_9 ?_
        refine lv_iload_n hx hb dX1_search_12 rfl (lv_at hl 2 rfl) ?_
        refine z_iconst hx hb dX1_search_13 ?_
        refine z_iast hx hb hK hP hD hS 9 0 rfl rfl (by omega) (by decide) (k := i) (by omega) dX1_search_14 (fun H locs hP hD hS => ?_)
        have hP : va_P D vwCl (wM cI a (n : Int) fr to wd ti (E : Int) st en rm fl (va_up cm i (-1)) qu) H := hP
        have hD : va_D A (wM cI a (n : Int) fr to wd ti (E : Int) st en rm fl (va_up cm i (-1)) qu) := hD
        refine z_iinc (y := ((i + 1 : Nat) : Int)) (lv' := [(2, .int (zI ((i + 1 : Nat) : Int))), (0, .ref (a 0)), (1, .int (zI (gl : Int)))]) hx hb dX1_search_15 hl (k := 2) rfl (by omega) (by decide) rfl (fun ls hl => ?_)
        refine lv_goto (tgt := 2) hx hb dX1_search_18 (by decide) ?_
        exact ih (i + 1) _ (by omega) (by omega) (z_ext (g := fun _ => -1) hcm rfl) H locs hP hD hS ls (lv_sub hl [1, 2, 0] rfl)
  have hl : lv_has ls 8 [(0, .ref (a 0)), (1, .int (zI (gl : Int)))] := hl
  refine z_iconst hx hb dX1_search_0 ?_
  refine lv_istore_n (lv' := [(2, .int (zI 0)), (0, .ref (a 0)), (1, .int (zI (gl : Int)))]) hx hb dX1_search_1 rfl hl (by decide) rfl (fun ls hl => ?_)
  exact L1 66 0 cm (by omega) (by omega) (fun p hp => absurd hp (by omega)) _ _ hP hD hS ls (lv_sub hl [1, 2, 0] rfl)
set_option maxHeartbeats 8000000 in
set_option maxRecDepth 100000 in
theorem m_send1 (l : Launch) (D : va_G) (cI cZ : ClassId) (a : Nat → Nat) (sz : Nat) {n : Nat} {fr to wd ti : Nat → Int} {ed : Int} {st en rm fl cm qu : Nat → Int} (E gl : Nat) (hgl : gl < 65) (hE : mq_EOk E st en rm fl) (hBS : mq_BS E st en rm fl cm) (hg0 : 0 ≤ cm gl) :
    zMV l yX1_send cX1_send 4 (zRm 0 0) [.ref (a 0), .int (zI (gl : Int))] D vwCl (zT cI cZ) sz (wM cI a (n : Int) fr to wd ti (E : Int) st en rm fl cm qu)
      (fun (u : Nat → Int) => ∃ ps : Nat → Nat, mq_MS E st en rm fl cm ps gl 0 u) (fun u => wM cI a n fr to wd ti (E : Int) st en rm u cm qu) := by
  refine z_metV (by decide) (Nat.le_of_ble_eq_true rfl) ?_
  intro p e s m below meth c A ls hG
  obtain ⟨hx, hb, hr, hlocks, hml, hown, hts, hP, hK, hD, hS, hA, hl⟩ := hG
  have hown : s.vm.findClass RX1 = some m.cls := hown
  have hE170 := hE.1
  obtain ⟨-, hcm, -, ps, hp1, hp2⟩ := id hBS
  have L1 : ∀ (g cc : Nat) (f1 : Nat → Int), ps cc < g → cc < 65 → 0 ≤ cm cc → mq_MS E st en rm fl cm ps gl cc f1 → ∀ (H : Heap) (locs : List Loc), va_P D vwCl (wM cI a (n : Int) fr to wd ti (E : Int) st en rm f1 cm qu) H → va_D A (wM cI a (n : Int) fr to wd ti (E : Int) st en rm f1 cm qu) → va_S A s.heap H locs → ∀ (ls : Array Slot), lv_has ls 4 [(0, .ref (a 0)), (1, .int (zI (gl : Int))), (2, .int (zI (cc : Int)))] → W p l e (zRm 0 0) s m ([.ref (a 0), .int (zI (gl : Int))] : List Value).toArray below meth c H locs 0 0 (MQ below (zQv D vwCl (zT cI cZ) (fun (u : Nat → Int) => ∃ ps : Nat → Nat, mq_MS E st en rm fl cm ps gl 0 u) (fun u => wM cI a n fr to wd ti (E : Int) st en rm u cm qu) A) ([.ref (a 0), .int (zI (gl : Int))] : List Value).toArray s 0 0 A) (F0 m 2 ls []) := by
    intro g
    induction g with
    | zero => intro cc f1 h1; omega
    | succ g ih =>
      intro cc f1 hpg hc65 hc0 hMS H locs hP hD hS ls hl
      refine lv_iload_n hx hb dX1_send_2 rfl (lv_at hl 2 rfl) ?_
      refine z_if_eq (tgt := 68) hx hb dX1_send_3 (by decide) (by omega) (fun c_3 => ?_) (fun c_3 => ?_)
      · have e0 : cc = 0 := by omega
        rw [e0] at hMS
        exact z_vret hx hb hr hlocks f1 hS hP hK hD ⟨ps, hMS⟩ dX1_send_68
      · obtain ⟨ex, b, g1, g2, g3, g4, g5, g6⟩ := hp2 cc hc65 (by omega) hc0
        have hEx := hE.2 ex g1
        have hfx := hMS.1 ex g1
        have hMS2 := mq_MS_s hE hp2 hMS hc65 (by omega) hc0 g1 g2
        cases b
        · have hcv : cm cc = (ex : Int) := g2
          have g5 : 0 ≤ cm (st ex).toNat := g5
          have g6 : ps (st ex).toNat < ps cc := g6
          have hMS2 : mq_MS E st en rm fl cm ps gl (st ex).toNat (va_up f1 ex (f1 ex + 1)) := hMS2
          refine lv_aload_n hx hb dX1_send_6 rfl (lv_at hl 0 rfl) ?_
          refine va_get (D := D) (ci := 1) (v := .ref (a 9)) (C := RX1) (T := TX1) (N := 12) hx hb hts in_X1 hown hK hP 0 rfl rfl 10 (by decide) (hts _ q129) (fun _ h9 => h9) rfl dX1_send_7 ?_
          refine lv_iload_n hx hb dX1_send_10 rfl (lv_at hl 2 rfl) ?_
          refine z_iald hx hb hK hP 9 0 rfl rfl (by omega) (by decide) (v := (ex : Int)) hcv dX1_send_11 ?_
          refine lv_istore_n (lv' := [(3, .int (zI (ex : Int))), (0, .ref (a 0)), (1, .int (zI (gl : Int))), (2, .int (zI (cc : Int)))]) hx hb dX1_send_12 rfl hl (by decide) rfl (fun ls hl => ?_)
          refine lv_iload_n hx hb dX1_send_13 rfl (lv_at hl 0 rfl) ?_
          refine z_sipush hx hb dX1_send_14 (by decide) ?_
          refine z_icmp_ge (tgt := 40) hx hb dX1_send_17 (by decide) (by omega) (by omega) (fun c_17 => absurd c_17 (by omega)) (fun c_17 => ?_)
          refine lv_aload_n hx hb dX1_send_20 rfl (lv_at hl 1 rfl) ?_
          refine va_get (D := D) (ci := 1) (v := .ref (a 8)) (C := RX1) (T := TX1) (N := 12) hx hb hts in_X1 hown hK hP 0 rfl rfl 9 (by decide) (hts _ q128) (fun _ h9 => h9) rfl dX1_send_21 ?_
          refine lv_iload_n hx hb dX1_send_24 rfl (lv_at hl 0 rfl) ?_
          refine lv_dup2_11 hx hb dX1_send_25 rfl rfl ?_
          refine z_iald hx hb hK hP 8 0 rfl rfl (by omega) (by decide) (v := f1 ex) (congrArg _ (show ((ex : Int) : Int).toNat = ex by omega)) dX1_send_26 ?_
          refine z_iconst hx hb dX1_send_27 ?_
          refine z_iadd hx hb dX1_send_28 ?_
          refine z_iast hx hb hK hP hD hS 8 0 rfl rfl (by omega) (by decide) (k := ex) (by omega) dX1_send_29 (fun H locs hP hD hS => ?_)
          have hP : va_P D vwCl (wM cI a (n : Int) fr to wd ti (E : Int) st en rm (va_up f1 ex ((f1 ex) + 1)) cm qu) H := hP
          have hD : va_D A (wM cI a (n : Int) fr to wd ti (E : Int) st en rm (va_up f1 ex ((f1 ex) + 1)) cm qu) := hD
          refine lv_aload_n hx hb dX1_send_30 rfl (lv_at hl 1 rfl) ?_
          refine va_get (D := D) (ci := 1) (v := .ref (a 5)) (C := RX1) (T := TX1) (N := 12) hx hb hts in_X1 hown hK hP 0 rfl rfl 6 (by decide) (hts _ q125) (fun _ h9 => h9) rfl dX1_send_31 ?_
          refine lv_iload_n hx hb dX1_send_34 rfl (lv_at hl 0 rfl) ?_
          refine z_iald hx hb hK hP 5 0 rfl rfl (by omega) (by decide) (v := st ex) (congrArg _ (show ((ex : Int) : Int).toNat = ex by omega)) dX1_send_35 ?_
          refine z_top (y := (((st ex).toNat : Nat) : Int)) (by omega) ?_
          refine lv_istore_n (lv' := [(2, .int (zI (((st ex).toNat : Nat) : Int))), (3, .int (zI (ex : Int))), (0, .ref (a 0)), (1, .int (zI (gl : Int)))]) hx hb dX1_send_36 rfl hl (by decide) rfl (fun ls hl => ?_)
          refine lv_goto (tgt := 65) hx hb dX1_send_37 (by decide) ?_
          refine lv_goto (tgt := 2) hx hb dX1_send_65 (by decide) ?_
          exact ih (st ex).toNat _ (by omega) (by omega) g5 hMS2 H locs hP hD hS ls (lv_sub hl [2, 3, 0] rfl)
        · have hcv : cm cc = 200 + (ex : Int) := g2
          have g5 : 0 ≤ cm (en ex).toNat := g5
          have g6 : ps (en ex).toNat < ps cc := g6
          have hMS2 : mq_MS E st en rm fl cm ps gl (en ex).toNat (va_up f1 ex (f1 ex - 1)) := hMS2
          refine lv_aload_n hx hb dX1_send_6 rfl (lv_at hl 0 rfl) ?_
          refine va_get (D := D) (ci := 1) (v := .ref (a 9)) (C := RX1) (T := TX1) (N := 12) hx hb hts in_X1 hown hK hP 0 rfl rfl 10 (by decide) (hts _ q129) (fun _ h9 => h9) rfl dX1_send_7 ?_
          refine lv_iload_n hx hb dX1_send_10 rfl (lv_at hl 2 rfl) ?_
          refine z_iald hx hb hK hP 9 0 rfl rfl (by omega) (by decide) (v := 200 + (ex : Int)) hcv dX1_send_11 ?_
          refine lv_istore_n (lv' := [(3, .int (zI (200 + (ex : Int)))), (0, .ref (a 0)), (1, .int (zI (gl : Int))), (2, .int (zI (cc : Int)))]) hx hb dX1_send_12 rfl hl (by decide) rfl (fun ls hl => ?_)
          refine lv_iload_n hx hb dX1_send_13 rfl (lv_at hl 0 rfl) ?_
          refine z_sipush hx hb dX1_send_14 (by decide) ?_
          refine z_icmp_ge (tgt := 40) hx hb dX1_send_17 (by decide) (by omega) (by omega) (fun c_17 => ?_) (fun c_17 => absurd c_17 (by omega))
          refine lv_aload_n hx hb dX1_send_40 rfl (lv_at hl 1 rfl) ?_
          refine va_get (D := D) (ci := 1) (v := .ref (a 8)) (C := RX1) (T := TX1) (N := 12) hx hb hts in_X1 hown hK hP 0 rfl rfl 9 (by decide) (hts _ q128) (fun _ h9 => h9) rfl dX1_send_41 ?_
          refine lv_iload_n hx hb dX1_send_44 rfl (lv_at hl 0 rfl) ?_
          refine z_sipush hx hb dX1_send_45 (by decide) ?_
          refine z_isub hx hb dX1_send_48 ?_
          refine z_top (y := (ex : Int)) (by omega) ?_
          refine lv_dup2_11 hx hb dX1_send_49 rfl rfl ?_
          refine z_iald hx hb hK hP 8 0 rfl rfl (by omega) (by decide) (v := f1 ex) (congrArg _ (show ((ex : Int) : Int).toNat = ex by omega)) dX1_send_50 ?_
          refine z_iconst hx hb dX1_send_51 ?_
          refine z_isub hx hb dX1_send_52 ?_
          refine z_iast hx hb hK hP hD hS 8 0 rfl rfl (by omega) (by decide) (k := ex) (by omega) dX1_send_53 (fun H locs hP hD hS => ?_)
          have hP : va_P D vwCl (wM cI a (n : Int) fr to wd ti (E : Int) st en rm (va_up f1 ex ((f1 ex) - 1)) cm qu) H := hP
          have hD : va_D A (wM cI a (n : Int) fr to wd ti (E : Int) st en rm (va_up f1 ex ((f1 ex) - 1)) cm qu) := hD
          refine lv_aload_n hx hb dX1_send_54 rfl (lv_at hl 1 rfl) ?_
          refine va_get (D := D) (ci := 1) (v := .ref (a 6)) (C := RX1) (T := TX1) (N := 12) hx hb hts in_X1 hown hK hP 0 rfl rfl 7 (by decide) (hts _ q126) (fun _ h9 => h9) rfl dX1_send_55 ?_
          refine lv_iload_n hx hb dX1_send_58 rfl (lv_at hl 0 rfl) ?_
          refine z_sipush hx hb dX1_send_59 (by decide) ?_
          refine z_isub hx hb dX1_send_62 ?_
          refine z_top (y := (ex : Int)) (by omega) ?_
          refine z_iald hx hb hK hP 6 0 rfl rfl (by omega) (by decide) (v := en ex) (congrArg _ (show ((ex : Int) : Int).toNat = ex by omega)) dX1_send_63 ?_
          refine z_top (y := (((en ex).toNat : Nat) : Int)) (by omega) ?_
          refine lv_istore_n (lv' := [(2, .int (zI (((en ex).toNat : Nat) : Int))), (3, .int (zI (200 + (ex : Int)))), (0, .ref (a 0)), (1, .int (zI (gl : Int)))]) hx hb dX1_send_64 rfl hl (by decide) rfl (fun ls hl => ?_)
          refine lv_goto (tgt := 2) hx hb dX1_send_65 (by decide) ?_
          exact ih (en ex).toNat _ (by omega) (by omega) g5 hMS2 H locs hP hD hS ls (lv_sub hl [2, 3, 0] rfl)
  have hl : lv_has ls 4 [(0, .ref (a 0)), (1, .int (zI (gl : Int)))] := hl
  refine lv_iload_n hx hb dX1_send_0 rfl (lv_at hl 1 rfl) ?_
  refine lv_istore_n (lv' := [(2, .int (zI (gl : Int))), (0, .ref (a 0)), (1, .int (zI (gl : Int)))]) hx hb dX1_send_1 rfl hl (by decide) rfl (fun ls hl => ?_)
  exact L1 (ps gl + 1) gl fl (by omega) hgl hg0 (mq_MS_0 hE) _ _ hP hD hS ls (lv_sub hl [1, 2, 0] rfl)
theorem mq_okT {n : Nat} {fr to wd ti tz : Nat → Int} {bt : Int} (hN : mq_Net n fr to wd ti) (hbt : (bt = 1 ∧ ∀ i, tz i = ti i) ∨ (bt = 0 ∧ ∀ i, tz i = 0)) : mq_okN n fr to wd tz := by
  intro i hi
  have h8 := hN.1
  have h1 := hN.2.1 i (by omega)
  have h2 := hN.2.2.1 i hi
  refine ⟨h1.1, h1.2.1, by omega, ?_⟩
  rcases hbt with ⟨-, h⟩ | ⟨-, h⟩
  · rw [h i]; exact h1.2.2.1
  · rw [h i]; exact Int.le_refl _
theorem mq_Vb {n : Nat} {fr to wd ti tz : Nat → Int} {L E : Nat} {st en rm fl : Nat → Int} {V : Int} (hN : mq_Net n fr to wd ti) (hT : mq_okN n fr to wd tz) (hL : L ≤ 12) (hEd : mq_Ed n fr to wd tz L E st en rm) (hE : mq_EOk E st en rm fl) (hF : mq_Fl E st en fl (52 + L) V) : V ≤ 429 := by
  have h1 := mq_MC_le (L := L) (V := V) hT (mq_upper hT hL hEd (fun e he => (hE.2 e he).2.2.2.1) hF)
  have h2 : 0 ≤ mq_sm wd n := mq_sm_nn (fun i hi => (hT i hi).2.2.1)
  have h3 : ((L : Int) + 1) * mq_sm wd n ≤ 13 * mq_sm wd n := Int.mul_le_mul_of_nonneg_right (by omega) h2
  have h4 := hN.2.2.2
  omega
abbrev zS1 : Type := Int × (Nat → Int) × (Nat → Int) × (Nat → Int) × (Nat → Int) × (Nat → Int) × (Nat → Int)
abbrev wN (cI : ClassId) (a : Nat → Nat) (n : Int) (fr to wd ti : Nat → Int) (u : zS1) : va_W := wM cI a n fr to wd ti u.1 u.2.1 u.2.2.1 u.2.2.2.1 u.2.2.2.2.1 u.2.2.2.2.2.1 u.2.2.2.2.2.2
set_option maxHeartbeats 8000000 in
set_option maxRecDepth 100000 in
theorem m_flow (l : Launch) (D : va_G) (cI cZ : ClassId) (a : Nat → Nat) (sz : Nat) {n : Nat} {fr to wd ti : Nat → Int} {ed : Int} {st en rm fl cm qu : Nat → Int} (L : Nat) (bt : Int) (tz : Nat → Int) (hN : mq_Net n fr to wd ti) (hL : L ≤ 12) (hbt : (bt = 1 ∧ ∀ i, tz i = ti i) ∨ (bt = 0 ∧ ∀ i, tz i = 0)) :
    zMI l yX1_flow cX1_flow 5 (some .int) (zRm 2 48) [.ref (a 0), .int (zI (L : Int)), .int (zI bt)] D vwCl (zT cI cZ) sz (wM cI a (n : Int) fr to wd ti ed st en rm fl cm qu)
      (fun r (u : zS1) => ∃ V : Int, r = zI V ∧ (0 ≤ V ∧ V ≤ 429) ∧ mq_MC n fr to wd tz L V) (fun u => wN cI a n fr to wd ti u) := by
  refine z_metI (by decide) (Nat.le_of_ble_eq_true rfl) ?_
  intro p e s m below meth c A ls hG
  obtain ⟨hx, hb, hr, hlocks, hml, hown, hts, hP, hK, hD, hS, hA, hl⟩ := hG
  have hown : s.vm.findClass RX1 = some m.cls := hown
  have hT := mq_okT hN hbt
  have hl : lv_has ls 5 [(0, .ref (a 0)), (1, .int (zI (L : Int))), (2, .int (zI bt))] := hl
  refine lv_aload_n hx hb dX1_flow_0 rfl (lv_at hl 0 rfl) ?_
  refine lv_iload_n hx hb dX1_flow_1 rfl (lv_at hl 1 rfl) ?_
  refine lv_iload_n hx hb dX1_flow_2 rfl (lv_at hl 2 rfl) ?_
  refine z_callv (As := [.int (zI (L : Int)), .int (zI bt)]) (rest := []) (n := 2) (C := RX1) (T := TX1) (N := 12) (ci := 1) hx hb hml hown hts hK hP hD hS hA (m_build l D cI cZ a _ L bt tz hN hL hbt) (lw_V q178 q180 qs7 q13 q181) rfl rfl (by decide +kernel) ⟨Nat.le_of_ble_eq_true rfl, Nat.le_of_ble_eq_true rfl⟩ rfl rfl rfl hl.1 rfl (by decide) dX1_flow_3 ⟨Nat.le_of_ble_eq_true rfl, Nat.le_of_ble_eq_true rfl⟩ (fun u H locs hbd hP hD hS => ?_)
  obtain ⟨E, st1, en1, rm1, fl1⟩ := u
  obtain ⟨hEd, hEO, hF0⟩ := hbd
  have hEd : mq_Ed n fr to wd tz L E st1 en1 rm1 := hEd
  have hEO : mq_EOk E st1 en1 rm1 fl1 := hEO
  have hF0 : mq_Fl E st1 en1 fl1 (52 + L) 0 := hF0 _
  have hP : va_P D vwCl (wM cI a (n : Int) fr to wd ti (E : Int) st1 en1 rm1 fl1 cm qu) H := hP
  have hD : va_D A (wM cI a (n : Int) fr to wd ti (E : Int) st1 en1 rm1 fl1 cm qu) := hD
  refine z_bipush hx hb dX1_flow_6 (by decide) ?_
  refine lv_iload_n hx hb dX1_flow_8 rfl (lv_at hl 1 rfl) ?_
  refine z_iadd hx hb dX1_flow_9 ?_
  refine z_top (y := ((52 + L : Nat) : Int)) (by omega) ?_
  refine lv_istore_n (lv' := [(3, .int (zI ((52 + L : Nat) : Int))), (0, .ref (a 0)), (1, .int (zI (L : Int))), (2, .int (zI bt))]) hx hb dX1_flow_10 rfl hl (by decide) rfl (fun ls hl => ?_)
  refine z_iconst hx hb dX1_flow_11 ?_
  refine lv_istore (lv' := [(4, .int (zI 0)), (3, .int (zI ((52 + L : Nat) : Int))), (0, .ref (a 0)), (1, .int (zI (L : Int))), (2, .int (zI bt))]) hx hb dX1_flow_12 hl (by decide) rfl (fun ls hl => ?_)
  have L1 : ∀ (g V : Nat) (f1 cm qu : Nat → Int), V + g = 431 → V ≤ 429 → mq_EOk E st1 en1 rm1 f1 → mq_Fl E st1 en1 f1 (52 + L) (V : Int) → ∀ (H : Heap) (locs : List Loc), va_P D vwCl (wM cI a (n : Int) fr to wd ti (E : Int) st1 en1 rm1 f1 cm qu) H → va_D A (wM cI a (n : Int) fr to wd ti (E : Int) st1 en1 rm1 f1 cm qu) → va_S A s.heap H locs → ∀ (ls : Array Slot), lv_has ls 5 [(0, .ref (a 0)), (1, .int (zI (L : Int))), (2, .int (zI bt)), (3, .int (zI ((52 + L : Nat) : Int))), (4, .int (zI (V : Int)))] → W p l e (zRm 2 48) s m ([.ref (a 0), .int (zI (L : Int)), .int (zI bt)] : List Value).toArray below meth c H locs 0 0 (MQ below (zQi D vwCl (zT cI cZ) (fun r (u : zS1) => ∃ V : Int, r = zI V ∧ (0 ≤ V ∧ V ≤ 429) ∧ mq_MC n fr to wd tz L V) (fun u => wN cI a n fr to wd ti u) A) ([.ref (a 0), .int (zI (L : Int)), .int (zI bt)] : List Value).toArray s 0 0 A) (F0 m 14 ls []) := by
    intro g
    induction g with
    | zero => intro V f1 cm qu h1 h2; omega
    | succ g ih =>
      intro V f1 cm qu hVg hV hEO hF H locs hP hD hS ls hl
      refine lv_iload hx hb dX1_flow_14 (lv_at hl 4 rfl) ?_
      refine z_sipush hx hb dX1_flow_16 (by decide) ?_
      refine z_icmp_ge (tgt := 41) hx hb dX1_flow_19 (by decide) (by omega) (by omega) (fun c_19 => absurd c_19 (by omega)) (fun c_19 => ?_)
      refine lv_aload_n hx hb dX1_flow_22 rfl (lv_at hl 0 rfl) ?_
      refine lv_iload_n hx hb dX1_flow_23 rfl (lv_at hl 3 rfl) ?_
      refine z_calli (As := [.int (zI ((52 + L : Nat) : Int))]) (rest := []) (n := 1) (C := RX1) (T := TX1) (N := 12) (ci := 1) hx hb hml hown hts hK hP hD hS hA (m_search (ed := 0) l D cI cZ a _ E (52 + L) (by omega) hEO) (lw_V q187 q189 qs9 q13 q190) rfl rfl (by decide +kernel) ⟨Nat.le_of_ble_eq_true rfl, Nat.le_of_ble_eq_true rfl⟩ rfl rfl rfl hl.1 rfl (by decide) dX1_flow_24 ⟨Nat.le_of_ble_eq_true rfl, Nat.le_of_ble_eq_true rfl⟩ (fun r32 u H locs hw hP hD hS => ?_)
      obtain ⟨cm1, qu1⟩ := u
      obtain ⟨y, rfl, hBS, hy⟩ := hw
      have hBS : mq_BS E st1 en1 rm1 f1 cm1 := hBS
      have hy : (y = 1 ∧ 0 ≤ cm1 (52 + L)) ∨ (y = 0 ∧ cm1 (52 + L) < 0) := hy
      have hP : va_P D vwCl (wM cI a (n : Int) fr to wd ti (E : Int) st1 en1 rm1 f1 cm1 qu1) H := hP
      have hD : va_D A (wM cI a (n : Int) fr to wd ti (E : Int) st1 en1 rm1 f1 cm1 qu1) := hD
      refine z_if_eq (tgt := 41) hx hb dX1_flow_27 (by decide) (by omega) (fun c_27 => ?_) (fun c_27 => ?_)
      · refine lv_iload hx hb dX1_flow_41 (lv_at hl 4 rfl) ?_
        exact z_iret hx hb hr hlocks (v := (V : Int)) ((E : Int), st1, en1, rm1, f1, cm1, qu1) hS hP hK hD ⟨_, rfl, by omega, mq_model hT hL hEd (fun e he => (hEO.2 e he).2.2.2.1) hF (by rw [hBS.1]; omega) (by omega) (fun e he => ⟨fun h1 h2 => hBS.2.2.1 e false he (show 0 < rm1 e - f1 e by omega) h1, fun h1 h2 => hBS.2.2.1 e true he (show 0 < f1 e from h2) h1⟩) (by omega)⟩ dX1_flow_43
      · refine lv_aload_n hx hb dX1_flow_30 rfl (lv_at hl 0 rfl) ?_
        refine lv_iload_n hx hb dX1_flow_31 rfl (lv_at hl 3 rfl) ?_
        refine z_callv (As := [.int (zI ((52 + L : Nat) : Int))]) (rest := []) (n := 1) (C := RX1) (T := TX1) (N := 12) (ci := 1) hx hb hml hown hts hK hP hD hS hA (m_send1 (ed := 0) l D cI cZ a _ E (52 + L) (by omega) hEO hBS (by omega)) (lw_V q191 q193 qs10 q13 q194) rfl rfl (by decide +kernel) ⟨Nat.le_of_ble_eq_true rfl, Nat.le_of_ble_eq_true rfl⟩ rfl rfl rfl hl.1 rfl (by decide) dX1_flow_32 ⟨Nat.le_of_ble_eq_true rfl, Nat.le_of_ble_eq_true rfl⟩ (fun f2 H locs hse hP hD hS => ?_)
        obtain ⟨ps, hMS⟩ := hse
        have hP : va_P D vwCl (wM cI a (n : Int) fr to wd ti (E : Int) st1 en1 rm1 f2 cm1 qu1) H := hP
        have hD : va_D A (wM cI a (n : Int) fr to wd ti (E : Int) st1 en1 rm1 f2 cm1 qu1) := hD
        obtain ⟨hEO2, hF2⟩ := mq_MS_end hEO hF hMS
        have hVb := mq_Vb hN hT hL hEd hEO2 hF2
        refine z_iinc (y := ((V + 1 : Nat) : Int)) (lv' := [(4, .int (zI ((V + 1 : Nat) : Int))), (0, .ref (a 0)), (1, .int (zI (L : Int))), (2, .int (zI bt)), (3, .int (zI ((52 + L : Nat) : Int)))]) hx hb dX1_flow_35 hl (k := 4) rfl (by omega) (by decide) rfl (fun ls hl => ?_)
        refine lv_goto (tgt := 14) hx hb dX1_flow_38 (by decide) ?_
        exact ih (V + 1) f2 cm1 qu1 (by omega) (by omega) hEO2 hF2 H locs hP hD hS ls (lv_sub hl [1, 2, 3, 4, 0] rfl)
  exact L1 431 0 fl1 cm qu (by omega) (by omega) hEO hF0 H locs hP hD hS ls (lv_sub hl [2, 3, 4, 1, 0] rfl)
end
section
set_option maxHeartbeats 8000000 in
set_option maxRecDepth 100000 in
theorem m_arrived1 (l : Launch) (D : va_G) (cI cZ : ClassId) (a : Nat → Nat) (sz : Nat) {n : Nat} {fr to wd ti : Nat → Int} {ed : Int} {st en rm fl cm qu : Nat → Int} (t : Int) (ht : -2147483648 ≤ t ∧ t ≤ 2147483647) (hN : mq_Net n fr to wd ti) :
    zMI l yX1_arrived cX1_arrived 2 (some .int) (zRm 3 72) [.ref (a 0), .int (zI t)] D vwCl (zT cI cZ) sz (wM cI a (n : Int) fr to wd ti ed st en rm fl cm qu)
      (fun r (u : zS1) => ∃ x : Int, r = zI x ∧ mq_Arr n fr to wd ti t x) (fun u => wN cI a n fr to wd ti u) := by
  refine z_metI (by decide) (Nat.le_of_ble_eq_true rfl) ?_
  intro p e s m below meth c A ls hG
  obtain ⟨hx, hb, hr, hlocks, hml, hown, hts, hP, hK, hD, hS, hA, hl⟩ := hG
  have hown : s.vm.findClass RX1 = some m.cls := hown
  have hn8 := hN.1
  have hl : lv_has ls 2 [(0, .ref (a 0)), (1, .int (zI t))] := hl
  refine lv_iload_n hx hb dX1_arrived_0 rfl (lv_at hl 1 rfl) ?_
  refine z_callS (As := [.int (zI t)]) (rest := []) (n := 1) hx hb hml hown hts hK hP hS hA (m_badMoment l D _ t ht) (lw_S q171 q172 q13 q173) rfl rfl (by decide +kernel) ⟨Nat.le_of_ble_eq_true rfl, Nat.le_of_ble_eq_true rfl⟩ rfl hl.1 rfl (by decide) dX1_arrived_1 ⟨Nat.le_of_ble_eq_true rfl, Nat.le_of_ble_eq_true rfl⟩ (fun r32 H locs hw hP hS => ?_)
  subst hw
  refine z_if_eq (tgt := 11) hx hb dX1_arrived_4 (by decide) (by omega) (fun c_4 => ?_) (fun c_4 => ?_)
  · obtain ⟨T, rfl⟩ : ∃ T : Nat, t = (T : Int) := ⟨t.toNat, by omega⟩
    refine lv_aload_n hx hb dX1_arrived_11 rfl (lv_at hl 0 rfl) ?_
    refine lv_iload_n hx hb dX1_arrived_12 rfl (lv_at hl 1 rfl) ?_
    refine z_iconst hx hb dX1_arrived_13 ?_
    refine z_calli (As := [.int (zI (T : Int)), .int (zI 1)]) (rest := []) (n := 2) (C := RX1) (T := TX1) (N := 12) (ci := 1) hx hb hml hown hts hK hP hD hS hA (m_flow l D cI cZ a _ T 1 ti hN (by omega) (Or.inl ⟨rfl, fun _ => rfl⟩)) (lw_V q174 q176 qs6 q13 q177) rfl rfl (by decide +kernel) ⟨Nat.le_of_ble_eq_true rfl, Nat.le_of_ble_eq_true rfl⟩ rfl rfl rfl hl.1 rfl (by decide) dX1_arrived_14 ⟨Nat.le_of_ble_eq_true rfl, Nat.le_of_ble_eq_true rfl⟩ (fun r32 u H locs hw hP hD hS => ?_)
    obtain ⟨ed1, st1, en1, rm1, fl1, cm1, qu1⟩ := u
    obtain ⟨V, rfl, hVb, hV⟩ := hw
    have hP : va_P D vwCl (wM cI a (n : Int) fr to wd ti ed1 st1 en1 rm1 fl1 cm1 qu1) H := hP
    have hD : va_D A (wM cI a (n : Int) fr to wd ti ed1 st1 en1 rm1 fl1 cm1 qu1) := hD
    exact z_iret hx hb hr hlocks (v := V) (ed1, st1, en1, rm1, fl1, cm1, qu1) hS hP hK hD ⟨_, rfl, by unfold mq_Arr; rw [if_pos (by omega)]; exact hV⟩ dX1_arrived_17
  · refine z_iconst hx hb dX1_arrived_7 ?_
    refine lv_goto (tgt := 17) hx hb dX1_arrived_8 (by decide) ?_
    exact z_iret hx hb hr hlocks (v := -1) (ed, st, en, rm, fl, cm, qu) hS hP hK hD ⟨_, rfl, by unfold mq_Arr; rw [if_neg (by omega)]⟩ dX1_arrived_17
set_option maxHeartbeats 8000000 in
set_option maxRecDepth 100000 in
theorem m_quickest1 (l : Launch) (D : va_G) (cI cZ : ClassId) (a : Nat → Nat) (sz : Nat) {n : Nat} {fr to wd ti : Nat → Int} {ed : Int} {st en rm fl cm qu : Nat → Int} (am : Int) (ham : -2147483648 ≤ am ∧ am ≤ 2147483647) (hN : mq_Net n fr to wd ti) :
    zMI l yX1_quickest cX1_quickest 3 (some .int) (zRm 3 72) [.ref (a 0), .int (zI am)] D vwCl (zT cI cZ) sz (wM cI a (n : Int) fr to wd ti ed st en rm fl cm qu)
      (fun r (u : zS1) => ∃ x : Int, r = zI x ∧ mq_Qst n fr to wd ti am x) (fun u => wN cI a n fr to wd ti u) := by
  refine z_metI (by decide) (Nat.le_of_ble_eq_true rfl) ?_
  intro p e s m below meth c A ls hG
  obtain ⟨hx, hb, hr, hlocks, hml, hown, hts, hP, hK, hD, hS, hA, hl⟩ := hG
  have hown : s.vm.findClass RX1 = some m.cls := hown
  have hn8 := hN.1
  have hl : lv_has ls 3 [(0, .ref (a 0)), (1, .int (zI am))] := hl
  refine z_iconst hx hb dX1_quickest_0 ?_
  refine lv_istore_n (lv' := [(2, .int (zI 0)), (0, .ref (a 0)), (1, .int (zI am))]) hx hb dX1_quickest_1 rfl hl (by decide) rfl (fun ls hl => ?_)
  have L1 : ∀ (g q : Nat) (ed : Int) (st en rm fl cm qu : Nat → Int), q + g = 14 → q ≤ 13 → (∀ t : Nat, t < q → ∃ V, mq_MC n fr to wd ti t V ∧ V < am) → ∀ (H : Heap) (locs : List Loc), va_P D vwCl (wM cI a (n : Int) fr to wd ti ed st en rm fl cm qu) H → va_D A (wM cI a (n : Int) fr to wd ti ed st en rm fl cm qu) → va_S A s.heap H locs → ∀ (ls : Array Slot), lv_has ls 3 [(0, .ref (a 0)), (1, .int (zI am)), (2, .int (zI (q : Int)))] → W p l e (zRm 3 72) s m ([.ref (a 0), .int (zI am)] : List Value).toArray below meth c H locs 0 0 (MQ below (zQi D vwCl (zT cI cZ) (fun r (u : zS1) => ∃ x : Int, r = zI x ∧ mq_Qst n fr to wd ti am x) (fun u => wN cI a n fr to wd ti u) A) ([.ref (a 0), .int (zI am)] : List Value).toArray s 0 0 A) (F0 m 2 ls []) := by
    intro g
    induction g with
    | zero => intro q ed st en rm fl cm qu h1 h2; omega
    | succ g ih =>
      intro q ed st en rm fl cm qu hqg hq13 hlt H locs hP hD hS ls hl
      refine lv_iload_n hx hb dX1_quickest_2 rfl (lv_at hl 2 rfl) ?_
      refine z_bipush hx hb dX1_quickest_3 (by decide) ?_
      refine z_icmp_gt (tgt := 26) hx hb dX1_quickest_5 (by decide) (by omega) (by omega) (fun c_5 => ?_) (fun c_5 => ?_)
      · refine z_iconst hx hb dX1_quickest_26 ?_
        exact z_iret hx hb hr hlocks (v := -1) (ed, st, en, rm, fl, cm, qu) hS hP hK hD ⟨_, rfl, Or.inl ⟨rfl, fun t ht => hlt t (by omega)⟩⟩ dX1_quickest_27
      · refine lv_aload_n hx hb dX1_quickest_8 rfl (lv_at hl 0 rfl) ?_
        refine lv_iload_n hx hb dX1_quickest_9 rfl (lv_at hl 2 rfl) ?_
        refine z_iconst hx hb dX1_quickest_10 ?_
        refine z_calli (As := [.int (zI (q : Int)), .int (zI 1)]) (rest := []) (n := 2) (C := RX1) (T := TX1) (N := 12) (ci := 1) hx hb hml hown hts hK hP hD hS hA (m_flow l D cI cZ a _ q 1 ti hN (by omega) (Or.inl ⟨rfl, fun _ => rfl⟩)) (lw_V q174 q176 qs6 q13 q177) rfl rfl (by decide +kernel) ⟨Nat.le_of_ble_eq_true rfl, Nat.le_of_ble_eq_true rfl⟩ rfl rfl rfl hl.1 rfl (by decide) dX1_quickest_11 ⟨Nat.le_of_ble_eq_true rfl, Nat.le_of_ble_eq_true rfl⟩ (fun r32 u H locs hw hP hD hS => ?_)
        obtain ⟨ed1, st1, en1, rm1, fl1, cm1, qu1⟩ := u
        obtain ⟨V, rfl, hVb, hV⟩ := hw
        have hP : va_P D vwCl (wM cI a (n : Int) fr to wd ti ed1 st1 en1 rm1 fl1 cm1 qu1) H := hP
        have hD : va_D A (wM cI a (n : Int) fr to wd ti ed1 st1 en1 rm1 fl1 cm1 qu1) := hD
        refine lv_iload_n hx hb dX1_quickest_14 rfl (lv_at hl 1 rfl) ?_
        refine z_icmp_lt (tgt := 20) hx hb dX1_quickest_15 (by decide) (by omega) (by omega) (fun c_15 => ?_) (fun c_15 => ?_)
        · refine z_iinc (y := ((q + 1 : Nat) : Int)) (lv' := [(2, .int (zI ((q + 1 : Nat) : Int))), (0, .ref (a 0)), (1, .int (zI am))]) hx hb dX1_quickest_20 hl (k := 2) rfl (by omega) (by decide) rfl (fun ls hl => ?_)
          refine lv_goto (tgt := 2) hx hb dX1_quickest_23 (by decide) ?_
          exact ih (q + 1) _ _ _ _ _ _ _ (by omega) (by omega) (fun t ht => by rcases Nat.lt_or_ge t q with z | z; exact hlt t z; rw [show t = q by omega]; exact ⟨V, hV, by omega⟩) H locs hP hD hS ls (lv_sub hl [1, 2, 0] rfl)
        · refine lv_iload_n hx hb dX1_quickest_18 rfl (lv_at hl 2 rfl) ?_
          exact z_iret hx hb hr hlocks (v := (q : Int)) (ed1, st1, en1, rm1, fl1, cm1, qu1) hS hP hK hD ⟨_, rfl, Or.inr ⟨q, by omega, rfl, ⟨V, hV, by omega⟩, hlt⟩⟩ dX1_quickest_19
  exact L1 14 0 ed st en rm fl cm qu (by omega) (by omega) (fun t ht => absurd ht (by omega)) _ _ hP hD hS ls (lv_sub hl [1, 2, 0] rfl)
set_option maxHeartbeats 8000000 in
set_option maxRecDepth 100000 in
theorem m_first1 (l : Launch) (D : va_G) (cI cZ : ClassId) (a : Nat → Nat) (sz : Nat) {n : Nat} {fr to wd ti : Nat → Int} {ed : Int} {st en rm fl cm qu : Nat → Int} (hN : mq_Net n fr to wd ti) :
    zMI l yX1_first cX1_first 1 (some .int) (zRm 4 94) [.ref (a 0)] D vwCl (zT cI cZ) sz (wM cI a (n : Int) fr to wd ti ed st en rm fl cm qu)
      (fun r (u : zS1) => ∃ x : Int, r = zI x ∧ mq_Qst n fr to wd ti 1 x) (fun u => wN cI a n fr to wd ti u) := by
  refine z_metI (by decide) (Nat.le_of_ble_eq_true rfl) ?_
  intro p e s m below meth c A ls hG
  obtain ⟨hx, hb, hr, hlocks, hml, hown, hts, hP, hK, hD, hS, hA, hl⟩ := hG
  have hown : s.vm.findClass RX1 = some m.cls := hown
  have hn8 := hN.1
  have hl : lv_has ls 1 [(0, .ref (a 0))] := hl
  refine lv_aload_n hx hb dX1_first_0 rfl (lv_at hl 0 rfl) ?_
  refine z_iconst hx hb dX1_first_1 ?_
  refine z_calli (As := [.int (zI 1)]) (rest := []) (n := 1) (C := RX1) (T := TX1) (N := 12) (ci := 1) hx hb hml hown hts hK hP hD hS hA (m_quickest1 l D cI cZ a _ 1 (by omega) hN) (lw_V q203 q196 q197 q13 q198) rfl rfl (by decide +kernel) ⟨Nat.le_of_ble_eq_true rfl, Nat.le_of_ble_eq_true rfl⟩ rfl rfl rfl hl.1 rfl (by decide) dX1_first_2 ⟨Nat.le_of_ble_eq_true rfl, Nat.le_of_ble_eq_true rfl⟩ (fun r32 u H locs hw hP hD hS => ?_)
  obtain ⟨ed1, st1, en1, rm1, fl1, cm1, qu1⟩ := u
  obtain ⟨V, rfl, hV⟩ := hw
  have hP : va_P D vwCl (wM cI a (n : Int) fr to wd ti ed1 st1 en1 rm1 fl1 cm1 qu1) H := hP
  have hD : va_D A (wM cI a (n : Int) fr to wd ti ed1 st1 en1 rm1 fl1 cm1 qu1) := hD
  exact z_iret hx hb hr hlocks (v := V) (ed1, st1, en1, rm1, fl1, cm1, qu1) hS hP hK hD ⟨_, rfl, hV⟩ dX1_first_5
set_option maxHeartbeats 8000000 in
set_option maxRecDepth 100000 in
theorem m_steady1 (l : Launch) (D : va_G) (cI cZ : ClassId) (a : Nat → Nat) (sz : Nat) {n : Nat} {fr to wd ti : Nat → Int} {ed : Int} {st en rm fl cm qu : Nat → Int} (hN : mq_Net n fr to wd ti) :
    zMI l yX1_steady cX1_steady 1 (some .int) (zRm 3 72) [.ref (a 0)] D vwCl (zT cI cZ) sz (wM cI a (n : Int) fr to wd ti ed st en rm fl cm qu)
      (fun r (u : zS1) => ∃ x : Int, r = zI x ∧ mq_Std n fr to wd ti x) (fun u => wN cI a n fr to wd ti u) := by
  refine z_metI (by decide) (Nat.le_of_ble_eq_true rfl) ?_
  intro p e s m below meth c A ls hG
  obtain ⟨hx, hb, hr, hlocks, hml, hown, hts, hP, hK, hD, hS, hA, hl⟩ := hG
  have hown : s.vm.findClass RX1 = some m.cls := hown
  have hn8 := hN.1
  have hl : lv_has ls 1 [(0, .ref (a 0))] := hl
  refine lv_aload_n hx hb dX1_steady_0 rfl (lv_at hl 0 rfl) ?_
  refine z_iconst hx hb dX1_steady_1 ?_
  refine z_iconst hx hb dX1_steady_2 ?_
  refine z_calli (As := [.int (zI 0), .int (zI 0)]) (rest := []) (n := 2) (C := RX1) (T := TX1) (N := 12) (ci := 1) hx hb hml hown hts hK hP hD hS hA (m_flow l D cI cZ a _ 0 0 (fun _ => 0) hN (by omega) (Or.inr ⟨rfl, fun _ => rfl⟩)) (lw_V q174 q176 qs6 q13 q177) rfl rfl (by decide +kernel) ⟨Nat.le_of_ble_eq_true rfl, Nat.le_of_ble_eq_true rfl⟩ rfl rfl rfl hl.1 rfl (by decide) dX1_steady_3 ⟨Nat.le_of_ble_eq_true rfl, Nat.le_of_ble_eq_true rfl⟩ (fun r32 u H locs hw hP hD hS => ?_)
  obtain ⟨ed1, st1, en1, rm1, fl1, cm1, qu1⟩ := u
  obtain ⟨V, rfl, hVb, hV⟩ := hw
  have hP : va_P D vwCl (wM cI a (n : Int) fr to wd ti ed1 st1 en1 rm1 fl1 cm1 qu1) H := hP
  have hD : va_D A (wM cI a (n : Int) fr to wd ti ed1 st1 en1 rm1 fl1 cm1 qu1) := hD
  exact z_iret hx hb hr hlocks (v := V) (ed1, st1, en1, rm1, fl1, cm1, qu1) hS hP hK hD ⟨_, rfl, hV⟩ dX1_steady_6
set_option maxHeartbeats 8000000 in
set_option maxRecDepth 100000 in
theorem m_gain1 (l : Launch) (D : va_G) (cI cZ : ClassId) (a : Nat → Nat) (sz : Nat) {n : Nat} {fr to wd ti : Nat → Int} {ed : Int} {st en rm fl cm qu : Nat → Int} (j t : Int) (hj : -2147483648 ≤ j ∧ j ≤ 2147483647) (ht : -2147483648 ≤ t ∧ t ≤ 2147483647) (hN : mq_Net n fr to wd ti) (hN2 : ∀ q, q < n → mq_Net n fr to (va_up wd q (wd q + 1)) ti) :
    zMI l yX1_gain cX1_gain 5 (some .int) (zRm 3 72) [.ref (a 0), .int (zI j), .int (zI t)] D vwCl (zT cI cZ) sz (wM cI a (n : Int) fr to wd ti ed st en rm fl cm qu)
      (fun r (u : zS1) => ∃ x : Int, r = zI x ∧ mq_Gn n fr to wd ti j t x) (fun u => wN cI a n fr to wd ti u) := by
  refine z_metI (by decide) (Nat.le_of_ble_eq_true rfl) ?_
  intro p e s m below meth c A ls hG
  obtain ⟨hx, hb, hr, hlocks, hml, hown, hts, hP, hK, hD, hS, hA, hl⟩ := hG
  have hown : s.vm.findClass RX1 = some m.cls := hown
  have hn8 := hN.1
  have hl : lv_has ls 5 [(0, .ref (a 0)), (1, .int (zI j)), (2, .int (zI t))] := hl
  refine lv_iload_n hx hb dX1_gain_0 rfl (lv_at hl 2 rfl) ?_
  refine z_callS (As := [.int (zI t)]) (rest := []) (n := 1) hx hb hml hown hts hK hP hS hA (m_badMoment l D _ t ht) (lw_S q171 q172 q13 q173) rfl rfl (by decide +kernel) ⟨Nat.le_of_ble_eq_true rfl, Nat.le_of_ble_eq_true rfl⟩ rfl hl.1 rfl (by decide) dX1_gain_1 ⟨Nat.le_of_ble_eq_true rfl, Nat.le_of_ble_eq_true rfl⟩ (fun r32 H locs hw hP hS => ?_)
  subst hw
  refine z_if_ne (tgt := 19) hx hb dX1_gain_4 (by decide) (by omega) (fun c_4 => ?_) (fun c_4 => ?_)
  · refine z_iconst hx hb dX1_gain_19 ?_
    exact z_iret hx hb hr hlocks (v := -1) (ed, st, en, rm, fl, cm, qu) hS hP hK hD ⟨-1, rfl, by unfold mq_Gn; rw [if_neg (by omega)]⟩ dX1_gain_20
  · refine lv_iload_n hx hb dX1_gain_7 rfl (lv_at hl 1 rfl) ?_
    refine z_if_lt (tgt := 19) hx hb dX1_gain_8 (by decide) (by omega) (fun c_8 => ?_) (fun c_8 => ?_)
    · refine z_iconst hx hb dX1_gain_19 ?_
      exact z_iret hx hb hr hlocks (v := -1) (ed, st, en, rm, fl, cm, qu) hS hP hK hD ⟨-1, rfl, by unfold mq_Gn; rw [if_neg (by omega)]⟩ dX1_gain_20
    · refine lv_iload_n hx hb dX1_gain_11 rfl (lv_at hl 1 rfl) ?_
      refine lv_aload_n hx hb dX1_gain_12 rfl (lv_at hl 0 rfl) ?_
      refine va_get (D := D) (ci := 1) (v := .int (zI (n : Int))) (C := RX1) (T := TX1) (N := 12) hx hb hts in_X1 hown hK hP 0 rfl rfl 0 (by decide) (hts _ q119) (fun _ h9 => h9) rfl dX1_gain_13 ?_
      refine z_icmp_lt (tgt := 21) hx hb dX1_gain_16 (by decide) (by omega) (by omega) (fun c_16 => ?_) (fun c_16 => ?_)
      · obtain ⟨T, rfl⟩ : ∃ T : Nat, t = (T : Int) := ⟨t.toNat, by omega⟩
        refine lv_aload_n hx hb dX1_gain_21 rfl (lv_at hl 0 rfl) ?_
        refine lv_iload_n hx hb dX1_gain_22 rfl (lv_at hl 2 rfl) ?_
        refine z_iconst hx hb dX1_gain_23 ?_
        refine z_calli (As := [.int (zI (T : Int)), .int (zI 1)]) (rest := []) (n := 2) (C := RX1) (T := TX1) (N := 12) (ci := 1) hx hb hml hown hts hK hP hD hS hA (m_flow l D cI cZ a _ T 1 ti hN (by omega) (Or.inl ⟨rfl, fun _ => rfl⟩)) (lw_V q174 q176 qs6 q13 q177) rfl rfl (by decide +kernel) ⟨Nat.le_of_ble_eq_true rfl, Nat.le_of_ble_eq_true rfl⟩ rfl rfl rfl hl.1 rfl (by decide) dX1_gain_24 ⟨Nat.le_of_ble_eq_true rfl, Nat.le_of_ble_eq_true rfl⟩ (fun r32 u H locs hw hP hD hS => ?_)
        obtain ⟨ed1, st1, en1, rm1, fl1, cm1, qu1⟩ := u
        obtain ⟨V, rfl, hVb, hV⟩ := hw
        have hP : va_P D vwCl (wM cI a (n : Int) fr to wd ti ed1 st1 en1 rm1 fl1 cm1 qu1) H := hP
        have hD : va_D A (wM cI a (n : Int) fr to wd ti ed1 st1 en1 rm1 fl1 cm1 qu1) := hD
        refine lv_istore_n (lv' := [(3, .int (zI V)), (0, .ref (a 0)), (1, .int (zI j)), (2, .int (zI (T : Int)))]) hx hb dX1_gain_27 rfl hl (by decide) rfl (fun ls hl => ?_)
        refine lv_aload_n hx hb dX1_gain_28 rfl (lv_at hl 1 rfl) ?_
        refine va_get (D := D) (ci := 1) (v := .ref (a 3)) (C := RX1) (T := TX1) (N := 12) hx hb hts in_X1 hown hK hP 0 rfl rfl 3 (by decide) (hts _ q122) (fun _ h9 => h9) rfl dX1_gain_29 ?_
        refine lv_iload_n hx hb dX1_gain_32 rfl (lv_at hl 2 rfl) ?_
        refine lv_dup2_11 hx hb dX1_gain_33 rfl rfl ?_
        refine z_iald hx hb hK hP 3 0 rfl rfl (by omega) (by decide) (v := wd (j).toNat) rfl dX1_gain_34 ?_
        refine z_iconst hx hb dX1_gain_35 ?_
        refine z_iadd hx hb dX1_gain_36 ?_
        refine z_iast hx hb hK hP hD hS 3 0 rfl rfl (by omega) (by decide) (k := (j).toNat) rfl dX1_gain_37 (fun H locs hP hD hS => ?_)
        have hP : va_P D vwCl (wM cI a (n : Int) fr to (va_up wd (j).toNat ((wd (j).toNat) + 1)) ti ed1 st1 en1 rm1 fl1 cm1 qu1) H := hP
        have hD : va_D A (wM cI a (n : Int) fr to (va_up wd (j).toNat ((wd (j).toNat) + 1)) ti ed1 st1 en1 rm1 fl1 cm1 qu1) := hD
        refine lv_aload_n hx hb dX1_gain_38 rfl (lv_at hl 1 rfl) ?_
        refine lv_iload_n hx hb dX1_gain_39 rfl (lv_at hl 3 rfl) ?_
        refine z_iconst hx hb dX1_gain_40 ?_
        refine z_calli (As := [.int (zI (T : Int)), .int (zI 1)]) (rest := []) (n := 2) (C := RX1) (T := TX1) (N := 12) (ci := 1) hx hb hml hown hts hK hP hD hS hA (m_flow l D cI cZ a _ T 1 ti (hN2 j.toNat (by omega)) (by omega) (Or.inl ⟨rfl, fun _ => rfl⟩)) (lw_V q174 q176 qs6 q13 q177) rfl rfl (by decide +kernel) ⟨Nat.le_of_ble_eq_true rfl, Nat.le_of_ble_eq_true rfl⟩ rfl rfl rfl hl.1 rfl (by decide) dX1_gain_41 ⟨Nat.le_of_ble_eq_true rfl, Nat.le_of_ble_eq_true rfl⟩ (fun r32 u H locs hw hP hD hS => ?_)
        obtain ⟨ed2, st2, en2, rm2, fl2, cm2, qu2⟩ := u
        obtain ⟨X, rfl, hXb, hX⟩ := hw
        have hP : va_P D vwCl (wM cI a (n : Int) fr to (va_up wd (j).toNat ((wd (j).toNat) + 1)) ti ed2 st2 en2 rm2 fl2 cm2 qu2) H := hP
        have hD : va_D A (wM cI a (n : Int) fr to (va_up wd (j).toNat ((wd (j).toNat) + 1)) ti ed2 st2 en2 rm2 fl2 cm2 qu2) := hD
        refine lv_istore (lv' := [(4, .int (zI X)), (3, .int (zI V)), (0, .ref (a 0)), (1, .int (zI j)), (2, .int (zI (T : Int)))]) hx hb dX1_gain_44 hl (by decide) rfl (fun ls hl => ?_)
        refine lv_aload_n hx hb dX1_gain_46 rfl (lv_at hl 2 rfl) ?_
        refine va_get (D := D) (ci := 1) (v := .ref (a 3)) (C := RX1) (T := TX1) (N := 12) hx hb hts in_X1 hown hK hP 0 rfl rfl 3 (by decide) (hts _ q122) (fun _ h9 => h9) rfl dX1_gain_47 ?_
        refine lv_iload_n hx hb dX1_gain_50 rfl (lv_at hl 3 rfl) ?_
        refine lv_dup2_11 hx hb dX1_gain_51 rfl rfl ?_
        refine z_iald hx hb hK hP 3 0 rfl rfl (by omega) (by decide) (v := (wd j.toNat + 1)) (va_up_self _ _ _) dX1_gain_52 ?_
        refine z_iconst hx hb dX1_gain_53 ?_
        refine z_isub hx hb dX1_gain_54 ?_
        refine z_iast hx hb hK hP hD hS 3 0 rfl rfl (by omega) (by decide) (k := (j).toNat) rfl dX1_gain_55 (fun H locs hP hD hS => ?_)
        have hP : va_P D vwCl (wM cI a (n : Int) fr to (va_up (va_up wd (j).toNat ((wd (j).toNat) + 1)) (j).toNat ((wd j.toNat + 1) - 1)) ti ed2 st2 en2 rm2 fl2 cm2 qu2) H := hP
        have hD : va_D A (wM cI a (n : Int) fr to (va_up (va_up wd (j).toNat ((wd (j).toNat) + 1)) (j).toNat ((wd j.toNat + 1) - 1)) ti ed2 st2 en2 rm2 fl2 cm2 qu2) := hD
        refine lv_iload hx hb dX1_gain_56 (lv_at hl 0 rfl) ?_
        refine lv_iload_n hx hb dX1_gain_58 rfl (lv_at hl 1 rfl) ?_
        refine z_isub hx hb dX1_gain_59 ?_
        have hwb : va_up (va_up wd j.toNat (wd j.toNat + 1)) j.toNat (wd j.toNat + 1 - 1) = wd := by rw [bx_uu]; funext i; by_cases z : i = j.toNat; rw [z, va_up_self]; omega; rw [va_up_ne _ _ z]
        rw [hwb] at hP hD
        exact z_iret hx hb hr hlocks (v := X - V) (ed2, st2, en2, rm2, fl2, cm2, qu2) hS hP hK hD ⟨_, rfl, by unfold mq_Gn; rw [if_pos (by omega)]; exact ⟨_, _, hV, hX, rfl⟩⟩ dX1_gain_60
      · refine z_iconst hx hb dX1_gain_19 ?_
        exact z_iret hx hb hr hlocks (v := -1) (ed, st, en, rm, fl, cm, qu) hS hP hK hD ⟨-1, rfl, by unfold mq_Gn; rw [if_neg (by omega)]⟩ dX1_gain_20
end
section
/-! THE CONSTRUCTORS -/
theorem z_new0 (n : Nat) (cA : ClassId) : vp_cell cA (n, .inl (zF (fun _ => 0))) = arrV cA n (fun _ => defaultValue .int) := rfl
theorem z_new1 (n : Nat) (cA : ClassId) : vp_cell cA (n, .inl (zF (fun _ => 0))) = arrV cA n (fun _ => defaultValue .boolean) := rfl
theorem z_same {D : va_G} {cl : List vw_C} {tys : List (ClassId × FieldType)} {s : State} (hK : va_K D cl tys s) (i j : Nat) {c1 c2 : ClassId} (h1 : tys[i]? = some (c1, .int)) (h2 : tys[j]? = some (c2, .int)) : c1 = c2 := by
  have a : s.vm.findClass ("[" ++ FieldType.int.toString) = some c1 := (hK.2 i _ h1).2
  have b : s.vm.findClass ("[" ++ FieldType.int.toString) = some c2 := (hK.2 j _ h2).2
  exact Option.some.inj (a.symm.trans b)
abbrev z0 : Nat → Int := fun _ => 0
abbrev wX0 (cI cZ : ClassId) (a : Nat → Nat) : va_W := wX cI cZ a 0 z0 z0 z0 z0 z0 z0 z0 z0 0 z0 z0
abbrev wM0 (cI : ClassId) (a : Nat → Nat) : va_W := wM cI a 0 z0 z0 z0 z0 0 z0 z0 z0 z0 z0 z0
set_option maxHeartbeats 8000000 in
set_option maxRecDepth 100000 in
theorem m_init (l : Launch) (D : va_G) (h0 sz : Nat) : Met l yX0_init (ws_ yX0_init cX0_init 1 none) ({ frames := 1, cells := 10, slots := 135, locals := 12 }) (va_Pc [.ref h0] (zP D vwCl [] sz [(h0, .inr (0, [.int (zI 0), .null, .null, .null, .null, .null, .null, .null, .null, .int (zI 0), .null, .null]))])) (va_Qv (fun (u : (Nat → Nat) × ClassId × ClassId) => u.1 0 = h0) (fun u t => va_P D vwCl (wX0 u.2.1 u.2.2 u.1) t.heap ∧ va_K D vwCl (zT u.2.1 u.2.2) t ∧ va_D (va_A [(h0, .inr (0, [.int (zI 0), .null, .null, .null, .null, .null, .null, .null, .null, .int (zI 0), .null, .null]))] sz) (wX0 u.2.1 u.2.2 u.1)) (va_A [(h0, .inr (0, [.int (zI 0), .null, .null, .null, .null, .null, .null, .null, .null, .int (zI 0), .null, .null]))] sz)) 10 135 (va_A [(h0, .inr (0, [.int (zI 0), .null, .null, .null, .null, .null, .null, .null, .null, .int (zI 0), .null, .null]))] sz) := by
  refine Met.ofW (cc := cX0_init) (maxL := 1) (ret := none) (by decide) rfl ?_
  intro p e s m args below meth c s₁ B hml hv
  obtain ⟨rfl, hsz, hP, hK, hD0⟩ := hv
  have hx := B.exec
  have hb := B.bytes
  have hr := B.returns
  have hts := atoms_spec (ws := ws_ yX0_init cX0_init 1 none) B.pre
  have hts : ∀ w ∈ lw_all, w.before _ s = true := fun w h => hts w (List.mem_cons_of_mem _ h)
  have hown : s.vm.findClass RX0 = some m.cls := findClass_of_methodNamed B.named
  have hlocks := B.notSynchronized
  have hin : meth.name = "<init>" := (name_of_methodNamed B.named B.method).1
  subst hsz
  have hD := hD0.self (sz := s.heap.size)
  generalize hAe : va_A [(h0, .inr (0, [.int (zI 0), .null, .null, .null, .null, .null, .null, .null, .null, .int (zI 0), .null, .null]))] s.heap.size = A at hD ⊢
  have hA : ∀ q : Nat, s.heap.size ≤ q → A q := fun q h => by rw [← hAe]; exact Or.inr h
  have hS : va_S A s.heap s.heap [] := va_S.rf
  have hl := lv_entry ([.ref h0]) (n := 1) (Nat.le_of_ble_eq_true rfl)
  rw [lg_entry_eq]
  generalize (lg_sl ([.ref h0]) ++ List.replicate (1 - (lg_sl ([.ref h0])).length) Slot.unset).toArray = ls at hl ⊢
  have hl : lv_has ls 1 [(0, .ref h0)] := hl
  refine lv_aload_n hx hb dX0_init_0 rfl (lv_at hl 0 rfl) ?_
  refine W.objInit hx hb hown (hts _ q19) (hts _ q20) (hts _ q21) rfl (by rw [hml]; exact hl.1) rfl dX0_init_1 (Nat.le_of_ble_eq_true rfl) (Nat.le_of_ble_eq_true rfl) ?_
  refine W.eq (g2 := F0 m 4 ls []) rfl ?_
  refine lv_aload_n hx hb dX0_init_4 rfl (lv_at hl 0 rfl) ?_
  refine z_bipush hx hb dX0_init_5 (by decide) ?_
  refine va_newa (atype := .int) (ty := .int) (a0 := (8, .inl (zF (fun _ => 0)))) (N' := 8) hx hb (hts _ q59) rfl hK hP hD hS hA (z_new0 8) (by decide) (by decide) (by decide) (Nat.le_of_ble_eq_true rfl) (Nat.le_of_ble_eq_true rfl) dX0_init_7 (fun q_1 c_1 H hK hP hD hS => ?_)
  have hK : va_K D vwCl [(c_1, .int)] s := hK
  have hP : va_P D vwCl [(h0, .inr (0, [.int (zI 0), .null, .null, .null, .null, .null, .null, .null, .null, .int (zI 0), .null, .null])), (q_1, .inl (c_1, 8, .inl (zF (fun _ => 0))))] H := hP
  have hD : va_D A [(h0, .inr (0, [.int (zI 0), .null, .null, .null, .null, .null, .null, .null, .null, .int (zI 0), .null, .null])), (q_1, .inl (c_1, 8, .inl (zF (fun _ => 0))))] := hD
  refine va_putF (D := D) (ci := 0) (v := .ref q_1) (ty := .array .int) (C := RX0) (T := TX0) (N := 12) hx hb hts in_X0 tyX0 tyX0_ok nmX0 hown hK hP hD hS 0 rfl rfl 1 (by decide) (hts _ q23) (fun _ h9 => h9) rfl hin rfl (by decide +kernel) rfl rfl (Nat.le_of_ble_eq_true rfl) dX0_init_9 (fun H locs hP hD hS => ?_)
  have hP : va_P D vwCl [(h0, .inr (0, [.int (zI 0), .ref q_1, .null, .null, .null, .null, .null, .null, .null, .int (zI 0), .null, .null])), (q_1, .inl (c_1, 8, .inl (zF (fun _ => 0))))] H := hP
  have hD : va_D A [(h0, .inr (0, [.int (zI 0), .ref q_1, .null, .null, .null, .null, .null, .null, .null, .int (zI 0), .null, .null])), (q_1, .inl (c_1, 8, .inl (zF (fun _ => 0))))] := hD
  refine lv_aload_n hx hb dX0_init_12 rfl (lv_at hl 0 rfl) ?_
  refine z_bipush hx hb dX0_init_13 (by decide) ?_
  refine va_newa (atype := .int) (ty := .int) (a0 := (8, .inl (zF (fun _ => 0)))) (N' := 8) hx hb (hts _ q59) rfl hK hP hD hS hA (z_new0 8) (by decide) (by decide) (by decide) (Nat.le_of_ble_eq_true rfl) (Nat.le_of_ble_eq_true rfl) dX0_init_15 (fun q_2 c_2 H hK hP hD hS => ?_)
  obtain rfl : c_1 = c_2 := z_same hK 0 1 rfl rfl
  have hK : va_K D vwCl [(c_1, .int)] s := hK.sub [0] rfl
  have hP : va_P D vwCl [(h0, .inr (0, [.int (zI 0), .ref q_1, .null, .null, .null, .null, .null, .null, .null, .int (zI 0), .null, .null])), (q_1, .inl (c_1, 8, .inl (zF (fun _ => 0)))), (q_2, .inl (c_1, 8, .inl (zF (fun _ => 0))))] H := hP
  have hD : va_D A [(h0, .inr (0, [.int (zI 0), .ref q_1, .null, .null, .null, .null, .null, .null, .null, .int (zI 0), .null, .null])), (q_1, .inl (c_1, 8, .inl (zF (fun _ => 0)))), (q_2, .inl (c_1, 8, .inl (zF (fun _ => 0))))] := hD
  refine va_putF (D := D) (ci := 0) (v := .ref q_2) (ty := .array .int) (C := RX0) (T := TX0) (N := 12) hx hb hts in_X0 tyX0 tyX0_ok nmX0 hown hK hP hD hS 0 rfl rfl 2 (by decide) (hts _ q24) (fun _ h9 => h9) rfl hin rfl (by decide +kernel) rfl rfl (Nat.le_of_ble_eq_true rfl) dX0_init_17 (fun H locs hP hD hS => ?_)
  have hP : va_P D vwCl [(h0, .inr (0, [.int (zI 0), .ref q_1, .ref q_2, .null, .null, .null, .null, .null, .null, .int (zI 0), .null, .null])), (q_1, .inl (c_1, 8, .inl (zF (fun _ => 0)))), (q_2, .inl (c_1, 8, .inl (zF (fun _ => 0))))] H := hP
  have hD : va_D A [(h0, .inr (0, [.int (zI 0), .ref q_1, .ref q_2, .null, .null, .null, .null, .null, .null, .int (zI 0), .null, .null])), (q_1, .inl (c_1, 8, .inl (zF (fun _ => 0)))), (q_2, .inl (c_1, 8, .inl (zF (fun _ => 0))))] := hD
  refine lv_aload_n hx hb dX0_init_20 rfl (lv_at hl 0 rfl) ?_
  refine z_bipush hx hb dX0_init_21 (by decide) ?_
  refine va_newa (atype := .int) (ty := .int) (a0 := (8, .inl (zF (fun _ => 0)))) (N' := 8) hx hb (hts _ q59) rfl hK hP hD hS hA (z_new0 8) (by decide) (by decide) (by decide) (Nat.le_of_ble_eq_true rfl) (Nat.le_of_ble_eq_true rfl) dX0_init_23 (fun q_3 c_3 H hK hP hD hS => ?_)
  obtain rfl : c_1 = c_3 := z_same hK 0 1 rfl rfl
  have hK : va_K D vwCl [(c_1, .int)] s := hK.sub [0] rfl
  have hP : va_P D vwCl [(h0, .inr (0, [.int (zI 0), .ref q_1, .ref q_2, .null, .null, .null, .null, .null, .null, .int (zI 0), .null, .null])), (q_1, .inl (c_1, 8, .inl (zF (fun _ => 0)))), (q_2, .inl (c_1, 8, .inl (zF (fun _ => 0)))), (q_3, .inl (c_1, 8, .inl (zF (fun _ => 0))))] H := hP
  have hD : va_D A [(h0, .inr (0, [.int (zI 0), .ref q_1, .ref q_2, .null, .null, .null, .null, .null, .null, .int (zI 0), .null, .null])), (q_1, .inl (c_1, 8, .inl (zF (fun _ => 0)))), (q_2, .inl (c_1, 8, .inl (zF (fun _ => 0)))), (q_3, .inl (c_1, 8, .inl (zF (fun _ => 0))))] := hD
  refine va_putF (D := D) (ci := 0) (v := .ref q_3) (ty := .array .int) (C := RX0) (T := TX0) (N := 12) hx hb hts in_X0 tyX0 tyX0_ok nmX0 hown hK hP hD hS 0 rfl rfl 3 (by decide) (hts _ q25) (fun _ h9 => h9) rfl hin rfl (by decide +kernel) rfl rfl (Nat.le_of_ble_eq_true rfl) dX0_init_25 (fun H locs hP hD hS => ?_)
  have hP : va_P D vwCl [(h0, .inr (0, [.int (zI 0), .ref q_1, .ref q_2, .ref q_3, .null, .null, .null, .null, .null, .int (zI 0), .null, .null])), (q_1, .inl (c_1, 8, .inl (zF (fun _ => 0)))), (q_2, .inl (c_1, 8, .inl (zF (fun _ => 0)))), (q_3, .inl (c_1, 8, .inl (zF (fun _ => 0))))] H := hP
  have hD : va_D A [(h0, .inr (0, [.int (zI 0), .ref q_1, .ref q_2, .ref q_3, .null, .null, .null, .null, .null, .int (zI 0), .null, .null])), (q_1, .inl (c_1, 8, .inl (zF (fun _ => 0)))), (q_2, .inl (c_1, 8, .inl (zF (fun _ => 0)))), (q_3, .inl (c_1, 8, .inl (zF (fun _ => 0))))] := hD
  refine lv_aload_n hx hb dX0_init_28 rfl (lv_at hl 0 rfl) ?_
  refine z_bipush hx hb dX0_init_29 (by decide) ?_
  refine va_newa (atype := .int) (ty := .int) (a0 := (8, .inl (zF (fun _ => 0)))) (N' := 8) hx hb (hts _ q59) rfl hK hP hD hS hA (z_new0 8) (by decide) (by decide) (by decide) (Nat.le_of_ble_eq_true rfl) (Nat.le_of_ble_eq_true rfl) dX0_init_31 (fun q_4 c_4 H hK hP hD hS => ?_)
  obtain rfl : c_1 = c_4 := z_same hK 0 1 rfl rfl
  have hK : va_K D vwCl [(c_1, .int)] s := hK.sub [0] rfl
  have hP : va_P D vwCl [(h0, .inr (0, [.int (zI 0), .ref q_1, .ref q_2, .ref q_3, .null, .null, .null, .null, .null, .int (zI 0), .null, .null])), (q_1, .inl (c_1, 8, .inl (zF (fun _ => 0)))), (q_2, .inl (c_1, 8, .inl (zF (fun _ => 0)))), (q_3, .inl (c_1, 8, .inl (zF (fun _ => 0)))), (q_4, .inl (c_1, 8, .inl (zF (fun _ => 0))))] H := hP
  have hD : va_D A [(h0, .inr (0, [.int (zI 0), .ref q_1, .ref q_2, .ref q_3, .null, .null, .null, .null, .null, .int (zI 0), .null, .null])), (q_1, .inl (c_1, 8, .inl (zF (fun _ => 0)))), (q_2, .inl (c_1, 8, .inl (zF (fun _ => 0)))), (q_3, .inl (c_1, 8, .inl (zF (fun _ => 0)))), (q_4, .inl (c_1, 8, .inl (zF (fun _ => 0))))] := hD
  refine va_putF (D := D) (ci := 0) (v := .ref q_4) (ty := .array .int) (C := RX0) (T := TX0) (N := 12) hx hb hts in_X0 tyX0 tyX0_ok nmX0 hown hK hP hD hS 0 rfl rfl 4 (by decide) (hts _ q26) (fun _ h9 => h9) rfl hin rfl (by decide +kernel) rfl rfl (Nat.le_of_ble_eq_true rfl) dX0_init_33 (fun H locs hP hD hS => ?_)
  have hP : va_P D vwCl [(h0, .inr (0, [.int (zI 0), .ref q_1, .ref q_2, .ref q_3, .ref q_4, .null, .null, .null, .null, .int (zI 0), .null, .null])), (q_1, .inl (c_1, 8, .inl (zF (fun _ => 0)))), (q_2, .inl (c_1, 8, .inl (zF (fun _ => 0)))), (q_3, .inl (c_1, 8, .inl (zF (fun _ => 0)))), (q_4, .inl (c_1, 8, .inl (zF (fun _ => 0))))] H := hP
  have hD : va_D A [(h0, .inr (0, [.int (zI 0), .ref q_1, .ref q_2, .ref q_3, .ref q_4, .null, .null, .null, .null, .int (zI 0), .null, .null])), (q_1, .inl (c_1, 8, .inl (zF (fun _ => 0)))), (q_2, .inl (c_1, 8, .inl (zF (fun _ => 0)))), (q_3, .inl (c_1, 8, .inl (zF (fun _ => 0)))), (q_4, .inl (c_1, 8, .inl (zF (fun _ => 0))))] := hD
  refine lv_aload_n hx hb dX0_init_36 rfl (lv_at hl 0 rfl) ?_
  refine z_bipush hx hb dX0_init_37 (by decide) ?_
  refine va_newa (atype := .int) (ty := .int) (a0 := (8, .inl (zF (fun _ => 0)))) (N' := 8) hx hb (hts _ q59) rfl hK hP hD hS hA (z_new0 8) (by decide) (by decide) (by decide) (Nat.le_of_ble_eq_true rfl) (Nat.le_of_ble_eq_true rfl) dX0_init_39 (fun q_5 c_5 H hK hP hD hS => ?_)
  obtain rfl : c_1 = c_5 := z_same hK 0 1 rfl rfl
  have hK : va_K D vwCl [(c_1, .int)] s := hK.sub [0] rfl
  have hP : va_P D vwCl [(h0, .inr (0, [.int (zI 0), .ref q_1, .ref q_2, .ref q_3, .ref q_4, .null, .null, .null, .null, .int (zI 0), .null, .null])), (q_1, .inl (c_1, 8, .inl (zF (fun _ => 0)))), (q_2, .inl (c_1, 8, .inl (zF (fun _ => 0)))), (q_3, .inl (c_1, 8, .inl (zF (fun _ => 0)))), (q_4, .inl (c_1, 8, .inl (zF (fun _ => 0)))), (q_5, .inl (c_1, 8, .inl (zF (fun _ => 0))))] H := hP
  have hD : va_D A [(h0, .inr (0, [.int (zI 0), .ref q_1, .ref q_2, .ref q_3, .ref q_4, .null, .null, .null, .null, .int (zI 0), .null, .null])), (q_1, .inl (c_1, 8, .inl (zF (fun _ => 0)))), (q_2, .inl (c_1, 8, .inl (zF (fun _ => 0)))), (q_3, .inl (c_1, 8, .inl (zF (fun _ => 0)))), (q_4, .inl (c_1, 8, .inl (zF (fun _ => 0)))), (q_5, .inl (c_1, 8, .inl (zF (fun _ => 0))))] := hD
  refine va_putF (D := D) (ci := 0) (v := .ref q_5) (ty := .array .int) (C := RX0) (T := TX0) (N := 12) hx hb hts in_X0 tyX0 tyX0_ok nmX0 hown hK hP hD hS 0 rfl rfl 5 (by decide) (hts _ q27) (fun _ h9 => h9) rfl hin rfl (by decide +kernel) rfl rfl (Nat.le_of_ble_eq_true rfl) dX0_init_41 (fun H locs hP hD hS => ?_)
  have hP : va_P D vwCl [(h0, .inr (0, [.int (zI 0), .ref q_1, .ref q_2, .ref q_3, .ref q_4, .ref q_5, .null, .null, .null, .int (zI 0), .null, .null])), (q_1, .inl (c_1, 8, .inl (zF (fun _ => 0)))), (q_2, .inl (c_1, 8, .inl (zF (fun _ => 0)))), (q_3, .inl (c_1, 8, .inl (zF (fun _ => 0)))), (q_4, .inl (c_1, 8, .inl (zF (fun _ => 0)))), (q_5, .inl (c_1, 8, .inl (zF (fun _ => 0))))] H := hP
  have hD : va_D A [(h0, .inr (0, [.int (zI 0), .ref q_1, .ref q_2, .ref q_3, .ref q_4, .ref q_5, .null, .null, .null, .int (zI 0), .null, .null])), (q_1, .inl (c_1, 8, .inl (zF (fun _ => 0)))), (q_2, .inl (c_1, 8, .inl (zF (fun _ => 0)))), (q_3, .inl (c_1, 8, .inl (zF (fun _ => 0)))), (q_4, .inl (c_1, 8, .inl (zF (fun _ => 0)))), (q_5, .inl (c_1, 8, .inl (zF (fun _ => 0))))] := hD
  refine lv_aload_n hx hb dX0_init_44 rfl (lv_at hl 0 rfl) ?_
  refine z_iconst hx hb dX0_init_45 ?_
  refine va_newa (atype := .int) (ty := .int) (a0 := (5, .inl (zF (fun _ => 0)))) (N' := 5) hx hb (hts _ q59) rfl hK hP hD hS hA (z_new0 5) (by decide) (by decide) (by decide) (Nat.le_of_ble_eq_true rfl) (Nat.le_of_ble_eq_true rfl) dX0_init_46 (fun q_6 c_6 H hK hP hD hS => ?_)
  obtain rfl : c_1 = c_6 := z_same hK 0 1 rfl rfl
  have hK : va_K D vwCl [(c_1, .int)] s := hK.sub [0] rfl
  have hP : va_P D vwCl [(h0, .inr (0, [.int (zI 0), .ref q_1, .ref q_2, .ref q_3, .ref q_4, .ref q_5, .null, .null, .null, .int (zI 0), .null, .null])), (q_1, .inl (c_1, 8, .inl (zF (fun _ => 0)))), (q_2, .inl (c_1, 8, .inl (zF (fun _ => 0)))), (q_3, .inl (c_1, 8, .inl (zF (fun _ => 0)))), (q_4, .inl (c_1, 8, .inl (zF (fun _ => 0)))), (q_5, .inl (c_1, 8, .inl (zF (fun _ => 0)))), (q_6, .inl (c_1, 5, .inl (zF (fun _ => 0))))] H := hP
  have hD : va_D A [(h0, .inr (0, [.int (zI 0), .ref q_1, .ref q_2, .ref q_3, .ref q_4, .ref q_5, .null, .null, .null, .int (zI 0), .null, .null])), (q_1, .inl (c_1, 8, .inl (zF (fun _ => 0)))), (q_2, .inl (c_1, 8, .inl (zF (fun _ => 0)))), (q_3, .inl (c_1, 8, .inl (zF (fun _ => 0)))), (q_4, .inl (c_1, 8, .inl (zF (fun _ => 0)))), (q_5, .inl (c_1, 8, .inl (zF (fun _ => 0)))), (q_6, .inl (c_1, 5, .inl (zF (fun _ => 0))))] := hD
  refine va_putF (D := D) (ci := 0) (v := .ref q_6) (ty := .array .int) (C := RX0) (T := TX0) (N := 12) hx hb hts in_X0 tyX0 tyX0_ok nmX0 hown hK hP hD hS 0 rfl rfl 6 (by decide) (hts _ q28) (fun _ h9 => h9) rfl hin rfl (by decide +kernel) rfl rfl (Nat.le_of_ble_eq_true rfl) dX0_init_48 (fun H locs hP hD hS => ?_)
  have hP : va_P D vwCl [(h0, .inr (0, [.int (zI 0), .ref q_1, .ref q_2, .ref q_3, .ref q_4, .ref q_5, .ref q_6, .null, .null, .int (zI 0), .null, .null])), (q_1, .inl (c_1, 8, .inl (zF (fun _ => 0)))), (q_2, .inl (c_1, 8, .inl (zF (fun _ => 0)))), (q_3, .inl (c_1, 8, .inl (zF (fun _ => 0)))), (q_4, .inl (c_1, 8, .inl (zF (fun _ => 0)))), (q_5, .inl (c_1, 8, .inl (zF (fun _ => 0)))), (q_6, .inl (c_1, 5, .inl (zF (fun _ => 0))))] H := hP
  have hD : va_D A [(h0, .inr (0, [.int (zI 0), .ref q_1, .ref q_2, .ref q_3, .ref q_4, .ref q_5, .ref q_6, .null, .null, .int (zI 0), .null, .null])), (q_1, .inl (c_1, 8, .inl (zF (fun _ => 0)))), (q_2, .inl (c_1, 8, .inl (zF (fun _ => 0)))), (q_3, .inl (c_1, 8, .inl (zF (fun _ => 0)))), (q_4, .inl (c_1, 8, .inl (zF (fun _ => 0)))), (q_5, .inl (c_1, 8, .inl (zF (fun _ => 0)))), (q_6, .inl (c_1, 5, .inl (zF (fun _ => 0))))] := hD
  refine lv_aload_n hx hb dX0_init_51 rfl (lv_at hl 0 rfl) ?_
  refine z_iconst hx hb dX0_init_52 ?_
  refine va_newa (atype := .boolean) (ty := .boolean) (a0 := (5, .inl (zF (fun _ => 0)))) (N' := 5) hx hb (hts _ q60) rfl hK hP hD hS hA (z_new1 5) (by decide) (by decide) (by decide) (Nat.le_of_ble_eq_true rfl) (Nat.le_of_ble_eq_true rfl) dX0_init_53 (fun q_7 c_7 H hK hP hD hS => ?_)
  have hK : va_K D vwCl [(c_1, .int), (c_7, .boolean)] s := hK
  have hP : va_P D vwCl [(h0, .inr (0, [.int (zI 0), .ref q_1, .ref q_2, .ref q_3, .ref q_4, .ref q_5, .ref q_6, .null, .null, .int (zI 0), .null, .null])), (q_1, .inl (c_1, 8, .inl (zF (fun _ => 0)))), (q_2, .inl (c_1, 8, .inl (zF (fun _ => 0)))), (q_3, .inl (c_1, 8, .inl (zF (fun _ => 0)))), (q_4, .inl (c_1, 8, .inl (zF (fun _ => 0)))), (q_5, .inl (c_1, 8, .inl (zF (fun _ => 0)))), (q_6, .inl (c_1, 5, .inl (zF (fun _ => 0)))), (q_7, .inl (c_7, 5, .inl (zF (fun _ => 0))))] H := hP
  have hD : va_D A [(h0, .inr (0, [.int (zI 0), .ref q_1, .ref q_2, .ref q_3, .ref q_4, .ref q_5, .ref q_6, .null, .null, .int (zI 0), .null, .null])), (q_1, .inl (c_1, 8, .inl (zF (fun _ => 0)))), (q_2, .inl (c_1, 8, .inl (zF (fun _ => 0)))), (q_3, .inl (c_1, 8, .inl (zF (fun _ => 0)))), (q_4, .inl (c_1, 8, .inl (zF (fun _ => 0)))), (q_5, .inl (c_1, 8, .inl (zF (fun _ => 0)))), (q_6, .inl (c_1, 5, .inl (zF (fun _ => 0)))), (q_7, .inl (c_7, 5, .inl (zF (fun _ => 0))))] := hD
  refine va_putF (D := D) (ci := 0) (v := .ref q_7) (ty := .array .boolean) (C := RX0) (T := TX0) (N := 12) hx hb hts in_X0 tyX0 tyX0_ok nmX0 hown hK hP hD hS 0 rfl rfl 7 (by decide) (hts _ q29) (fun _ h9 => h9) rfl hin rfl (by decide +kernel) rfl rfl (Nat.le_of_ble_eq_true rfl) dX0_init_55 (fun H locs hP hD hS => ?_)
  have hP : va_P D vwCl [(h0, .inr (0, [.int (zI 0), .ref q_1, .ref q_2, .ref q_3, .ref q_4, .ref q_5, .ref q_6, .ref q_7, .null, .int (zI 0), .null, .null])), (q_1, .inl (c_1, 8, .inl (zF (fun _ => 0)))), (q_2, .inl (c_1, 8, .inl (zF (fun _ => 0)))), (q_3, .inl (c_1, 8, .inl (zF (fun _ => 0)))), (q_4, .inl (c_1, 8, .inl (zF (fun _ => 0)))), (q_5, .inl (c_1, 8, .inl (zF (fun _ => 0)))), (q_6, .inl (c_1, 5, .inl (zF (fun _ => 0)))), (q_7, .inl (c_7, 5, .inl (zF (fun _ => 0))))] H := hP
  have hD : va_D A [(h0, .inr (0, [.int (zI 0), .ref q_1, .ref q_2, .ref q_3, .ref q_4, .ref q_5, .ref q_6, .ref q_7, .null, .int (zI 0), .null, .null])), (q_1, .inl (c_1, 8, .inl (zF (fun _ => 0)))), (q_2, .inl (c_1, 8, .inl (zF (fun _ => 0)))), (q_3, .inl (c_1, 8, .inl (zF (fun _ => 0)))), (q_4, .inl (c_1, 8, .inl (zF (fun _ => 0)))), (q_5, .inl (c_1, 8, .inl (zF (fun _ => 0)))), (q_6, .inl (c_1, 5, .inl (zF (fun _ => 0)))), (q_7, .inl (c_7, 5, .inl (zF (fun _ => 0))))] := hD
  refine lv_aload_n hx hb dX0_init_58 rfl (lv_at hl 0 rfl) ?_
  refine z_iconst hx hb dX0_init_59 ?_
  refine va_newa (atype := .int) (ty := .int) (a0 := (5, .inl (zF (fun _ => 0)))) (N' := 5) hx hb (hts _ q59) rfl hK hP hD hS hA (z_new0 5) (by decide) (by decide) (by decide) (Nat.le_of_ble_eq_true rfl) (Nat.le_of_ble_eq_true rfl) dX0_init_60 (fun q_8 c_8 H hK hP hD hS => ?_)
  obtain rfl : c_1 = c_8 := z_same hK 0 2 rfl rfl
  have hK : va_K D vwCl [(c_1, .int), (c_7, .boolean)] s := hK.sub [0, 1] rfl
  have hP : va_P D vwCl [(h0, .inr (0, [.int (zI 0), .ref q_1, .ref q_2, .ref q_3, .ref q_4, .ref q_5, .ref q_6, .ref q_7, .null, .int (zI 0), .null, .null])), (q_1, .inl (c_1, 8, .inl (zF (fun _ => 0)))), (q_2, .inl (c_1, 8, .inl (zF (fun _ => 0)))), (q_3, .inl (c_1, 8, .inl (zF (fun _ => 0)))), (q_4, .inl (c_1, 8, .inl (zF (fun _ => 0)))), (q_5, .inl (c_1, 8, .inl (zF (fun _ => 0)))), (q_6, .inl (c_1, 5, .inl (zF (fun _ => 0)))), (q_7, .inl (c_7, 5, .inl (zF (fun _ => 0)))), (q_8, .inl (c_1, 5, .inl (zF (fun _ => 0))))] H := hP
  have hD : va_D A [(h0, .inr (0, [.int (zI 0), .ref q_1, .ref q_2, .ref q_3, .ref q_4, .ref q_5, .ref q_6, .ref q_7, .null, .int (zI 0), .null, .null])), (q_1, .inl (c_1, 8, .inl (zF (fun _ => 0)))), (q_2, .inl (c_1, 8, .inl (zF (fun _ => 0)))), (q_3, .inl (c_1, 8, .inl (zF (fun _ => 0)))), (q_4, .inl (c_1, 8, .inl (zF (fun _ => 0)))), (q_5, .inl (c_1, 8, .inl (zF (fun _ => 0)))), (q_6, .inl (c_1, 5, .inl (zF (fun _ => 0)))), (q_7, .inl (c_7, 5, .inl (zF (fun _ => 0)))), (q_8, .inl (c_1, 5, .inl (zF (fun _ => 0))))] := hD
  refine va_putF (D := D) (ci := 0) (v := .ref q_8) (ty := .array .int) (C := RX0) (T := TX0) (N := 12) hx hb hts in_X0 tyX0 tyX0_ok nmX0 hown hK hP hD hS 0 rfl rfl 8 (by decide) (hts _ q30) (fun _ h9 => h9) rfl hin rfl (by decide +kernel) rfl rfl (Nat.le_of_ble_eq_true rfl) dX0_init_62 (fun H locs hP hD hS => ?_)
  have hP : va_P D vwCl [(h0, .inr (0, [.int (zI 0), .ref q_1, .ref q_2, .ref q_3, .ref q_4, .ref q_5, .ref q_6, .ref q_7, .ref q_8, .int (zI 0), .null, .null])), (q_1, .inl (c_1, 8, .inl (zF (fun _ => 0)))), (q_2, .inl (c_1, 8, .inl (zF (fun _ => 0)))), (q_3, .inl (c_1, 8, .inl (zF (fun _ => 0)))), (q_4, .inl (c_1, 8, .inl (zF (fun _ => 0)))), (q_5, .inl (c_1, 8, .inl (zF (fun _ => 0)))), (q_6, .inl (c_1, 5, .inl (zF (fun _ => 0)))), (q_7, .inl (c_7, 5, .inl (zF (fun _ => 0)))), (q_8, .inl (c_1, 5, .inl (zF (fun _ => 0))))] H := hP
  have hD : va_D A [(h0, .inr (0, [.int (zI 0), .ref q_1, .ref q_2, .ref q_3, .ref q_4, .ref q_5, .ref q_6, .ref q_7, .ref q_8, .int (zI 0), .null, .null])), (q_1, .inl (c_1, 8, .inl (zF (fun _ => 0)))), (q_2, .inl (c_1, 8, .inl (zF (fun _ => 0)))), (q_3, .inl (c_1, 8, .inl (zF (fun _ => 0)))), (q_4, .inl (c_1, 8, .inl (zF (fun _ => 0)))), (q_5, .inl (c_1, 8, .inl (zF (fun _ => 0)))), (q_6, .inl (c_1, 5, .inl (zF (fun _ => 0)))), (q_7, .inl (c_7, 5, .inl (zF (fun _ => 0)))), (q_8, .inl (c_1, 5, .inl (zF (fun _ => 0))))] := hD
  refine lv_aload_n hx hb dX0_init_65 rfl (lv_at hl 0 rfl) ?_
  refine z_bipush hx hb dX0_init_66 (by decide) ?_
  refine va_newa (atype := .int) (ty := .int) (a0 := (40, .inl (zF (fun _ => 0)))) (N' := 40) hx hb (hts _ q59) rfl hK hP hD hS hA (z_new0 40) (by decide) (by decide) (by decide) (Nat.le_of_ble_eq_true rfl) (Nat.le_of_ble_eq_true rfl) dX0_init_68 (fun q_9 c_9 H hK hP hD hS => ?_)
  obtain rfl : c_1 = c_9 := z_same hK 0 2 rfl rfl
  have hK : va_K D vwCl [(c_1, .int), (c_7, .boolean)] s := hK.sub [0, 1] rfl
  have hP : va_P D vwCl [(h0, .inr (0, [.int (zI 0), .ref q_1, .ref q_2, .ref q_3, .ref q_4, .ref q_5, .ref q_6, .ref q_7, .ref q_8, .int (zI 0), .null, .null])), (q_1, .inl (c_1, 8, .inl (zF (fun _ => 0)))), (q_2, .inl (c_1, 8, .inl (zF (fun _ => 0)))), (q_3, .inl (c_1, 8, .inl (zF (fun _ => 0)))), (q_4, .inl (c_1, 8, .inl (zF (fun _ => 0)))), (q_5, .inl (c_1, 8, .inl (zF (fun _ => 0)))), (q_6, .inl (c_1, 5, .inl (zF (fun _ => 0)))), (q_7, .inl (c_7, 5, .inl (zF (fun _ => 0)))), (q_8, .inl (c_1, 5, .inl (zF (fun _ => 0)))), (q_9, .inl (c_1, 40, .inl (zF (fun _ => 0))))] H := hP
  have hD : va_D A [(h0, .inr (0, [.int (zI 0), .ref q_1, .ref q_2, .ref q_3, .ref q_4, .ref q_5, .ref q_6, .ref q_7, .ref q_8, .int (zI 0), .null, .null])), (q_1, .inl (c_1, 8, .inl (zF (fun _ => 0)))), (q_2, .inl (c_1, 8, .inl (zF (fun _ => 0)))), (q_3, .inl (c_1, 8, .inl (zF (fun _ => 0)))), (q_4, .inl (c_1, 8, .inl (zF (fun _ => 0)))), (q_5, .inl (c_1, 8, .inl (zF (fun _ => 0)))), (q_6, .inl (c_1, 5, .inl (zF (fun _ => 0)))), (q_7, .inl (c_7, 5, .inl (zF (fun _ => 0)))), (q_8, .inl (c_1, 5, .inl (zF (fun _ => 0)))), (q_9, .inl (c_1, 40, .inl (zF (fun _ => 0))))] := hD
  refine va_putF (D := D) (ci := 0) (v := .ref q_9) (ty := .array .int) (C := RX0) (T := TX0) (N := 12) hx hb hts in_X0 tyX0 tyX0_ok nmX0 hown hK hP hD hS 0 rfl rfl 10 (by decide) (hts _ q32) (fun _ h9 => h9) rfl hin rfl (by decide +kernel) rfl rfl (Nat.le_of_ble_eq_true rfl) dX0_init_70 (fun H locs hP hD hS => ?_)
  have hP : va_P D vwCl [(h0, .inr (0, [.int (zI 0), .ref q_1, .ref q_2, .ref q_3, .ref q_4, .ref q_5, .ref q_6, .ref q_7, .ref q_8, .int (zI 0), .ref q_9, .null])), (q_1, .inl (c_1, 8, .inl (zF (fun _ => 0)))), (q_2, .inl (c_1, 8, .inl (zF (fun _ => 0)))), (q_3, .inl (c_1, 8, .inl (zF (fun _ => 0)))), (q_4, .inl (c_1, 8, .inl (zF (fun _ => 0)))), (q_5, .inl (c_1, 8, .inl (zF (fun _ => 0)))), (q_6, .inl (c_1, 5, .inl (zF (fun _ => 0)))), (q_7, .inl (c_7, 5, .inl (zF (fun _ => 0)))), (q_8, .inl (c_1, 5, .inl (zF (fun _ => 0)))), (q_9, .inl (c_1, 40, .inl (zF (fun _ => 0))))] H := hP
  have hD : va_D A [(h0, .inr (0, [.int (zI 0), .ref q_1, .ref q_2, .ref q_3, .ref q_4, .ref q_5, .ref q_6, .ref q_7, .ref q_8, .int (zI 0), .ref q_9, .null])), (q_1, .inl (c_1, 8, .inl (zF (fun _ => 0)))), (q_2, .inl (c_1, 8, .inl (zF (fun _ => 0)))), (q_3, .inl (c_1, 8, .inl (zF (fun _ => 0)))), (q_4, .inl (c_1, 8, .inl (zF (fun _ => 0)))), (q_5, .inl (c_1, 8, .inl (zF (fun _ => 0)))), (q_6, .inl (c_1, 5, .inl (zF (fun _ => 0)))), (q_7, .inl (c_7, 5, .inl (zF (fun _ => 0)))), (q_8, .inl (c_1, 5, .inl (zF (fun _ => 0)))), (q_9, .inl (c_1, 40, .inl (zF (fun _ => 0))))] := hD
  refine lv_aload_n hx hb dX0_init_73 rfl (lv_at hl 0 rfl) ?_
  refine z_bipush hx hb dX0_init_74 (by decide) ?_
  refine va_newa (atype := .int) (ty := .int) (a0 := (40, .inl (zF (fun _ => 0)))) (N' := 40) hx hb (hts _ q59) rfl hK hP hD hS hA (z_new0 40) (by decide) (by decide) (by decide) (Nat.le_of_ble_eq_true rfl) (Nat.le_of_ble_eq_true rfl) dX0_init_76 (fun q_10 c_10 H hK hP hD hS => ?_)
  obtain rfl : c_1 = c_10 := z_same hK 0 2 rfl rfl
  have hK : va_K D vwCl [(c_1, .int), (c_7, .boolean)] s := hK.sub [0, 1] rfl
  have hP : va_P D vwCl [(h0, .inr (0, [.int (zI 0), .ref q_1, .ref q_2, .ref q_3, .ref q_4, .ref q_5, .ref q_6, .ref q_7, .ref q_8, .int (zI 0), .ref q_9, .null])), (q_1, .inl (c_1, 8, .inl (zF (fun _ => 0)))), (q_2, .inl (c_1, 8, .inl (zF (fun _ => 0)))), (q_3, .inl (c_1, 8, .inl (zF (fun _ => 0)))), (q_4, .inl (c_1, 8, .inl (zF (fun _ => 0)))), (q_5, .inl (c_1, 8, .inl (zF (fun _ => 0)))), (q_6, .inl (c_1, 5, .inl (zF (fun _ => 0)))), (q_7, .inl (c_7, 5, .inl (zF (fun _ => 0)))), (q_8, .inl (c_1, 5, .inl (zF (fun _ => 0)))), (q_9, .inl (c_1, 40, .inl (zF (fun _ => 0)))), (q_10, .inl (c_1, 40, .inl (zF (fun _ => 0))))] H := hP
  have hD : va_D A [(h0, .inr (0, [.int (zI 0), .ref q_1, .ref q_2, .ref q_3, .ref q_4, .ref q_5, .ref q_6, .ref q_7, .ref q_8, .int (zI 0), .ref q_9, .null])), (q_1, .inl (c_1, 8, .inl (zF (fun _ => 0)))), (q_2, .inl (c_1, 8, .inl (zF (fun _ => 0)))), (q_3, .inl (c_1, 8, .inl (zF (fun _ => 0)))), (q_4, .inl (c_1, 8, .inl (zF (fun _ => 0)))), (q_5, .inl (c_1, 8, .inl (zF (fun _ => 0)))), (q_6, .inl (c_1, 5, .inl (zF (fun _ => 0)))), (q_7, .inl (c_7, 5, .inl (zF (fun _ => 0)))), (q_8, .inl (c_1, 5, .inl (zF (fun _ => 0)))), (q_9, .inl (c_1, 40, .inl (zF (fun _ => 0)))), (q_10, .inl (c_1, 40, .inl (zF (fun _ => 0))))] := hD
  refine va_putF (D := D) (ci := 0) (v := .ref q_10) (ty := .array .int) (C := RX0) (T := TX0) (N := 12) hx hb hts in_X0 tyX0 tyX0_ok nmX0 hown hK hP hD hS 0 rfl rfl 11 (by decide) (hts _ q33) (fun _ h9 => h9) rfl hin rfl (by decide +kernel) rfl rfl (Nat.le_of_ble_eq_true rfl) dX0_init_78 (fun H locs hP hD hS => ?_)
  have hP : va_P D vwCl [(h0, .inr (0, [.int (zI 0), .ref q_1, .ref q_2, .ref q_3, .ref q_4, .ref q_5, .ref q_6, .ref q_7, .ref q_8, .int (zI 0), .ref q_9, .ref q_10])), (q_1, .inl (c_1, 8, .inl (zF (fun _ => 0)))), (q_2, .inl (c_1, 8, .inl (zF (fun _ => 0)))), (q_3, .inl (c_1, 8, .inl (zF (fun _ => 0)))), (q_4, .inl (c_1, 8, .inl (zF (fun _ => 0)))), (q_5, .inl (c_1, 8, .inl (zF (fun _ => 0)))), (q_6, .inl (c_1, 5, .inl (zF (fun _ => 0)))), (q_7, .inl (c_7, 5, .inl (zF (fun _ => 0)))), (q_8, .inl (c_1, 5, .inl (zF (fun _ => 0)))), (q_9, .inl (c_1, 40, .inl (zF (fun _ => 0)))), (q_10, .inl (c_1, 40, .inl (zF (fun _ => 0))))] H := hP
  have hD : va_D A [(h0, .inr (0, [.int (zI 0), .ref q_1, .ref q_2, .ref q_3, .ref q_4, .ref q_5, .ref q_6, .ref q_7, .ref q_8, .int (zI 0), .ref q_9, .ref q_10])), (q_1, .inl (c_1, 8, .inl (zF (fun _ => 0)))), (q_2, .inl (c_1, 8, .inl (zF (fun _ => 0)))), (q_3, .inl (c_1, 8, .inl (zF (fun _ => 0)))), (q_4, .inl (c_1, 8, .inl (zF (fun _ => 0)))), (q_5, .inl (c_1, 8, .inl (zF (fun _ => 0)))), (q_6, .inl (c_1, 5, .inl (zF (fun _ => 0)))), (q_7, .inl (c_7, 5, .inl (zF (fun _ => 0)))), (q_8, .inl (c_1, 5, .inl (zF (fun _ => 0)))), (q_9, .inl (c_1, 40, .inl (zF (fun _ => 0)))), (q_10, .inl (c_1, 40, .inl (zF (fun _ => 0))))] := hD
  refine W.widen (k := 10) (n := 135) (by decide) (by decide) ?_
  exact W.vret hx hb hr (fun t ht hW => ⟨⟨((fun k => [h0, q_1, q_2, q_3, q_4, q_5, q_6, q_7, q_8, q_9, q_10].getD k 0), c_1, c_7), rfl, rfl, by rw [ht]; exact hP, va_K.moved hW.alike hK, hD⟩, hS.F ht⟩) hS.2.2 dX0_init_81
set_option maxHeartbeats 8000000 in
set_option maxRecDepth 100000 in
theorem m_init1 (l : Launch) (D : va_G) (h0 sz : Nat) : Met l yX1_init (ws_ yX1_init cX1_init 1 none) ({ frames := 1, cells := 10, slots := 842, locals := 12 }) (va_Pc [.ref h0] (zP D vwCl [] sz [(h0, .inr (1, [.int (zI 0), .null, .null, .null, .null, .int (zI 0), .null, .null, .null, .null, .null, .null]))])) (va_Qv (fun (u : (Nat → Nat) × ClassId) => u.1 0 = h0) (fun u t => va_P D vwCl (wM0 u.2 u.1) t.heap ∧ va_K D vwCl [(u.2, .int)] t ∧ va_D (va_A [(h0, .inr (1, [.int (zI 0), .null, .null, .null, .null, .int (zI 0), .null, .null, .null, .null, .null, .null]))] sz) (wM0 u.2 u.1)) (va_A [(h0, .inr (1, [.int (zI 0), .null, .null, .null, .null, .int (zI 0), .null, .null, .null, .null, .null, .null]))] sz)) 10 842 (va_A [(h0, .inr (1, [.int (zI 0), .null, .null, .null, .null, .int (zI 0), .null, .null, .null, .null, .null, .null]))] sz) := by
  refine Met.ofW (cc := cX1_init) (maxL := 1) (ret := none) (by decide) rfl ?_
  intro p e s m args below meth c s₁ B hml hv
  obtain ⟨rfl, hsz, hP, hK, hD0⟩ := hv
  have hx := B.exec
  have hb := B.bytes
  have hr := B.returns
  have hts := atoms_spec (ws := ws_ yX1_init cX1_init 1 none) B.pre
  have hts : ∀ w ∈ lw_all, w.before _ s = true := fun w h => hts w (List.mem_cons_of_mem _ h)
  have hown : s.vm.findClass RX1 = some m.cls := findClass_of_methodNamed B.named
  have hlocks := B.notSynchronized
  have hin : meth.name = "<init>" := (name_of_methodNamed B.named B.method).1
  subst hsz
  have hD := hD0.self (sz := s.heap.size)
  generalize hAe : va_A [(h0, .inr (1, [.int (zI 0), .null, .null, .null, .null, .int (zI 0), .null, .null, .null, .null, .null, .null]))] s.heap.size = A at hD ⊢
  have hA : ∀ q : Nat, s.heap.size ≤ q → A q := fun q h => by rw [← hAe]; exact Or.inr h
  have hS : va_S A s.heap s.heap [] := va_S.rf
  have hl := lv_entry ([.ref h0]) (n := 1) (Nat.le_of_ble_eq_true rfl)
  rw [lg_entry_eq]
  generalize (lg_sl ([.ref h0]) ++ List.replicate (1 - (lg_sl ([.ref h0])).length) Slot.unset).toArray = ls at hl ⊢
  have hl : lv_has ls 1 [(0, .ref h0)] := hl
  refine lv_aload_n hx hb dX1_init_0 rfl (lv_at hl 0 rfl) ?_
  refine W.objInit hx hb hown (hts _ q118) (hts _ q20) (hts _ q21) rfl (by rw [hml]; exact hl.1) rfl dX1_init_1 (Nat.le_of_ble_eq_true rfl) (Nat.le_of_ble_eq_true rfl) ?_
  refine W.eq (g2 := F0 m 4 ls []) rfl ?_
  refine lv_aload_n hx hb dX1_init_4 rfl (lv_at hl 0 rfl) ?_
  refine z_bipush hx hb dX1_init_5 (by decide) ?_
  refine va_newa (atype := .int) (ty := .int) (a0 := (8, .inl (zF (fun _ => 0)))) (N' := 8) hx hb (hts _ q59) rfl hK hP hD hS hA (z_new0 8) (by decide) (by decide) (by decide) (Nat.le_of_ble_eq_true rfl) (Nat.le_of_ble_eq_true rfl) dX1_init_7 (fun q_1 c_1 H hK hP hD hS => ?_)
  have hK : va_K D vwCl [(c_1, .int)] s := hK
  have hP : va_P D vwCl [(h0, .inr (1, [.int (zI 0), .null, .null, .null, .null, .int (zI 0), .null, .null, .null, .null, .null, .null])), (q_1, .inl (c_1, 8, .inl (zF (fun _ => 0))))] H := hP
  have hD : va_D A [(h0, .inr (1, [.int (zI 0), .null, .null, .null, .null, .int (zI 0), .null, .null, .null, .null, .null, .null])), (q_1, .inl (c_1, 8, .inl (zF (fun _ => 0))))] := hD
  refine va_putF (D := D) (ci := 1) (v := .ref q_1) (ty := .array .int) (C := RX1) (T := TX1) (N := 12) hx hb hts in_X1 tyX1 tyX1_ok nmX1 hown hK hP hD hS 0 rfl rfl 1 (by decide) (hts _ q120) (fun _ h9 => h9) rfl hin rfl (by decide +kernel) rfl rfl (Nat.le_of_ble_eq_true rfl) dX1_init_9 (fun H locs hP hD hS => ?_)
  have hP : va_P D vwCl [(h0, .inr (1, [.int (zI 0), .ref q_1, .null, .null, .null, .int (zI 0), .null, .null, .null, .null, .null, .null])), (q_1, .inl (c_1, 8, .inl (zF (fun _ => 0))))] H := hP
  have hD : va_D A [(h0, .inr (1, [.int (zI 0), .ref q_1, .null, .null, .null, .int (zI 0), .null, .null, .null, .null, .null, .null])), (q_1, .inl (c_1, 8, .inl (zF (fun _ => 0))))] := hD
  refine lv_aload_n hx hb dX1_init_12 rfl (lv_at hl 0 rfl) ?_
  refine z_bipush hx hb dX1_init_13 (by decide) ?_
  refine va_newa (atype := .int) (ty := .int) (a0 := (8, .inl (zF (fun _ => 0)))) (N' := 8) hx hb (hts _ q59) rfl hK hP hD hS hA (z_new0 8) (by decide) (by decide) (by decide) (Nat.le_of_ble_eq_true rfl) (Nat.le_of_ble_eq_true rfl) dX1_init_15 (fun q_2 c_2 H hK hP hD hS => ?_)
  obtain rfl : c_1 = c_2 := z_same hK 0 1 rfl rfl
  have hK : va_K D vwCl [(c_1, .int)] s := hK.sub [0] rfl
  have hP : va_P D vwCl [(h0, .inr (1, [.int (zI 0), .ref q_1, .null, .null, .null, .int (zI 0), .null, .null, .null, .null, .null, .null])), (q_1, .inl (c_1, 8, .inl (zF (fun _ => 0)))), (q_2, .inl (c_1, 8, .inl (zF (fun _ => 0))))] H := hP
  have hD : va_D A [(h0, .inr (1, [.int (zI 0), .ref q_1, .null, .null, .null, .int (zI 0), .null, .null, .null, .null, .null, .null])), (q_1, .inl (c_1, 8, .inl (zF (fun _ => 0)))), (q_2, .inl (c_1, 8, .inl (zF (fun _ => 0))))] := hD
  refine va_putF (D := D) (ci := 1) (v := .ref q_2) (ty := .array .int) (C := RX1) (T := TX1) (N := 12) hx hb hts in_X1 tyX1 tyX1_ok nmX1 hown hK hP hD hS 0 rfl rfl 2 (by decide) (hts _ q121) (fun _ h9 => h9) rfl hin rfl (by decide +kernel) rfl rfl (Nat.le_of_ble_eq_true rfl) dX1_init_17 (fun H locs hP hD hS => ?_)
  have hP : va_P D vwCl [(h0, .inr (1, [.int (zI 0), .ref q_1, .ref q_2, .null, .null, .int (zI 0), .null, .null, .null, .null, .null, .null])), (q_1, .inl (c_1, 8, .inl (zF (fun _ => 0)))), (q_2, .inl (c_1, 8, .inl (zF (fun _ => 0))))] H := hP
  have hD : va_D A [(h0, .inr (1, [.int (zI 0), .ref q_1, .ref q_2, .null, .null, .int (zI 0), .null, .null, .null, .null, .null, .null])), (q_1, .inl (c_1, 8, .inl (zF (fun _ => 0)))), (q_2, .inl (c_1, 8, .inl (zF (fun _ => 0))))] := hD
  refine lv_aload_n hx hb dX1_init_20 rfl (lv_at hl 0 rfl) ?_
  refine z_bipush hx hb dX1_init_21 (by decide) ?_
  refine va_newa (atype := .int) (ty := .int) (a0 := (8, .inl (zF (fun _ => 0)))) (N' := 8) hx hb (hts _ q59) rfl hK hP hD hS hA (z_new0 8) (by decide) (by decide) (by decide) (Nat.le_of_ble_eq_true rfl) (Nat.le_of_ble_eq_true rfl) dX1_init_23 (fun q_3 c_3 H hK hP hD hS => ?_)
  obtain rfl : c_1 = c_3 := z_same hK 0 1 rfl rfl
  have hK : va_K D vwCl [(c_1, .int)] s := hK.sub [0] rfl
  have hP : va_P D vwCl [(h0, .inr (1, [.int (zI 0), .ref q_1, .ref q_2, .null, .null, .int (zI 0), .null, .null, .null, .null, .null, .null])), (q_1, .inl (c_1, 8, .inl (zF (fun _ => 0)))), (q_2, .inl (c_1, 8, .inl (zF (fun _ => 0)))), (q_3, .inl (c_1, 8, .inl (zF (fun _ => 0))))] H := hP
  have hD : va_D A [(h0, .inr (1, [.int (zI 0), .ref q_1, .ref q_2, .null, .null, .int (zI 0), .null, .null, .null, .null, .null, .null])), (q_1, .inl (c_1, 8, .inl (zF (fun _ => 0)))), (q_2, .inl (c_1, 8, .inl (zF (fun _ => 0)))), (q_3, .inl (c_1, 8, .inl (zF (fun _ => 0))))] := hD
  refine va_putF (D := D) (ci := 1) (v := .ref q_3) (ty := .array .int) (C := RX1) (T := TX1) (N := 12) hx hb hts in_X1 tyX1 tyX1_ok nmX1 hown hK hP hD hS 0 rfl rfl 3 (by decide) (hts _ q122) (fun _ h9 => h9) rfl hin rfl (by decide +kernel) rfl rfl (Nat.le_of_ble_eq_true rfl) dX1_init_25 (fun H locs hP hD hS => ?_)
  have hP : va_P D vwCl [(h0, .inr (1, [.int (zI 0), .ref q_1, .ref q_2, .ref q_3, .null, .int (zI 0), .null, .null, .null, .null, .null, .null])), (q_1, .inl (c_1, 8, .inl (zF (fun _ => 0)))), (q_2, .inl (c_1, 8, .inl (zF (fun _ => 0)))), (q_3, .inl (c_1, 8, .inl (zF (fun _ => 0))))] H := hP
  have hD : va_D A [(h0, .inr (1, [.int (zI 0), .ref q_1, .ref q_2, .ref q_3, .null, .int (zI 0), .null, .null, .null, .null, .null, .null])), (q_1, .inl (c_1, 8, .inl (zF (fun _ => 0)))), (q_2, .inl (c_1, 8, .inl (zF (fun _ => 0)))), (q_3, .inl (c_1, 8, .inl (zF (fun _ => 0))))] := hD
  refine lv_aload_n hx hb dX1_init_28 rfl (lv_at hl 0 rfl) ?_
  refine z_bipush hx hb dX1_init_29 (by decide) ?_
  refine va_newa (atype := .int) (ty := .int) (a0 := (8, .inl (zF (fun _ => 0)))) (N' := 8) hx hb (hts _ q59) rfl hK hP hD hS hA (z_new0 8) (by decide) (by decide) (by decide) (Nat.le_of_ble_eq_true rfl) (Nat.le_of_ble_eq_true rfl) dX1_init_31 (fun q_4 c_4 H hK hP hD hS => ?_)
  obtain rfl : c_1 = c_4 := z_same hK 0 1 rfl rfl
  have hK : va_K D vwCl [(c_1, .int)] s := hK.sub [0] rfl
  have hP : va_P D vwCl [(h0, .inr (1, [.int (zI 0), .ref q_1, .ref q_2, .ref q_3, .null, .int (zI 0), .null, .null, .null, .null, .null, .null])), (q_1, .inl (c_1, 8, .inl (zF (fun _ => 0)))), (q_2, .inl (c_1, 8, .inl (zF (fun _ => 0)))), (q_3, .inl (c_1, 8, .inl (zF (fun _ => 0)))), (q_4, .inl (c_1, 8, .inl (zF (fun _ => 0))))] H := hP
  have hD : va_D A [(h0, .inr (1, [.int (zI 0), .ref q_1, .ref q_2, .ref q_3, .null, .int (zI 0), .null, .null, .null, .null, .null, .null])), (q_1, .inl (c_1, 8, .inl (zF (fun _ => 0)))), (q_2, .inl (c_1, 8, .inl (zF (fun _ => 0)))), (q_3, .inl (c_1, 8, .inl (zF (fun _ => 0)))), (q_4, .inl (c_1, 8, .inl (zF (fun _ => 0))))] := hD
  refine va_putF (D := D) (ci := 1) (v := .ref q_4) (ty := .array .int) (C := RX1) (T := TX1) (N := 12) hx hb hts in_X1 tyX1 tyX1_ok nmX1 hown hK hP hD hS 0 rfl rfl 4 (by decide) (hts _ q123) (fun _ h9 => h9) rfl hin rfl (by decide +kernel) rfl rfl (Nat.le_of_ble_eq_true rfl) dX1_init_33 (fun H locs hP hD hS => ?_)
  have hP : va_P D vwCl [(h0, .inr (1, [.int (zI 0), .ref q_1, .ref q_2, .ref q_3, .ref q_4, .int (zI 0), .null, .null, .null, .null, .null, .null])), (q_1, .inl (c_1, 8, .inl (zF (fun _ => 0)))), (q_2, .inl (c_1, 8, .inl (zF (fun _ => 0)))), (q_3, .inl (c_1, 8, .inl (zF (fun _ => 0)))), (q_4, .inl (c_1, 8, .inl (zF (fun _ => 0))))] H := hP
  have hD : va_D A [(h0, .inr (1, [.int (zI 0), .ref q_1, .ref q_2, .ref q_3, .ref q_4, .int (zI 0), .null, .null, .null, .null, .null, .null])), (q_1, .inl (c_1, 8, .inl (zF (fun _ => 0)))), (q_2, .inl (c_1, 8, .inl (zF (fun _ => 0)))), (q_3, .inl (c_1, 8, .inl (zF (fun _ => 0)))), (q_4, .inl (c_1, 8, .inl (zF (fun _ => 0))))] := hD
  refine lv_aload_n hx hb dX1_init_36 rfl (lv_at hl 0 rfl) ?_
  refine z_sipush hx hb dX1_init_37 (by decide) ?_
  refine va_newa (atype := .int) (ty := .int) (a0 := (170, .inl (zF (fun _ => 0)))) (N' := 170) hx hb (hts _ q59) rfl hK hP hD hS hA (z_new0 170) (by decide) (by decide) (by decide) (Nat.le_of_ble_eq_true rfl) (Nat.le_of_ble_eq_true rfl) dX1_init_40 (fun q_5 c_5 H hK hP hD hS => ?_)
  obtain rfl : c_1 = c_5 := z_same hK 0 1 rfl rfl
  have hK : va_K D vwCl [(c_1, .int)] s := hK.sub [0] rfl
  have hP : va_P D vwCl [(h0, .inr (1, [.int (zI 0), .ref q_1, .ref q_2, .ref q_3, .ref q_4, .int (zI 0), .null, .null, .null, .null, .null, .null])), (q_1, .inl (c_1, 8, .inl (zF (fun _ => 0)))), (q_2, .inl (c_1, 8, .inl (zF (fun _ => 0)))), (q_3, .inl (c_1, 8, .inl (zF (fun _ => 0)))), (q_4, .inl (c_1, 8, .inl (zF (fun _ => 0)))), (q_5, .inl (c_1, 170, .inl (zF (fun _ => 0))))] H := hP
  have hD : va_D A [(h0, .inr (1, [.int (zI 0), .ref q_1, .ref q_2, .ref q_3, .ref q_4, .int (zI 0), .null, .null, .null, .null, .null, .null])), (q_1, .inl (c_1, 8, .inl (zF (fun _ => 0)))), (q_2, .inl (c_1, 8, .inl (zF (fun _ => 0)))), (q_3, .inl (c_1, 8, .inl (zF (fun _ => 0)))), (q_4, .inl (c_1, 8, .inl (zF (fun _ => 0)))), (q_5, .inl (c_1, 170, .inl (zF (fun _ => 0))))] := hD
  refine va_putF (D := D) (ci := 1) (v := .ref q_5) (ty := .array .int) (C := RX1) (T := TX1) (N := 12) hx hb hts in_X1 tyX1 tyX1_ok nmX1 hown hK hP hD hS 0 rfl rfl 6 (by decide) (hts _ q125) (fun _ h9 => h9) rfl hin rfl (by decide +kernel) rfl rfl (Nat.le_of_ble_eq_true rfl) dX1_init_42 (fun H locs hP hD hS => ?_)
  have hP : va_P D vwCl [(h0, .inr (1, [.int (zI 0), .ref q_1, .ref q_2, .ref q_3, .ref q_4, .int (zI 0), .ref q_5, .null, .null, .null, .null, .null])), (q_1, .inl (c_1, 8, .inl (zF (fun _ => 0)))), (q_2, .inl (c_1, 8, .inl (zF (fun _ => 0)))), (q_3, .inl (c_1, 8, .inl (zF (fun _ => 0)))), (q_4, .inl (c_1, 8, .inl (zF (fun _ => 0)))), (q_5, .inl (c_1, 170, .inl (zF (fun _ => 0))))] H := hP
  have hD : va_D A [(h0, .inr (1, [.int (zI 0), .ref q_1, .ref q_2, .ref q_3, .ref q_4, .int (zI 0), .ref q_5, .null, .null, .null, .null, .null])), (q_1, .inl (c_1, 8, .inl (zF (fun _ => 0)))), (q_2, .inl (c_1, 8, .inl (zF (fun _ => 0)))), (q_3, .inl (c_1, 8, .inl (zF (fun _ => 0)))), (q_4, .inl (c_1, 8, .inl (zF (fun _ => 0)))), (q_5, .inl (c_1, 170, .inl (zF (fun _ => 0))))] := hD
  refine lv_aload_n hx hb dX1_init_45 rfl (lv_at hl 0 rfl) ?_
  refine z_sipush hx hb dX1_init_46 (by decide) ?_
  refine va_newa (atype := .int) (ty := .int) (a0 := (170, .inl (zF (fun _ => 0)))) (N' := 170) hx hb (hts _ q59) rfl hK hP hD hS hA (z_new0 170) (by decide) (by decide) (by decide) (Nat.le_of_ble_eq_true rfl) (Nat.le_of_ble_eq_true rfl) dX1_init_49 (fun q_6 c_6 H hK hP hD hS => ?_)
  obtain rfl : c_1 = c_6 := z_same hK 0 1 rfl rfl
  have hK : va_K D vwCl [(c_1, .int)] s := hK.sub [0] rfl
  have hP : va_P D vwCl [(h0, .inr (1, [.int (zI 0), .ref q_1, .ref q_2, .ref q_3, .ref q_4, .int (zI 0), .ref q_5, .null, .null, .null, .null, .null])), (q_1, .inl (c_1, 8, .inl (zF (fun _ => 0)))), (q_2, .inl (c_1, 8, .inl (zF (fun _ => 0)))), (q_3, .inl (c_1, 8, .inl (zF (fun _ => 0)))), (q_4, .inl (c_1, 8, .inl (zF (fun _ => 0)))), (q_5, .inl (c_1, 170, .inl (zF (fun _ => 0)))), (q_6, .inl (c_1, 170, .inl (zF (fun _ => 0))))] H := hP
  have hD : va_D A [(h0, .inr (1, [.int (zI 0), .ref q_1, .ref q_2, .ref q_3, .ref q_4, .int (zI 0), .ref q_5, .null, .null, .null, .null, .null])), (q_1, .inl (c_1, 8, .inl (zF (fun _ => 0)))), (q_2, .inl (c_1, 8, .inl (zF (fun _ => 0)))), (q_3, .inl (c_1, 8, .inl (zF (fun _ => 0)))), (q_4, .inl (c_1, 8, .inl (zF (fun _ => 0)))), (q_5, .inl (c_1, 170, .inl (zF (fun _ => 0)))), (q_6, .inl (c_1, 170, .inl (zF (fun _ => 0))))] := hD
  refine va_putF (D := D) (ci := 1) (v := .ref q_6) (ty := .array .int) (C := RX1) (T := TX1) (N := 12) hx hb hts in_X1 tyX1 tyX1_ok nmX1 hown hK hP hD hS 0 rfl rfl 7 (by decide) (hts _ q126) (fun _ h9 => h9) rfl hin rfl (by decide +kernel) rfl rfl (Nat.le_of_ble_eq_true rfl) dX1_init_51 (fun H locs hP hD hS => ?_)
  have hP : va_P D vwCl [(h0, .inr (1, [.int (zI 0), .ref q_1, .ref q_2, .ref q_3, .ref q_4, .int (zI 0), .ref q_5, .ref q_6, .null, .null, .null, .null])), (q_1, .inl (c_1, 8, .inl (zF (fun _ => 0)))), (q_2, .inl (c_1, 8, .inl (zF (fun _ => 0)))), (q_3, .inl (c_1, 8, .inl (zF (fun _ => 0)))), (q_4, .inl (c_1, 8, .inl (zF (fun _ => 0)))), (q_5, .inl (c_1, 170, .inl (zF (fun _ => 0)))), (q_6, .inl (c_1, 170, .inl (zF (fun _ => 0))))] H := hP
  have hD : va_D A [(h0, .inr (1, [.int (zI 0), .ref q_1, .ref q_2, .ref q_3, .ref q_4, .int (zI 0), .ref q_5, .ref q_6, .null, .null, .null, .null])), (q_1, .inl (c_1, 8, .inl (zF (fun _ => 0)))), (q_2, .inl (c_1, 8, .inl (zF (fun _ => 0)))), (q_3, .inl (c_1, 8, .inl (zF (fun _ => 0)))), (q_4, .inl (c_1, 8, .inl (zF (fun _ => 0)))), (q_5, .inl (c_1, 170, .inl (zF (fun _ => 0)))), (q_6, .inl (c_1, 170, .inl (zF (fun _ => 0))))] := hD
  refine lv_aload_n hx hb dX1_init_54 rfl (lv_at hl 0 rfl) ?_
  refine z_sipush hx hb dX1_init_55 (by decide) ?_
  refine va_newa (atype := .int) (ty := .int) (a0 := (170, .inl (zF (fun _ => 0)))) (N' := 170) hx hb (hts _ q59) rfl hK hP hD hS hA (z_new0 170) (by decide) (by decide) (by decide) (Nat.le_of_ble_eq_true rfl) (Nat.le_of_ble_eq_true rfl) dX1_init_58 (fun q_7 c_7 H hK hP hD hS => ?_)
  obtain rfl : c_1 = c_7 := z_same hK 0 1 rfl rfl
  have hK : va_K D vwCl [(c_1, .int)] s := hK.sub [0] rfl
  have hP : va_P D vwCl [(h0, .inr (1, [.int (zI 0), .ref q_1, .ref q_2, .ref q_3, .ref q_4, .int (zI 0), .ref q_5, .ref q_6, .null, .null, .null, .null])), (q_1, .inl (c_1, 8, .inl (zF (fun _ => 0)))), (q_2, .inl (c_1, 8, .inl (zF (fun _ => 0)))), (q_3, .inl (c_1, 8, .inl (zF (fun _ => 0)))), (q_4, .inl (c_1, 8, .inl (zF (fun _ => 0)))), (q_5, .inl (c_1, 170, .inl (zF (fun _ => 0)))), (q_6, .inl (c_1, 170, .inl (zF (fun _ => 0)))), (q_7, .inl (c_1, 170, .inl (zF (fun _ => 0))))] H := hP
  have hD : va_D A [(h0, .inr (1, [.int (zI 0), .ref q_1, .ref q_2, .ref q_3, .ref q_4, .int (zI 0), .ref q_5, .ref q_6, .null, .null, .null, .null])), (q_1, .inl (c_1, 8, .inl (zF (fun _ => 0)))), (q_2, .inl (c_1, 8, .inl (zF (fun _ => 0)))), (q_3, .inl (c_1, 8, .inl (zF (fun _ => 0)))), (q_4, .inl (c_1, 8, .inl (zF (fun _ => 0)))), (q_5, .inl (c_1, 170, .inl (zF (fun _ => 0)))), (q_6, .inl (c_1, 170, .inl (zF (fun _ => 0)))), (q_7, .inl (c_1, 170, .inl (zF (fun _ => 0))))] := hD
  refine va_putF (D := D) (ci := 1) (v := .ref q_7) (ty := .array .int) (C := RX1) (T := TX1) (N := 12) hx hb hts in_X1 tyX1 tyX1_ok nmX1 hown hK hP hD hS 0 rfl rfl 8 (by decide) (hts _ q127) (fun _ h9 => h9) rfl hin rfl (by decide +kernel) rfl rfl (Nat.le_of_ble_eq_true rfl) dX1_init_60 (fun H locs hP hD hS => ?_)
  have hP : va_P D vwCl [(h0, .inr (1, [.int (zI 0), .ref q_1, .ref q_2, .ref q_3, .ref q_4, .int (zI 0), .ref q_5, .ref q_6, .ref q_7, .null, .null, .null])), (q_1, .inl (c_1, 8, .inl (zF (fun _ => 0)))), (q_2, .inl (c_1, 8, .inl (zF (fun _ => 0)))), (q_3, .inl (c_1, 8, .inl (zF (fun _ => 0)))), (q_4, .inl (c_1, 8, .inl (zF (fun _ => 0)))), (q_5, .inl (c_1, 170, .inl (zF (fun _ => 0)))), (q_6, .inl (c_1, 170, .inl (zF (fun _ => 0)))), (q_7, .inl (c_1, 170, .inl (zF (fun _ => 0))))] H := hP
  have hD : va_D A [(h0, .inr (1, [.int (zI 0), .ref q_1, .ref q_2, .ref q_3, .ref q_4, .int (zI 0), .ref q_5, .ref q_6, .ref q_7, .null, .null, .null])), (q_1, .inl (c_1, 8, .inl (zF (fun _ => 0)))), (q_2, .inl (c_1, 8, .inl (zF (fun _ => 0)))), (q_3, .inl (c_1, 8, .inl (zF (fun _ => 0)))), (q_4, .inl (c_1, 8, .inl (zF (fun _ => 0)))), (q_5, .inl (c_1, 170, .inl (zF (fun _ => 0)))), (q_6, .inl (c_1, 170, .inl (zF (fun _ => 0)))), (q_7, .inl (c_1, 170, .inl (zF (fun _ => 0))))] := hD
  refine lv_aload_n hx hb dX1_init_63 rfl (lv_at hl 0 rfl) ?_
  refine z_sipush hx hb dX1_init_64 (by decide) ?_
  refine va_newa (atype := .int) (ty := .int) (a0 := (170, .inl (zF (fun _ => 0)))) (N' := 170) hx hb (hts _ q59) rfl hK hP hD hS hA (z_new0 170) (by decide) (by decide) (by decide) (Nat.le_of_ble_eq_true rfl) (Nat.le_of_ble_eq_true rfl) dX1_init_67 (fun q_8 c_8 H hK hP hD hS => ?_)
  obtain rfl : c_1 = c_8 := z_same hK 0 1 rfl rfl
  have hK : va_K D vwCl [(c_1, .int)] s := hK.sub [0] rfl
  have hP : va_P D vwCl [(h0, .inr (1, [.int (zI 0), .ref q_1, .ref q_2, .ref q_3, .ref q_4, .int (zI 0), .ref q_5, .ref q_6, .ref q_7, .null, .null, .null])), (q_1, .inl (c_1, 8, .inl (zF (fun _ => 0)))), (q_2, .inl (c_1, 8, .inl (zF (fun _ => 0)))), (q_3, .inl (c_1, 8, .inl (zF (fun _ => 0)))), (q_4, .inl (c_1, 8, .inl (zF (fun _ => 0)))), (q_5, .inl (c_1, 170, .inl (zF (fun _ => 0)))), (q_6, .inl (c_1, 170, .inl (zF (fun _ => 0)))), (q_7, .inl (c_1, 170, .inl (zF (fun _ => 0)))), (q_8, .inl (c_1, 170, .inl (zF (fun _ => 0))))] H := hP
  have hD : va_D A [(h0, .inr (1, [.int (zI 0), .ref q_1, .ref q_2, .ref q_3, .ref q_4, .int (zI 0), .ref q_5, .ref q_6, .ref q_7, .null, .null, .null])), (q_1, .inl (c_1, 8, .inl (zF (fun _ => 0)))), (q_2, .inl (c_1, 8, .inl (zF (fun _ => 0)))), (q_3, .inl (c_1, 8, .inl (zF (fun _ => 0)))), (q_4, .inl (c_1, 8, .inl (zF (fun _ => 0)))), (q_5, .inl (c_1, 170, .inl (zF (fun _ => 0)))), (q_6, .inl (c_1, 170, .inl (zF (fun _ => 0)))), (q_7, .inl (c_1, 170, .inl (zF (fun _ => 0)))), (q_8, .inl (c_1, 170, .inl (zF (fun _ => 0))))] := hD
  refine va_putF (D := D) (ci := 1) (v := .ref q_8) (ty := .array .int) (C := RX1) (T := TX1) (N := 12) hx hb hts in_X1 tyX1 tyX1_ok nmX1 hown hK hP hD hS 0 rfl rfl 9 (by decide) (hts _ q128) (fun _ h9 => h9) rfl hin rfl (by decide +kernel) rfl rfl (Nat.le_of_ble_eq_true rfl) dX1_init_69 (fun H locs hP hD hS => ?_)
  have hP : va_P D vwCl [(h0, .inr (1, [.int (zI 0), .ref q_1, .ref q_2, .ref q_3, .ref q_4, .int (zI 0), .ref q_5, .ref q_6, .ref q_7, .ref q_8, .null, .null])), (q_1, .inl (c_1, 8, .inl (zF (fun _ => 0)))), (q_2, .inl (c_1, 8, .inl (zF (fun _ => 0)))), (q_3, .inl (c_1, 8, .inl (zF (fun _ => 0)))), (q_4, .inl (c_1, 8, .inl (zF (fun _ => 0)))), (q_5, .inl (c_1, 170, .inl (zF (fun _ => 0)))), (q_6, .inl (c_1, 170, .inl (zF (fun _ => 0)))), (q_7, .inl (c_1, 170, .inl (zF (fun _ => 0)))), (q_8, .inl (c_1, 170, .inl (zF (fun _ => 0))))] H := hP
  have hD : va_D A [(h0, .inr (1, [.int (zI 0), .ref q_1, .ref q_2, .ref q_3, .ref q_4, .int (zI 0), .ref q_5, .ref q_6, .ref q_7, .ref q_8, .null, .null])), (q_1, .inl (c_1, 8, .inl (zF (fun _ => 0)))), (q_2, .inl (c_1, 8, .inl (zF (fun _ => 0)))), (q_3, .inl (c_1, 8, .inl (zF (fun _ => 0)))), (q_4, .inl (c_1, 8, .inl (zF (fun _ => 0)))), (q_5, .inl (c_1, 170, .inl (zF (fun _ => 0)))), (q_6, .inl (c_1, 170, .inl (zF (fun _ => 0)))), (q_7, .inl (c_1, 170, .inl (zF (fun _ => 0)))), (q_8, .inl (c_1, 170, .inl (zF (fun _ => 0))))] := hD
  refine lv_aload_n hx hb dX1_init_72 rfl (lv_at hl 0 rfl) ?_
  refine z_bipush hx hb dX1_init_73 (by decide) ?_
  refine va_newa (atype := .int) (ty := .int) (a0 := (65, .inl (zF (fun _ => 0)))) (N' := 65) hx hb (hts _ q59) rfl hK hP hD hS hA (z_new0 65) (by decide) (by decide) (by decide) (Nat.le_of_ble_eq_true rfl) (Nat.le_of_ble_eq_true rfl) dX1_init_75 (fun q_9 c_9 H hK hP hD hS => ?_)
  obtain rfl : c_1 = c_9 := z_same hK 0 1 rfl rfl
  have hK : va_K D vwCl [(c_1, .int)] s := hK.sub [0] rfl
  have hP : va_P D vwCl [(h0, .inr (1, [.int (zI 0), .ref q_1, .ref q_2, .ref q_3, .ref q_4, .int (zI 0), .ref q_5, .ref q_6, .ref q_7, .ref q_8, .null, .null])), (q_1, .inl (c_1, 8, .inl (zF (fun _ => 0)))), (q_2, .inl (c_1, 8, .inl (zF (fun _ => 0)))), (q_3, .inl (c_1, 8, .inl (zF (fun _ => 0)))), (q_4, .inl (c_1, 8, .inl (zF (fun _ => 0)))), (q_5, .inl (c_1, 170, .inl (zF (fun _ => 0)))), (q_6, .inl (c_1, 170, .inl (zF (fun _ => 0)))), (q_7, .inl (c_1, 170, .inl (zF (fun _ => 0)))), (q_8, .inl (c_1, 170, .inl (zF (fun _ => 0)))), (q_9, .inl (c_1, 65, .inl (zF (fun _ => 0))))] H := hP
  have hD : va_D A [(h0, .inr (1, [.int (zI 0), .ref q_1, .ref q_2, .ref q_3, .ref q_4, .int (zI 0), .ref q_5, .ref q_6, .ref q_7, .ref q_8, .null, .null])), (q_1, .inl (c_1, 8, .inl (zF (fun _ => 0)))), (q_2, .inl (c_1, 8, .inl (zF (fun _ => 0)))), (q_3, .inl (c_1, 8, .inl (zF (fun _ => 0)))), (q_4, .inl (c_1, 8, .inl (zF (fun _ => 0)))), (q_5, .inl (c_1, 170, .inl (zF (fun _ => 0)))), (q_6, .inl (c_1, 170, .inl (zF (fun _ => 0)))), (q_7, .inl (c_1, 170, .inl (zF (fun _ => 0)))), (q_8, .inl (c_1, 170, .inl (zF (fun _ => 0)))), (q_9, .inl (c_1, 65, .inl (zF (fun _ => 0))))] := hD
  refine va_putF (D := D) (ci := 1) (v := .ref q_9) (ty := .array .int) (C := RX1) (T := TX1) (N := 12) hx hb hts in_X1 tyX1 tyX1_ok nmX1 hown hK hP hD hS 0 rfl rfl 10 (by decide) (hts _ q129) (fun _ h9 => h9) rfl hin rfl (by decide +kernel) rfl rfl (Nat.le_of_ble_eq_true rfl) dX1_init_77 (fun H locs hP hD hS => ?_)
  have hP : va_P D vwCl [(h0, .inr (1, [.int (zI 0), .ref q_1, .ref q_2, .ref q_3, .ref q_4, .int (zI 0), .ref q_5, .ref q_6, .ref q_7, .ref q_8, .ref q_9, .null])), (q_1, .inl (c_1, 8, .inl (zF (fun _ => 0)))), (q_2, .inl (c_1, 8, .inl (zF (fun _ => 0)))), (q_3, .inl (c_1, 8, .inl (zF (fun _ => 0)))), (q_4, .inl (c_1, 8, .inl (zF (fun _ => 0)))), (q_5, .inl (c_1, 170, .inl (zF (fun _ => 0)))), (q_6, .inl (c_1, 170, .inl (zF (fun _ => 0)))), (q_7, .inl (c_1, 170, .inl (zF (fun _ => 0)))), (q_8, .inl (c_1, 170, .inl (zF (fun _ => 0)))), (q_9, .inl (c_1, 65, .inl (zF (fun _ => 0))))] H := hP
  have hD : va_D A [(h0, .inr (1, [.int (zI 0), .ref q_1, .ref q_2, .ref q_3, .ref q_4, .int (zI 0), .ref q_5, .ref q_6, .ref q_7, .ref q_8, .ref q_9, .null])), (q_1, .inl (c_1, 8, .inl (zF (fun _ => 0)))), (q_2, .inl (c_1, 8, .inl (zF (fun _ => 0)))), (q_3, .inl (c_1, 8, .inl (zF (fun _ => 0)))), (q_4, .inl (c_1, 8, .inl (zF (fun _ => 0)))), (q_5, .inl (c_1, 170, .inl (zF (fun _ => 0)))), (q_6, .inl (c_1, 170, .inl (zF (fun _ => 0)))), (q_7, .inl (c_1, 170, .inl (zF (fun _ => 0)))), (q_8, .inl (c_1, 170, .inl (zF (fun _ => 0)))), (q_9, .inl (c_1, 65, .inl (zF (fun _ => 0))))] := hD
  refine lv_aload_n hx hb dX1_init_80 rfl (lv_at hl 0 rfl) ?_
  refine z_bipush hx hb dX1_init_81 (by decide) ?_
  refine va_newa (atype := .int) (ty := .int) (a0 := (65, .inl (zF (fun _ => 0)))) (N' := 65) hx hb (hts _ q59) rfl hK hP hD hS hA (z_new0 65) (by decide) (by decide) (by decide) (Nat.le_of_ble_eq_true rfl) (Nat.le_of_ble_eq_true rfl) dX1_init_83 (fun q_10 c_10 H hK hP hD hS => ?_)
  obtain rfl : c_1 = c_10 := z_same hK 0 1 rfl rfl
  have hK : va_K D vwCl [(c_1, .int)] s := hK.sub [0] rfl
  have hP : va_P D vwCl [(h0, .inr (1, [.int (zI 0), .ref q_1, .ref q_2, .ref q_3, .ref q_4, .int (zI 0), .ref q_5, .ref q_6, .ref q_7, .ref q_8, .ref q_9, .null])), (q_1, .inl (c_1, 8, .inl (zF (fun _ => 0)))), (q_2, .inl (c_1, 8, .inl (zF (fun _ => 0)))), (q_3, .inl (c_1, 8, .inl (zF (fun _ => 0)))), (q_4, .inl (c_1, 8, .inl (zF (fun _ => 0)))), (q_5, .inl (c_1, 170, .inl (zF (fun _ => 0)))), (q_6, .inl (c_1, 170, .inl (zF (fun _ => 0)))), (q_7, .inl (c_1, 170, .inl (zF (fun _ => 0)))), (q_8, .inl (c_1, 170, .inl (zF (fun _ => 0)))), (q_9, .inl (c_1, 65, .inl (zF (fun _ => 0)))), (q_10, .inl (c_1, 65, .inl (zF (fun _ => 0))))] H := hP
  have hD : va_D A [(h0, .inr (1, [.int (zI 0), .ref q_1, .ref q_2, .ref q_3, .ref q_4, .int (zI 0), .ref q_5, .ref q_6, .ref q_7, .ref q_8, .ref q_9, .null])), (q_1, .inl (c_1, 8, .inl (zF (fun _ => 0)))), (q_2, .inl (c_1, 8, .inl (zF (fun _ => 0)))), (q_3, .inl (c_1, 8, .inl (zF (fun _ => 0)))), (q_4, .inl (c_1, 8, .inl (zF (fun _ => 0)))), (q_5, .inl (c_1, 170, .inl (zF (fun _ => 0)))), (q_6, .inl (c_1, 170, .inl (zF (fun _ => 0)))), (q_7, .inl (c_1, 170, .inl (zF (fun _ => 0)))), (q_8, .inl (c_1, 170, .inl (zF (fun _ => 0)))), (q_9, .inl (c_1, 65, .inl (zF (fun _ => 0)))), (q_10, .inl (c_1, 65, .inl (zF (fun _ => 0))))] := hD
  refine va_putF (D := D) (ci := 1) (v := .ref q_10) (ty := .array .int) (C := RX1) (T := TX1) (N := 12) hx hb hts in_X1 tyX1 tyX1_ok nmX1 hown hK hP hD hS 0 rfl rfl 11 (by decide) (hts _ q130) (fun _ h9 => h9) rfl hin rfl (by decide +kernel) rfl rfl (Nat.le_of_ble_eq_true rfl) dX1_init_85 (fun H locs hP hD hS => ?_)
  have hP : va_P D vwCl [(h0, .inr (1, [.int (zI 0), .ref q_1, .ref q_2, .ref q_3, .ref q_4, .int (zI 0), .ref q_5, .ref q_6, .ref q_7, .ref q_8, .ref q_9, .ref q_10])), (q_1, .inl (c_1, 8, .inl (zF (fun _ => 0)))), (q_2, .inl (c_1, 8, .inl (zF (fun _ => 0)))), (q_3, .inl (c_1, 8, .inl (zF (fun _ => 0)))), (q_4, .inl (c_1, 8, .inl (zF (fun _ => 0)))), (q_5, .inl (c_1, 170, .inl (zF (fun _ => 0)))), (q_6, .inl (c_1, 170, .inl (zF (fun _ => 0)))), (q_7, .inl (c_1, 170, .inl (zF (fun _ => 0)))), (q_8, .inl (c_1, 170, .inl (zF (fun _ => 0)))), (q_9, .inl (c_1, 65, .inl (zF (fun _ => 0)))), (q_10, .inl (c_1, 65, .inl (zF (fun _ => 0))))] H := hP
  have hD : va_D A [(h0, .inr (1, [.int (zI 0), .ref q_1, .ref q_2, .ref q_3, .ref q_4, .int (zI 0), .ref q_5, .ref q_6, .ref q_7, .ref q_8, .ref q_9, .ref q_10])), (q_1, .inl (c_1, 8, .inl (zF (fun _ => 0)))), (q_2, .inl (c_1, 8, .inl (zF (fun _ => 0)))), (q_3, .inl (c_1, 8, .inl (zF (fun _ => 0)))), (q_4, .inl (c_1, 8, .inl (zF (fun _ => 0)))), (q_5, .inl (c_1, 170, .inl (zF (fun _ => 0)))), (q_6, .inl (c_1, 170, .inl (zF (fun _ => 0)))), (q_7, .inl (c_1, 170, .inl (zF (fun _ => 0)))), (q_8, .inl (c_1, 170, .inl (zF (fun _ => 0)))), (q_9, .inl (c_1, 65, .inl (zF (fun _ => 0)))), (q_10, .inl (c_1, 65, .inl (zF (fun _ => 0))))] := hD
  refine W.widen (k := 10) (n := 842) (by decide) (by decide) ?_
  exact W.vret hx hb hr (fun t ht hW => ⟨⟨((fun k => [h0, q_1, q_2, q_3, q_4, q_5, q_6, q_7, q_8, q_9, q_10].getD k 0), c_1), rfl, rfl, by rw [ht]; exact hP, va_K.moved hW.alike hK, hD⟩, hS.F ht⟩) hS.2.2 dX1_init_88
end
section
/-! THE CLAIM OUT OF ONE WALK OF THE LAW'S BODY. Your part is whole_start (and what it stands on); all else here is the same for every law, but numbers. -/
def R_law : String := "QuickestFlowLaw"
def lw_P (b : Addr) (xs : List Int32) (args : Array Value) (s : State) : Prop := args = #[.ref b] ∧ s.IntsAt b xs ∧ xs.length ≤ 320 ∧ (Jvm.Cond.and given_1 narrow_1).before args s = true
def lw_Q (_ : Array Value) (s : State) (o : Outcome) (t : State) : Prop := o = .returned (some (.int 1)) ∧ Framed s o t [] 600000 7290000
def lw_Z (below : List Frame) (a : Array Value) (s : State) : State → Prop := fun t => ∃ o, t.status = .running ∧ Ended t below o ∧ lw_Q a s o t
/-- the law's own end, with 1 on the stack, nothing written that was there before, its room as the claim has it -/
theorem lw_ret {p : Program} {l : Launch} {e : Env} {s : State} {m : MethodId} {below : List Frame} {meth : Method} {c : Code} {b : Nat} (hx : p.tables.exec = Jvm.exec) (hb : c.code = code) (hr : meth.sig.returnType = ret) (hlocks : meth.locks = false) {pc : Nat} {H : Heap} {ls : Array Slot} (hdg : decode code pc = .ok (.ireturn, 1)) : W p l e room_1 s m #[Value.ref b] below meth c H [] 600000 7290000 (lw_Z below #[Value.ref b] s) (F0 m pc ls [.int 1]) := by
  intro T hT X
  obtain ⟨fs, hret, hrun, hended, hW, hframe⟩ := X.leave (v := some (.int 1)) (hlocks := hlocks) (fun h => by rw [hr] at h; cases h)
  have hmeth' : T.vm.method? m = some meth := X.method'
  refine ⟨T.setFrames fs, ?_, .returned (some (.int 1)), hrun, hended, rfl, ⟨_, rfl⟩, hW, hframe⟩
  jvm_step X.here [X.here.top, hx, hb, hdg, hmeth', hr, ret, narrow_b1]
  (try refine ⟨rfl, ?_⟩); (try refine ⟨rfl, ?_⟩)
  first | (intro acts; rw [hret _ acts rfl rfl rfl]) | rw [hret _ _ rfl rfl rfl]
  exact Steps.refl _
/-- what holds at the law's entry: the machine, the code, the tables' words (any of lw_tbl by 'hts w (by decide +kernel)'), the script of L ints xs at the cell b, what the Statement gives of the start (any of its parts by flat_of_before) -/
def lw_At (p : Program) (s : State) (m : MethodId) (meth : Method) (c : Code) (b L : Nat) (xs : Nat → Int32) : Prop :=
  p.tables.exec = Jvm.exec ∧ c.code = code ∧ meth.sig.returnType = ret ∧ c.maxLocals = 4 ∧ s.vm.findClass R_law = some m.cls ∧ (∀ w ∈ lw_tbl, w.before #[Value.ref b] s = true) ∧ va_X b L xs s s.heap ∧ b < s.heap.size ∧ meth.locks = false ∧ (Jvm.Cond.and given_1 narrow_1).before #[Value.ref b] s = true
/-! rows of the law: its script, its classes, a call of one of its two objects -/
section ZL
variable {p : Program} {l : Launch} {e : Env} {R : Room} {s : State} {m : MethodId} {args : Array Value} {below : List Frame} {meth : Method} {c : Code} {H : Heap} {locs : List Loc} {cells slots : Nat} {Q : State → Prop}
variable {cc : ByteArray} {pc : Nat} {ls : Array Slot} {rest : List Value} {D : va_G} {cl : List vw_C} {A : Nat → Prop} {tys : List (ClassId × FieldType)} {wc wr : va_W} {H0 : Heap}
theorem z_sld (hx : p.tables.exec = Jvm.exec) (hb : c.code = cc) {b L : Nat} {xs : Nat → Int32} (hX : va_X b L xs s H0) (hbl : b < H0.size) (hbA : ¬ A b) (hS : va_S A H0 H locs) (hL : L ≤ 320) {t : Int} (hin : 0 ≤ t ∧ t < (L : Int)) {k : Nat} (hk : t.toNat = k) (hdg : decode cc pc = .ok (.iaload, 1))
    (kk : W p l e R s m args below meth c H locs cells slots Q (F0 m (pc + 1) ls (.int (zI (xs k).toInt) :: rest))) : W p l e R s m args below meth c H locs cells slots Q (F0 m pc ls (.int (zI t) :: .ref b :: rest)) := by
  refine va_sld hx hb hX hbl hbA hS (zI_in hin (by omega)) hdg ?_
  rw [zI_cl (by omega), hk, zI_of (xs k)]
  exact kk
variable {S : Type} {y : MethodName} {code : ByteArray} {L nL n idx ci : Nat} {ret : Option FieldType} {rm : Room} {own C : String} {T : u_T} {N : Nat} {fs As : List Value} {b : Addr} {st0 : List Value}
theorem z_callL {post : Int32 → S → Prop} {mk : S → va_W} (hx : p.tables.exec = Jvm.exec) (hb : c.code = cc) (hml : c.maxLocals = nL) (hown : s.vm.findClass own = some m.cls) (hts : ∀ x ∈ lw_all, x.before args s = true) (hK : va_K D cl tys s) (hP : va_P D cl (wc ++ wr) H) (hD : va_D A (wc ++ wr)) (hS : va_S A H0 H locs) (hA : ∀ q, H0.size ≤ q → A q)
    (hM : zMI l y code L ret rm (.ref b :: As) D cl tys H.size wc post mk) (hG : GoodIn lw_all (wsV own idx C y (ws_ y code L ret))) (hrc : rm.cells = 0) (hrs : rm.slots = 0) (hd : y.cls = C ∧ y.cls ≠ "java/lang/invoke/MethodHandle" ∧ y.cls ≠ "java/lang/invoke/VarHandle" ∧ (parseMethodDescriptor y.desc).map (fun d => d.parameters.length) = some n) (hR : rm.frames + 1 ≤ R.frames ∧ 8 + (L + 11) + rm.locals ≤ R.locals)
    (he : wc[0]? = some (b, .inr (ci, fs))) (hc : cl[ci]? = some (C, T, N)) (hn : As.length = n) (hsz : ls.size = nL) (hst : st0 = As.reverse ++ .ref b :: rest) (hroom : (rest.map fun v => v.category).sum ≤ 8) (hdg : decode cc pc = .ok (.invokevirtual idx, 3)) (hf : cells ≤ R.cells ∧ slots ≤ R.slots)
    (kk : ∀ (r : Int32) (u : S) (H1 : Heap) (locs1 : List Loc), post r u → va_P D cl (wr ++ mk u) H1 → va_D A (wr ++ mk u) → va_S A H0 H1 locs1 → W p l e R s m args below meth c H1 locs1 cells slots Q (F0 m (pc + 3) ls (.int r :: rest))) : W p l e R s m args below meth c H locs cells slots Q (F0 m pc ls st0) := by
  have lft : ∀ (k : Nat) (q : Nat × va_E), wc[k]? = some q → (wc ++ wr)[k]? = some q := fun k q h => by
    rw [List.getElem?_append_left (List.getElem?_eq_some_iff.mp h).1]
    exact h
  have rgt : ∀ (k : Nat) (q : Nat × va_E), wr[k]? = some q → (wc ++ wr)[wc.length + k]? = some q := fun k q h => by
    rw [List.getElem?_append_right (by omega), Nat.add_sub_cancel_left]
    exact h
  have hPc : va_P D cl wc H := fun k q h => hP k q (lft k q h)
  have hPr : va_P D cl wr H := fun k q h => hP _ q (rgt k q h)
  have hDc : va_D A wc := ⟨fun i j p q hi hj e => hD.1 i j p q (lft i p hi) (lft j q hj) e, fun k q h => hD.2 k q (lft k q h)⟩
  have hDr : va_D A wr := ⟨fun i j p q hi hj e => by have := hD.1 _ _ p q (rgt i p hi) (rgt j q hj) e; omega, fun k q h => hD.2 _ q (rgt k q h)⟩
  have hF := z_sub hDc hS hA
  have apart : ∀ (k : Nat) (q : Nat × va_E), wr[k]? = some q → q.1 < H.size ∧ ¬ va_A wc H.size q.1 := by
    intro k q h
    have hl := (hPr k q h).lt
    refine ⟨hl, fun z => ?_⟩
    rcases z with ⟨k2, e, h2⟩ | h2
    · have h3 := hD.1 _ _ _ _ (lft k2 _ h2) (rgt k q h) rfl
      have h4 := (List.getElem?_eq_some_iff.mp h2).1
      omega
    · omega
  refine va_calli (va_runV (As := As) (rest := rest) ⟨hx, hb, hml, hown, hts⟩ hM (cwV n hts hG rfl hrc hrs hd hR) ⟨z_blind, va_recv hK hPc hc he, fun U hU hW => ⟨rfl, by rw [hU], by rw [hU]; exact hPc, va_K.moved hW.alike hK, hDc.weaken (fun _ _ _ _ => trivial)⟩⟩ rfl hn hsz hst (lv_room hroom) hdg hf) hS (fun q _ h => hF q h) hF (fun r u t H1 locs1 ht hvm hw hB hz1 hk1 hS1 => ?_)
  obtain ⟨hP1, hK1, hD1⟩ := hB
  rw [ht] at hP1
  exact kk r u H1 locs1 hw (va_P.app (fun k q h => (hPr k q h).kept (hk1 q.1 (apart k q h).1 (apart k q h).2)) hP1) (va_D.app hDr (hD1.weaken (fun _ q _ h => hF q.1 h)) (fun i j x y hx hy hxy => (apart i x hx).2 (by rw [hxy]; exact hD1.2 j y hy))) hS1
end ZL
/-- both classes, known at the claim's start -/
theorem lw_classes {s0 : State} {b0 : Addr} (ht0 : ∀ w ∈ lw_tbl, w.before #[Value.ref b0] s0 = true) : ∃ D : va_G, va_K D vwCl [] s0 := by
  obtain ⟨c0_, iS0, hKn0⟩ := u_known (C := RX0) (T := TX0) (N := 12) (n := 12) ht0 (fun w h => lw_all_tbl (in_X0 w h)) (ht0 _ (lw_all_tbl q15))
  obtain ⟨c1_, iS1, hKn1⟩ := u_known (C := RX1) (T := TX1) (N := 12) (n := 12) ht0 (fun w h => lw_all_tbl (in_X1 w h)) (ht0 _ (lw_all_tbl q114))
  refine ⟨(fun k => if k = 0 then c0_ else c1_, fun k => if k = 0 then iS0 else iS1), ?_, fun k q h => absurd h (by simp)⟩
  intro k q hq
  match k, hq with
  | 0, hq => cases hq; exact hKn0
  | 1, hq => cases hq; exact hKn1
  | k + 2, hq => simp [vwCl] at hq
abbrev lw_A (s : State) : Nat → Prop := fun q => s.heap.size ≤ q
end
section
set_option maxHeartbeats 8000000 in
set_option maxRecDepth 100000 in
/-- the law's loop at its head: i ints of the script are read; both objects hold the same network -/
theorem law_loop {p : Program} {e : Env} {s : State} {m : MethodId} {below : List Frame} {meth : Method} {c : Code} (l : Launch) {bb L : Nat} {xs : Nat → Int32} (hL : L ≤ 320) (hx : p.tables.exec = Jvm.exec) (hb : c.code = code) (hr : meth.sig.returnType = ret) (hml : c.maxLocals = 4) (hown : s.vm.findClass R_law = some m.cls) (hts : ∀ w ∈ lw_all, w.before #[Value.ref bb] s = true) (hX : va_X bb L xs s s.heap) (hbl : bb < s.heap.size) (hlocks : meth.locks = false) (D : va_G) (cI cZ : ClassId) (a b : Nat → Nat) (hK : va_K D vwCl (zT cI cZ) s) :
    ∀ (g i n : Nat) (fr to wd ti fl qk rc ll : Nat → Int) (wy : Int) (wt wa : Nat → Int) (ed : Int) (st en rm fm cm qu : Nat → Int), L + 1 ≤ i + g → i ≤ L → mq_NetL n fr to wd ti → ∀ (H : Heap) (locs : List Loc), va_P D vwCl (wX cI cZ a (n : Int) fr to wd ti fl qk rc ll wy wt wa ++ wM cI b (n : Int) fr to wd ti ed st en rm fm cm qu) H → va_D (lw_A s) (wX cI cZ a (n : Int) fr to wd ti fl qk rc ll wy wt wa ++ wM cI b (n : Int) fr to wd ti ed st en rm fm cm qu) → va_S (lw_A s) s.heap H locs → ∀ (ls : Array Slot), lv_has ls 4 [(0, .ref bb), (1, .ref (a 0)), (2, .ref (b 0)), (3, .int (zI (i : Int)))] → W p l e room_1 s m #[Value.ref bb] below meth c H locs 22 1001 (lw_Z below #[Value.ref bb] s) (F0 m 18 ls []) := by
  have hA : ∀ q, s.heap.size ≤ q → lw_A s q := fun q h => h
  have hbA : ¬ lw_A s bb := by show ¬ s.heap.size ≤ bb; omega
  intro g
  induction g with
  | zero => intro i n fr to wd ti fl qk rc ll wy wt wa ed st en rm fm cm qu h1 h2; omega
  | succ g ih =>
    intro i n fr to wd ti fl qk rc ll wy wt wa ed st en rm fm cm qu hig hiL hN H locs hP hD hS ls hl
    have hNn := mq_NetL_N hN
    have hN2 := mq_NetL_N2 hN
    have hn8 := hN.1
    refine lv_iload_n hx hb dL_law_18 rfl (lv_at hl 3 rfl) ?_
    refine lv_aload_n hx hb dL_law_19 rfl (lv_at hl 0 rfl) ?_
    refine va_slen hx hb hX hbl hbA hS dL_law_20 ?_
    rw [show Int32.ofNat L = zI (L : Int) from Int32.ofInt_eq_ofNat.symm]
    refine z_iconst hx hb dL_law_21 ?_
    refine z_isub hx hb dL_law_22 ?_
    refine z_icmp_gt (tgt := 263) hx hb dL_law_23 (by decide) (by omega) (by omega) (fun c_23 => ?_) (fun c_23 => ?_)
    · refine lv_iconst (v := 1) hx hb dL_law_263 (by decide) ?_
      refine va_forget (fun q hq => hS.2.2 q hq) ?_
      refine W.widen (k := 600000) (n := 7290000) (by decide) (by decide) ?_
      exact lw_ret hx hb hr hlocks dL_law_264
    · refine lv_aload_n hx hb dL_law_26 rfl (lv_at hl 0 rfl) ?_
      refine lv_iload_n hx hb dL_law_27 rfl (lv_at hl 3 rfl) ?_
      refine z_sld hx hb hX hbl hbA hS hL (by omega) (k := i) (by omega) dL_law_28 ?_
      rw [← zI_of]
      refine lv_bipush (v := 7) hx hb dL_law_29 (by decide) ?_
      refine lv_iand hx hb dL_law_31 ?_
      obtain ⟨sw, hsw, hse⟩ := pk_andE (xs i) (m := 7) 3 (by decide)
      rw [hse]
      have hsw8 : sw = 0 ∨ sw = 1 ∨ sw = 2 ∨ sw = 3 ∨ sw = 4 ∨ sw = 5 ∨ sw = 6 ∨ sw = 7 := by omega
      rcases hsw8 with rfl | rfl | rfl | rfl | rfl | rfl | rfl | rfl
      · refine lv_tableIn (tgt := 76) hx hb dL_law_32 (by decide) (by decide) rfl (by decide) ?_
        refine lv_aload_n hx hb dL_law_76 rfl (lv_at hl 1 rfl) ?_
        refine lv_aload_n hx hb dL_law_77 rfl (lv_at hl 0 rfl) ?_
        refine lv_iload_n hx hb dL_law_78 rfl (lv_at hl 3 rfl) ?_
        refine z_iconst hx hb dL_law_79 ?_
        refine z_iadd hx hb dL_law_80 ?_
        refine z_sld hx hb hX hbl hbA hS hL (by omega) (k := i + 1) (by omega) dL_law_81 ?_
        refine lv_aload_n hx hb dL_law_82 rfl (lv_at hl 0 rfl) ?_
        refine lv_iload_n hx hb dL_law_83 rfl (lv_at hl 3 rfl) ?_
        refine z_iconst hx hb dL_law_84 ?_
        refine z_iadd hx hb dL_law_85 ?_
        refine z_sld hx hb hX hbl hbA hS hL (by omega) (k := i + 2) (by omega) dL_law_86 ?_
        refine lv_aload_n hx hb dL_law_87 rfl (lv_at hl 0 rfl) ?_
        refine lv_iload_n hx hb dL_law_88 rfl (lv_at hl 3 rfl) ?_
        refine z_iconst hx hb dL_law_89 ?_
        refine z_iadd hx hb dL_law_90 ?_
        refine z_sld hx hb hX hbl hbA hS hL (by omega) (k := i + 3) (by omega) dL_law_91 ?_
        refine lv_aload_n hx hb dL_law_92 rfl (lv_at hl 0 rfl) ?_
        refine lv_iload_n hx hb dL_law_93 rfl (lv_at hl 3 rfl) ?_
        refine z_iconst hx hb dL_law_94 ?_
        refine z_iadd hx hb dL_law_95 ?_
        refine z_sld hx hb hX hbl hbA hS hL (by omega) (k := i + 4) (by omega) dL_law_96 ?_
        refine z_callL (wc := wX cI cZ a (n : Int) fr to wd ti fl qk rc ll wy wt wa) (wr := wM cI b (n : Int) fr to wd ti ed st en rm fm cm qu) (As := [.int (zI (xs (i + 1)).toInt), .int (zI (xs (i + 2)).toInt), .int (zI (xs (i + 3)).toInt), .int (zI (xs (i + 4)).toInt)]) (rest := []) (n := 4) (C := RX0) (T := TX0) (N := 12) (ci := 0) hx hb hml hown hts hK hP hD hS hA (m_add l D cI cZ a _ (xs (i + 1)).toInt (xs (i + 2)).toInt (xs (i + 3)).toInt (xs (i + 4)).toInt hn8 (zI_rg (xs (i + 1))) (zI_rg (xs (i + 2))) (zI_rg (xs (i + 3))) (zI_rg (xs (i + 4)))) (lw_V q61 q62 q63 q12 q64) rfl rfl (by decide +kernel) ⟨Nat.le_of_ble_eq_true rfl, Nat.le_of_ble_eq_true rfl⟩ rfl rfl rfl hl.1 rfl (Nat.le_of_ble_eq_true rfl) dL_law_97 ⟨Nat.le_of_ble_eq_true rfl, Nat.le_of_ble_eq_true rfl⟩ (fun r32 u H locs hw hP hD hS => ?_)
        obtain ⟨n1, fr1, to1, wd1, ti1⟩ := u
        obtain ⟨y1, rfl, ha1⟩ := hw
        have hP : va_P D vwCl (wM cI b (n : Int) fr to wd ti ed st en rm fm cm qu ++ wX cI cZ a (n1 : Int) fr1 to1 wd1 ti1 fl qk rc ll wy wt wa) H := hP
        have hD : va_D (lw_A s) (wM cI b (n : Int) fr to wd ti ed st en rm fm cm qu ++ wX cI cZ a (n1 : Int) fr1 to1 wd1 ti1 fl qk rc ll wy wt wa) := hD
        refine lv_aload_n hx hb dL_law_100 rfl (lv_at hl 2 rfl) ?_
        refine lv_aload_n hx hb dL_law_101 rfl (lv_at hl 0 rfl) ?_
        refine lv_iload_n hx hb dL_law_102 rfl (lv_at hl 3 rfl) ?_
        refine z_iconst hx hb dL_law_103 ?_
        refine z_iadd hx hb dL_law_104 ?_
        refine z_sld hx hb hX hbl hbA hS hL (by omega) (k := i + 1) (by omega) dL_law_105 ?_
        refine lv_aload_n hx hb dL_law_106 rfl (lv_at hl 0 rfl) ?_
        refine lv_iload_n hx hb dL_law_107 rfl (lv_at hl 3 rfl) ?_
        refine z_iconst hx hb dL_law_108 ?_
        refine z_iadd hx hb dL_law_109 ?_
        refine z_sld hx hb hX hbl hbA hS hL (by omega) (k := i + 2) (by omega) dL_law_110 ?_
        refine lv_aload_n hx hb dL_law_111 rfl (lv_at hl 0 rfl) ?_
        refine lv_iload_n hx hb dL_law_112 rfl (lv_at hl 3 rfl) ?_
        refine z_iconst hx hb dL_law_113 ?_
        refine z_iadd hx hb dL_law_114 ?_
        refine z_sld hx hb hX hbl hbA hS hL (by omega) (k := i + 3) (by omega) dL_law_115 ?_
        refine lv_aload_n hx hb dL_law_116 rfl (lv_at hl 0 rfl) ?_
        refine lv_iload_n hx hb dL_law_117 rfl (lv_at hl 3 rfl) ?_
        refine z_iconst hx hb dL_law_118 ?_
        refine z_iadd hx hb dL_law_119 ?_
        refine z_sld hx hb hX hbl hbA hS hL (by omega) (k := i + 4) (by omega) dL_law_120 ?_
        refine z_callL (wc := wM cI b (n : Int) fr to wd ti ed st en rm fm cm qu) (wr := wX cI cZ a (n1 : Int) fr1 to1 wd1 ti1 fl qk rc ll wy wt wa) (As := [.int (zI (xs (i + 1)).toInt), .int (zI (xs (i + 2)).toInt), .int (zI (xs (i + 3)).toInt), .int (zI (xs (i + 4)).toInt)]) (rest := [.int (zI y1)]) (n := 4) (C := RX1) (T := TX1) (N := 12) (ci := 1) hx hb hml hown hts hK hP hD hS hA (m_add1 l D cI cZ b _ (xs (i + 1)).toInt (xs (i + 2)).toInt (xs (i + 3)).toInt (xs (i + 4)).toInt hn8 (zI_rg (xs (i + 1))) (zI_rg (xs (i + 2))) (zI_rg (xs (i + 3))) (zI_rg (xs (i + 4)))) (lw_V q156 q157 q158 q13 q159) rfl rfl (by decide +kernel) ⟨Nat.le_of_ble_eq_true rfl, Nat.le_of_ble_eq_true rfl⟩ rfl rfl rfl hl.1 rfl (Nat.le_of_ble_eq_true rfl) dL_law_121 ⟨Nat.le_of_ble_eq_true rfl, Nat.le_of_ble_eq_true rfl⟩ (fun r32 u H locs hw hP hD hS => ?_)
        obtain ⟨n2, fr2, to2, wd2, ti2⟩ := u
        obtain ⟨y2, rfl, ha2⟩ := hw
        have hP : va_P D vwCl (wX cI cZ a (n1 : Int) fr1 to1 wd1 ti1 fl qk rc ll wy wt wa ++ wM cI b (n2 : Int) fr2 to2 wd2 ti2 ed st en rm fm cm qu) H := hP
        have hD : va_D (lw_A s) (wX cI cZ a (n1 : Int) fr1 to1 wd1 ti1 fl qk rc ll wy wt wa ++ wM cI b (n2 : Int) fr2 to2 wd2 ti2 ed st en rm fm cm qu) := hD
        obtain ⟨rfl, hu⟩ := mq_Add_u ha1 ha2
        cases hu
        refine lv_icmp_eq (tgt := 257) hx hb dL_law_124 (by decide) (fun _ => ?_) (fun h => absurd rfl h)
        refine z_iinc (y := ((i + 5 : Nat) : Int)) (lv' := [(3, .int (zI ((i + 5 : Nat) : Int))), (0, .ref bb), (1, .ref (a 0)), (2, .ref (b 0))]) hx hb dL_law_257 hl (k := 3) rfl (by omega) (by decide) rfl (fun ls hl => ?_)
        refine lv_goto (tgt := 18) hx hb dL_law_260 (by decide) ?_
        exact ih (i + 5) n1 fr1 to1 wd1 ti1 fl qk rc ll wy wt wa ed st en rm fm cm qu (by omega) (by omega) (mq_NetL_add hN ha1) H locs hP hD hS ls (lv_sub hl [1, 2, 3, 0] rfl)
      · refine lv_tableIn (tgt := 129) hx hb dL_law_32 (by decide) (by decide) rfl (by decide) ?_
        refine lv_aload_n hx hb dL_law_129 rfl (lv_at hl 1 rfl) ?_
        refine lv_aload_n hx hb dL_law_130 rfl (lv_at hl 0 rfl) ?_
        refine lv_iload_n hx hb dL_law_131 rfl (lv_at hl 3 rfl) ?_
        refine z_iconst hx hb dL_law_132 ?_
        refine z_iadd hx hb dL_law_133 ?_
        refine z_sld hx hb hX hbl hbA hS hL (by omega) (k := i + 1) (by omega) dL_law_134 ?_
        refine z_callL (wc := wX cI cZ a (n : Int) fr to wd ti fl qk rc ll wy wt wa) (wr := wM cI b (n : Int) fr to wd ti ed st en rm fm cm qu) (As := [.int (zI (xs (i + 1)).toInt)]) (rest := []) (n := 1) (C := RX0) (T := TX0) (N := 12) (ci := 0) hx hb hml hown hts hK hP hD hS hA (m_drop l D cI cZ a _ (xs (i + 1)).toInt hn8 (zI_rg (xs (i + 1)))) (lw_V q65 q66 q67 q12 q68) rfl rfl (by decide +kernel) ⟨Nat.le_of_ble_eq_true rfl, Nat.le_of_ble_eq_true rfl⟩ rfl rfl rfl hl.1 rfl (Nat.le_of_ble_eq_true rfl) dL_law_135 ⟨Nat.le_of_ble_eq_true rfl, Nat.le_of_ble_eq_true rfl⟩ (fun r32 u H locs hw hP hD hS => ?_)
        obtain ⟨n1, fr1, to1, wd1, ti1⟩ := u
        obtain ⟨y1, rfl, ha1⟩ := hw
        have hP : va_P D vwCl (wM cI b (n : Int) fr to wd ti ed st en rm fm cm qu ++ wX cI cZ a (n1 : Int) fr1 to1 wd1 ti1 fl qk rc ll wy wt wa) H := hP
        have hD : va_D (lw_A s) (wM cI b (n : Int) fr to wd ti ed st en rm fm cm qu ++ wX cI cZ a (n1 : Int) fr1 to1 wd1 ti1 fl qk rc ll wy wt wa) := hD
        refine lv_aload_n hx hb dL_law_138 rfl (lv_at hl 2 rfl) ?_
        refine lv_aload_n hx hb dL_law_139 rfl (lv_at hl 0 rfl) ?_
        refine lv_iload_n hx hb dL_law_140 rfl (lv_at hl 3 rfl) ?_
        refine z_iconst hx hb dL_law_141 ?_
        refine z_iadd hx hb dL_law_142 ?_
        refine z_sld hx hb hX hbl hbA hS hL (by omega) (k := i + 1) (by omega) dL_law_143 ?_
        refine z_callL (wc := wM cI b (n : Int) fr to wd ti ed st en rm fm cm qu) (wr := wX cI cZ a (n1 : Int) fr1 to1 wd1 ti1 fl qk rc ll wy wt wa) (As := [.int (zI (xs (i + 1)).toInt)]) (rest := [.int (zI y1)]) (n := 1) (C := RX1) (T := TX1) (N := 12) (ci := 1) hx hb hml hown hts hK hP hD hS hA (m_drop1 l D cI cZ b _ (xs (i + 1)).toInt hn8 (zI_rg (xs (i + 1)))) (lw_V q163 q164 q165 q13 q166) rfl rfl (by decide +kernel) ⟨Nat.le_of_ble_eq_true rfl, Nat.le_of_ble_eq_true rfl⟩ rfl rfl rfl hl.1 rfl (Nat.le_of_ble_eq_true rfl) dL_law_144 ⟨Nat.le_of_ble_eq_true rfl, Nat.le_of_ble_eq_true rfl⟩ (fun r32 u H locs hw hP hD hS => ?_)
        obtain ⟨n2, fr2, to2, wd2, ti2⟩ := u
        obtain ⟨y2, rfl, ha2⟩ := hw
        have hP : va_P D vwCl (wX cI cZ a (n1 : Int) fr1 to1 wd1 ti1 fl qk rc ll wy wt wa ++ wM cI b (n2 : Int) fr2 to2 wd2 ti2 ed st en rm fm cm qu) H := hP
        have hD : va_D (lw_A s) (wX cI cZ a (n1 : Int) fr1 to1 wd1 ti1 fl qk rc ll wy wt wa ++ wM cI b (n2 : Int) fr2 to2 wd2 ti2 ed st en rm fm cm qu) := hD
        obtain ⟨rfl, hu⟩ := mq_Drp_u ha1 ha2
        cases hu
        refine lv_icmp_eq (tgt := 257) hx hb dL_law_147 (by decide) (fun _ => ?_) (fun h => absurd rfl h)
        refine z_iinc (y := ((i + 5 : Nat) : Int)) (lv' := [(3, .int (zI ((i + 5 : Nat) : Int))), (0, .ref bb), (1, .ref (a 0)), (2, .ref (b 0))]) hx hb dL_law_257 hl (k := 3) rfl (by omega) (by decide) rfl (fun ls hl => ?_)
        refine lv_goto (tgt := 18) hx hb dL_law_260 (by decide) ?_
        exact ih (i + 5) n1 fr1 to1 wd1 ti1 fl qk rc ll wy wt wa ed st en rm fm cm qu (by omega) (by omega) (mq_NetL_drop hN ha1) H locs hP hD hS ls (lv_sub hl [1, 2, 3, 0] rfl)
      · refine lv_tableIn (tgt := 152) hx hb dL_law_32 (by decide) (by decide) rfl (by decide) ?_
        refine lv_aload_n hx hb dL_law_152 rfl (lv_at hl 1 rfl) ?_
        refine lv_aload_n hx hb dL_law_153 rfl (lv_at hl 0 rfl) ?_
        refine lv_iload_n hx hb dL_law_154 rfl (lv_at hl 3 rfl) ?_
        refine z_iconst hx hb dL_law_155 ?_
        refine z_iadd hx hb dL_law_156 ?_
        refine z_sld hx hb hX hbl hbA hS hL (by omega) (k := i + 1) (by omega) dL_law_157 ?_
        refine z_callL (wc := wX cI cZ a (n : Int) fr to wd ti fl qk rc ll wy wt wa) (wr := wM cI b (n : Int) fr to wd ti ed st en rm fm cm qu) (As := [.int (zI (xs (i + 1)).toInt)]) (rest := []) (n := 1) (C := RX0) (T := TX0) (N := 12) (ci := 0) hx hb hml hown hts hK hP hD hS hA (m_arrived l D cI cZ a _ (xs (i + 1)).toInt (zI_rg (xs (i + 1))) hNn) (lw_V q69 q70 q71 q12 q72) rfl rfl (by decide +kernel) ⟨Nat.le_of_ble_eq_true rfl, Nat.le_of_ble_eq_true rfl⟩ rfl rfl rfl hl.1 rfl (Nat.le_of_ble_eq_true rfl) dL_law_158 ⟨Nat.le_of_ble_eq_true rfl, Nat.le_of_ble_eq_true rfl⟩ (fun r32 u H locs hw hP hD hS => ?_)
        obtain ⟨fl1, qk1, rc1, ll1, wy1, wt1, wa1⟩ := u
        obtain ⟨y1, rfl, ha1⟩ := hw
        have hP : va_P D vwCl (wM cI b (n : Int) fr to wd ti ed st en rm fm cm qu ++ wX cI cZ a (n : Int) fr to wd ti fl1 qk1 rc1 ll1 wy1 wt1 wa1) H := hP
        have hD : va_D (lw_A s) (wM cI b (n : Int) fr to wd ti ed st en rm fm cm qu ++ wX cI cZ a (n : Int) fr to wd ti fl1 qk1 rc1 ll1 wy1 wt1 wa1) := hD
        refine lv_aload_n hx hb dL_law_161 rfl (lv_at hl 2 rfl) ?_
        refine lv_aload_n hx hb dL_law_162 rfl (lv_at hl 0 rfl) ?_
        refine lv_iload_n hx hb dL_law_163 rfl (lv_at hl 3 rfl) ?_
        refine z_iconst hx hb dL_law_164 ?_
        refine z_iadd hx hb dL_law_165 ?_
        refine z_sld hx hb hX hbl hbA hS hL (by omega) (k := i + 1) (by omega) dL_law_166 ?_
        refine z_callL (wc := wM cI b (n : Int) fr to wd ti ed st en rm fm cm qu) (wr := wX cI cZ a (n : Int) fr to wd ti fl1 qk1 rc1 ll1 wy1 wt1 wa1) (As := [.int (zI (xs (i + 1)).toInt)]) (rest := [.int (zI y1)]) (n := 1) (C := RX1) (T := TX1) (N := 12) (ci := 1) hx hb hml hown hts hK hP hD hS hA (m_arrived1 l D cI cZ b _ (xs (i + 1)).toInt (zI_rg (xs (i + 1))) hNn) (lw_V q167 q168 q169 q13 q170) rfl rfl (by decide +kernel) ⟨Nat.le_of_ble_eq_true rfl, Nat.le_of_ble_eq_true rfl⟩ rfl rfl rfl hl.1 rfl (Nat.le_of_ble_eq_true rfl) dL_law_167 ⟨Nat.le_of_ble_eq_true rfl, Nat.le_of_ble_eq_true rfl⟩ (fun r32 u H locs hw hP hD hS => ?_)
        obtain ⟨ed1, st1, en1, rm1, fm1, cm1, qu1⟩ := u
        obtain ⟨y2, rfl, ha2⟩ := hw
        have hP : va_P D vwCl (wX cI cZ a (n : Int) fr to wd ti fl1 qk1 rc1 ll1 wy1 wt1 wa1 ++ wM cI b (n : Int) fr to wd ti ed1 st1 en1 rm1 fm1 cm1 qu1) H := hP
        have hD : va_D (lw_A s) (wX cI cZ a (n : Int) fr to wd ti fl1 qk1 rc1 ll1 wy1 wt1 wa1 ++ wM cI b (n : Int) fr to wd ti ed1 st1 en1 rm1 fm1 cm1 qu1) := hD
        obtain rfl : y1 = y2 := mq_Arr_u ha1 ha2
        refine lv_icmp_eq (tgt := 257) hx hb dL_law_170 (by decide) (fun _ => ?_) (fun h => absurd rfl h)
        refine z_iinc (y := ((i + 5 : Nat) : Int)) (lv' := [(3, .int (zI ((i + 5 : Nat) : Int))), (0, .ref bb), (1, .ref (a 0)), (2, .ref (b 0))]) hx hb dL_law_257 hl (k := 3) rfl (by omega) (by decide) rfl (fun ls hl => ?_)
        refine lv_goto (tgt := 18) hx hb dL_law_260 (by decide) ?_
        exact ih (i + 5) n fr to wd ti fl1 qk1 rc1 ll1 wy1 wt1 wa1 ed1 st1 en1 rm1 fm1 cm1 qu1 (by omega) (by omega) hN H locs hP hD hS ls (lv_sub hl [1, 2, 3, 0] rfl)
      · refine lv_tableIn (tgt := 175) hx hb dL_law_32 (by decide) (by decide) rfl (by decide) ?_
        refine lv_aload_n hx hb dL_law_175 rfl (lv_at hl 1 rfl) ?_
        refine lv_aload_n hx hb dL_law_176 rfl (lv_at hl 0 rfl) ?_
        refine lv_iload_n hx hb dL_law_177 rfl (lv_at hl 3 rfl) ?_
        refine z_iconst hx hb dL_law_178 ?_
        refine z_iadd hx hb dL_law_179 ?_
        refine z_sld hx hb hX hbl hbA hS hL (by omega) (k := i + 1) (by omega) dL_law_180 ?_
        refine z_callL (wc := wX cI cZ a (n : Int) fr to wd ti fl qk rc ll wy wt wa) (wr := wM cI b (n : Int) fr to wd ti ed st en rm fm cm qu) (As := [.int (zI (xs (i + 1)).toInt)]) (rest := []) (n := 1) (C := RX0) (T := TX0) (N := 12) (ci := 0) hx hb hml hown hts hK hP hD hS hA (m_quickest l D cI cZ a _ (xs (i + 1)).toInt (zI_rg (xs (i + 1))) hNn) (lw_V q97 q98 q99 q12 q100) rfl rfl (by decide +kernel) ⟨Nat.le_of_ble_eq_true rfl, Nat.le_of_ble_eq_true rfl⟩ rfl rfl rfl hl.1 rfl (Nat.le_of_ble_eq_true rfl) dL_law_181 ⟨Nat.le_of_ble_eq_true rfl, Nat.le_of_ble_eq_true rfl⟩ (fun r32 u H locs hw hP hD hS => ?_)
        obtain ⟨fl1, qk1, rc1, ll1, wy1, wt1, wa1⟩ := u
        obtain ⟨y1, rfl, ha1⟩ := hw
        have hP : va_P D vwCl (wM cI b (n : Int) fr to wd ti ed st en rm fm cm qu ++ wX cI cZ a (n : Int) fr to wd ti fl1 qk1 rc1 ll1 wy1 wt1 wa1) H := hP
        have hD : va_D (lw_A s) (wM cI b (n : Int) fr to wd ti ed st en rm fm cm qu ++ wX cI cZ a (n : Int) fr to wd ti fl1 qk1 rc1 ll1 wy1 wt1 wa1) := hD
        refine lv_aload_n hx hb dL_law_184 rfl (lv_at hl 2 rfl) ?_
        refine lv_aload_n hx hb dL_law_185 rfl (lv_at hl 0 rfl) ?_
        refine lv_iload_n hx hb dL_law_186 rfl (lv_at hl 3 rfl) ?_
        refine z_iconst hx hb dL_law_187 ?_
        refine z_iadd hx hb dL_law_188 ?_
        refine z_sld hx hb hX hbl hbA hS hL (by omega) (k := i + 1) (by omega) dL_law_189 ?_
        refine z_callL (wc := wM cI b (n : Int) fr to wd ti ed st en rm fm cm qu) (wr := wX cI cZ a (n : Int) fr to wd ti fl1 qk1 rc1 ll1 wy1 wt1 wa1) (As := [.int (zI (xs (i + 1)).toInt)]) (rest := [.int (zI y1)]) (n := 1) (C := RX1) (T := TX1) (N := 12) (ci := 1) hx hb hml hown hts hK hP hD hS hA (m_quickest1 l D cI cZ b _ (xs (i + 1)).toInt (zI_rg (xs (i + 1))) hNn) (lw_V q195 q196 q197 q13 q198) rfl rfl (by decide +kernel) ⟨Nat.le_of_ble_eq_true rfl, Nat.le_of_ble_eq_true rfl⟩ rfl rfl rfl hl.1 rfl (Nat.le_of_ble_eq_true rfl) dL_law_190 ⟨Nat.le_of_ble_eq_true rfl, Nat.le_of_ble_eq_true rfl⟩ (fun r32 u H locs hw hP hD hS => ?_)
        obtain ⟨ed1, st1, en1, rm1, fm1, cm1, qu1⟩ := u
        obtain ⟨y2, rfl, ha2⟩ := hw
        have hP : va_P D vwCl (wX cI cZ a (n : Int) fr to wd ti fl1 qk1 rc1 ll1 wy1 wt1 wa1 ++ wM cI b (n : Int) fr to wd ti ed1 st1 en1 rm1 fm1 cm1 qu1) H := hP
        have hD : va_D (lw_A s) (wX cI cZ a (n : Int) fr to wd ti fl1 qk1 rc1 ll1 wy1 wt1 wa1 ++ wM cI b (n : Int) fr to wd ti ed1 st1 en1 rm1 fm1 cm1 qu1) := hD
        obtain rfl : y1 = y2 := mq_Qst_u ha1 ha2
        refine lv_icmp_eq (tgt := 257) hx hb dL_law_193 (by decide) (fun _ => ?_) (fun h => absurd rfl h)
        refine z_iinc (y := ((i + 5 : Nat) : Int)) (lv' := [(3, .int (zI ((i + 5 : Nat) : Int))), (0, .ref bb), (1, .ref (a 0)), (2, .ref (b 0))]) hx hb dL_law_257 hl (k := 3) rfl (by omega) (by decide) rfl (fun ls hl => ?_)
        refine lv_goto (tgt := 18) hx hb dL_law_260 (by decide) ?_
        exact ih (i + 5) n fr to wd ti fl1 qk1 rc1 ll1 wy1 wt1 wa1 ed1 st1 en1 rm1 fm1 cm1 qu1 (by omega) (by omega) hN H locs hP hD hS ls (lv_sub hl [1, 2, 3, 0] rfl)
      · refine lv_tableIn (tgt := 198) hx hb dL_law_32 (by decide) (by decide) rfl (by decide) ?_
        refine lv_aload_n hx hb dL_law_198 rfl (lv_at hl 1 rfl) ?_
        refine z_callL (wc := wX cI cZ a (n : Int) fr to wd ti fl qk rc ll wy wt wa) (wr := wM cI b (n : Int) fr to wd ti ed st en rm fm cm qu) (As := []) (rest := []) (n := 0) (C := RX0) (T := TX0) (N := 12) (ci := 0) hx hb hml hown hts hK hP hD hS hA (m_first l D cI cZ a _   hNn) (lw_V q101 q102 q103 q12 q104) rfl rfl (by decide +kernel) ⟨Nat.le_of_ble_eq_true rfl, Nat.le_of_ble_eq_true rfl⟩ rfl rfl rfl hl.1 rfl (Nat.le_of_ble_eq_true rfl) dL_law_199 ⟨Nat.le_of_ble_eq_true rfl, Nat.le_of_ble_eq_true rfl⟩ (fun r32 u H locs hw hP hD hS => ?_)
        obtain ⟨fl1, qk1, rc1, ll1, wy1, wt1, wa1⟩ := u
        obtain ⟨y1, rfl, ha1⟩ := hw
        have hP : va_P D vwCl (wM cI b (n : Int) fr to wd ti ed st en rm fm cm qu ++ wX cI cZ a (n : Int) fr to wd ti fl1 qk1 rc1 ll1 wy1 wt1 wa1) H := hP
        have hD : va_D (lw_A s) (wM cI b (n : Int) fr to wd ti ed st en rm fm cm qu ++ wX cI cZ a (n : Int) fr to wd ti fl1 qk1 rc1 ll1 wy1 wt1 wa1) := hD
        refine lv_aload_n hx hb dL_law_202 rfl (lv_at hl 2 rfl) ?_
        refine z_callL (wc := wM cI b (n : Int) fr to wd ti ed st en rm fm cm qu) (wr := wX cI cZ a (n : Int) fr to wd ti fl1 qk1 rc1 ll1 wy1 wt1 wa1) (As := []) (rest := [.int (zI y1)]) (n := 0) (C := RX1) (T := TX1) (N := 12) (ci := 1) hx hb hml hown hts hK hP hD hS hA (m_first1 l D cI cZ b _   hNn) (lw_V q199 q200 q201 q13 q202) rfl rfl (by decide +kernel) ⟨Nat.le_of_ble_eq_true rfl, Nat.le_of_ble_eq_true rfl⟩ rfl rfl rfl hl.1 rfl (Nat.le_of_ble_eq_true rfl) dL_law_203 ⟨Nat.le_of_ble_eq_true rfl, Nat.le_of_ble_eq_true rfl⟩ (fun r32 u H locs hw hP hD hS => ?_)
        obtain ⟨ed1, st1, en1, rm1, fm1, cm1, qu1⟩ := u
        obtain ⟨y2, rfl, ha2⟩ := hw
        have hP : va_P D vwCl (wX cI cZ a (n : Int) fr to wd ti fl1 qk1 rc1 ll1 wy1 wt1 wa1 ++ wM cI b (n : Int) fr to wd ti ed1 st1 en1 rm1 fm1 cm1 qu1) H := hP
        have hD : va_D (lw_A s) (wX cI cZ a (n : Int) fr to wd ti fl1 qk1 rc1 ll1 wy1 wt1 wa1 ++ wM cI b (n : Int) fr to wd ti ed1 st1 en1 rm1 fm1 cm1 qu1) := hD
        obtain rfl : y1 = y2 := mq_Qst_u ha1 ha2
        refine lv_icmp_eq (tgt := 257) hx hb dL_law_206 (by decide) (fun _ => ?_) (fun h => absurd rfl h)
        refine z_iinc (y := ((i + 5 : Nat) : Int)) (lv' := [(3, .int (zI ((i + 5 : Nat) : Int))), (0, .ref bb), (1, .ref (a 0)), (2, .ref (b 0))]) hx hb dL_law_257 hl (k := 3) rfl (by omega) (by decide) rfl (fun ls hl => ?_)
        refine lv_goto (tgt := 18) hx hb dL_law_260 (by decide) ?_
        exact ih (i + 5) n fr to wd ti fl1 qk1 rc1 ll1 wy1 wt1 wa1 ed1 st1 en1 rm1 fm1 cm1 qu1 (by omega) (by omega) hN H locs hP hD hS ls (lv_sub hl [1, 2, 3, 0] rfl)
      · refine lv_tableIn (tgt := 211) hx hb dL_law_32 (by decide) (by decide) rfl (by decide) ?_
        refine lv_aload_n hx hb dL_law_211 rfl (lv_at hl 1 rfl) ?_
        refine lv_aload_n hx hb dL_law_212 rfl (lv_at hl 0 rfl) ?_
        refine lv_iload_n hx hb dL_law_213 rfl (lv_at hl 3 rfl) ?_
        refine z_iconst hx hb dL_law_214 ?_
        refine z_iadd hx hb dL_law_215 ?_
        refine z_sld hx hb hX hbl hbA hS hL (by omega) (k := i + 1) (by omega) dL_law_216 ?_
        refine lv_aload_n hx hb dL_law_217 rfl (lv_at hl 0 rfl) ?_
        refine lv_iload_n hx hb dL_law_218 rfl (lv_at hl 3 rfl) ?_
        refine z_iconst hx hb dL_law_219 ?_
        refine z_iadd hx hb dL_law_220 ?_
        refine z_sld hx hb hX hbl hbA hS hL (by omega) (k := i + 2) (by omega) dL_law_221 ?_
        refine z_callL (wc := wX cI cZ a (n : Int) fr to wd ti fl qk rc ll wy wt wa) (wr := wM cI b (n : Int) fr to wd ti ed st en rm fm cm qu) (As := [.int (zI (xs (i + 1)).toInt), .int (zI (xs (i + 2)).toInt)]) (rest := []) (n := 2) (C := RX0) (T := TX0) (N := 12) (ci := 0) hx hb hml hown hts hK hP hD hS hA (m_gain l D cI cZ a _ (xs (i + 1)).toInt (xs (i + 2)).toInt (zI_rg (xs (i + 1))) (zI_rg (xs (i + 2))) hNn hN2) (lw_V q105 q106 q107 q12 q108) rfl rfl (by decide +kernel) ⟨Nat.le_of_ble_eq_true rfl, Nat.le_of_ble_eq_true rfl⟩ rfl rfl rfl hl.1 rfl (Nat.le_of_ble_eq_true rfl) dL_law_222 ⟨Nat.le_of_ble_eq_true rfl, Nat.le_of_ble_eq_true rfl⟩ (fun r32 u H locs hw hP hD hS => ?_)
        obtain ⟨fl1, qk1, rc1, ll1, wy1, wt1, wa1⟩ := u
        obtain ⟨y1, rfl, ha1⟩ := hw
        have hP : va_P D vwCl (wM cI b (n : Int) fr to wd ti ed st en rm fm cm qu ++ wX cI cZ a (n : Int) fr to wd ti fl1 qk1 rc1 ll1 wy1 wt1 wa1) H := hP
        have hD : va_D (lw_A s) (wM cI b (n : Int) fr to wd ti ed st en rm fm cm qu ++ wX cI cZ a (n : Int) fr to wd ti fl1 qk1 rc1 ll1 wy1 wt1 wa1) := hD
        refine lv_aload_n hx hb dL_law_225 rfl (lv_at hl 2 rfl) ?_
        refine lv_aload_n hx hb dL_law_226 rfl (lv_at hl 0 rfl) ?_
        refine lv_iload_n hx hb dL_law_227 rfl (lv_at hl 3 rfl) ?_
        refine z_iconst hx hb dL_law_228 ?_
        refine z_iadd hx hb dL_law_229 ?_
        refine z_sld hx hb hX hbl hbA hS hL (by omega) (k := i + 1) (by omega) dL_law_230 ?_
        refine lv_aload_n hx hb dL_law_231 rfl (lv_at hl 0 rfl) ?_
        refine lv_iload_n hx hb dL_law_232 rfl (lv_at hl 3 rfl) ?_
        refine z_iconst hx hb dL_law_233 ?_
        refine z_iadd hx hb dL_law_234 ?_
        refine z_sld hx hb hX hbl hbA hS hL (by omega) (k := i + 2) (by omega) dL_law_235 ?_
        refine z_callL (wc := wM cI b (n : Int) fr to wd ti ed st en rm fm cm qu) (wr := wX cI cZ a (n : Int) fr to wd ti fl1 qk1 rc1 ll1 wy1 wt1 wa1) (As := [.int (zI (xs (i + 1)).toInt), .int (zI (xs (i + 2)).toInt)]) (rest := [.int (zI y1)]) (n := 2) (C := RX1) (T := TX1) (N := 12) (ci := 1) hx hb hml hown hts hK hP hD hS hA (m_gain1 l D cI cZ b _ (xs (i + 1)).toInt (xs (i + 2)).toInt (zI_rg (xs (i + 1))) (zI_rg (xs (i + 2))) hNn hN2) (lw_V q204 q205 q206 q13 q207) rfl rfl (by decide +kernel) ⟨Nat.le_of_ble_eq_true rfl, Nat.le_of_ble_eq_true rfl⟩ rfl rfl rfl hl.1 rfl (Nat.le_of_ble_eq_true rfl) dL_law_236 ⟨Nat.le_of_ble_eq_true rfl, Nat.le_of_ble_eq_true rfl⟩ (fun r32 u H locs hw hP hD hS => ?_)
        obtain ⟨ed1, st1, en1, rm1, fm1, cm1, qu1⟩ := u
        obtain ⟨y2, rfl, ha2⟩ := hw
        have hP : va_P D vwCl (wX cI cZ a (n : Int) fr to wd ti fl1 qk1 rc1 ll1 wy1 wt1 wa1 ++ wM cI b (n : Int) fr to wd ti ed1 st1 en1 rm1 fm1 cm1 qu1) H := hP
        have hD : va_D (lw_A s) (wX cI cZ a (n : Int) fr to wd ti fl1 qk1 rc1 ll1 wy1 wt1 wa1 ++ wM cI b (n : Int) fr to wd ti ed1 st1 en1 rm1 fm1 cm1 qu1) := hD
        obtain rfl : y1 = y2 := mq_Gn_u ha1 ha2
        refine lv_icmp_eq (tgt := 257) hx hb dL_law_239 (by decide) (fun _ => ?_) (fun h => absurd rfl h)
        refine z_iinc (y := ((i + 5 : Nat) : Int)) (lv' := [(3, .int (zI ((i + 5 : Nat) : Int))), (0, .ref bb), (1, .ref (a 0)), (2, .ref (b 0))]) hx hb dL_law_257 hl (k := 3) rfl (by omega) (by decide) rfl (fun ls hl => ?_)
        refine lv_goto (tgt := 18) hx hb dL_law_260 (by decide) ?_
        exact ih (i + 5) n fr to wd ti fl1 qk1 rc1 ll1 wy1 wt1 wa1 ed1 st1 en1 rm1 fm1 cm1 qu1 (by omega) (by omega) hN H locs hP hD hS ls (lv_sub hl [1, 2, 3, 0] rfl)
      · refine lv_tableIn (tgt := 244) hx hb dL_law_32 (by decide) (by decide) rfl (by decide) ?_
        refine lv_aload_n hx hb dL_law_244 rfl (lv_at hl 1 rfl) ?_
        refine z_callL (wc := wX cI cZ a (n : Int) fr to wd ti fl qk rc ll wy wt wa) (wr := wM cI b (n : Int) fr to wd ti ed st en rm fm cm qu) (As := []) (rest := []) (n := 0) (C := RX0) (T := TX0) (N := 12) (ci := 0) hx hb hml hown hts hK hP hD hS hA (m_steady l D cI cZ a _   hNn) (lw_V q109 q110 q111 q12 q112) rfl rfl (by decide +kernel) ⟨Nat.le_of_ble_eq_true rfl, Nat.le_of_ble_eq_true rfl⟩ rfl rfl rfl hl.1 rfl (Nat.le_of_ble_eq_true rfl) dL_law_245 ⟨Nat.le_of_ble_eq_true rfl, Nat.le_of_ble_eq_true rfl⟩ (fun r32 u H locs hw hP hD hS => ?_)
        obtain ⟨fl1, qk1, rc1, ll1, wy1, wt1, wa1⟩ := u
        obtain ⟨y1, rfl, ha1⟩ := hw
        have hP : va_P D vwCl (wM cI b (n : Int) fr to wd ti ed st en rm fm cm qu ++ wX cI cZ a (n : Int) fr to wd ti fl1 qk1 rc1 ll1 wy1 wt1 wa1) H := hP
        have hD : va_D (lw_A s) (wM cI b (n : Int) fr to wd ti ed st en rm fm cm qu ++ wX cI cZ a (n : Int) fr to wd ti fl1 qk1 rc1 ll1 wy1 wt1 wa1) := hD
        refine lv_aload_n hx hb dL_law_248 rfl (lv_at hl 2 rfl) ?_
        refine z_callL (wc := wM cI b (n : Int) fr to wd ti ed st en rm fm cm qu) (wr := wX cI cZ a (n : Int) fr to wd ti fl1 qk1 rc1 ll1 wy1 wt1 wa1) (As := []) (rest := [.int (zI y1)]) (n := 0) (C := RX1) (T := TX1) (N := 12) (ci := 1) hx hb hml hown hts hK hP hD hS hA (m_steady1 l D cI cZ b _   hNn) (lw_V q208 q209 q210 q13 q211) rfl rfl (by decide +kernel) ⟨Nat.le_of_ble_eq_true rfl, Nat.le_of_ble_eq_true rfl⟩ rfl rfl rfl hl.1 rfl (Nat.le_of_ble_eq_true rfl) dL_law_249 ⟨Nat.le_of_ble_eq_true rfl, Nat.le_of_ble_eq_true rfl⟩ (fun r32 u H locs hw hP hD hS => ?_)
        obtain ⟨ed1, st1, en1, rm1, fm1, cm1, qu1⟩ := u
        obtain ⟨y2, rfl, ha2⟩ := hw
        have hP : va_P D vwCl (wX cI cZ a (n : Int) fr to wd ti fl1 qk1 rc1 ll1 wy1 wt1 wa1 ++ wM cI b (n : Int) fr to wd ti ed1 st1 en1 rm1 fm1 cm1 qu1) H := hP
        have hD : va_D (lw_A s) (wX cI cZ a (n : Int) fr to wd ti fl1 qk1 rc1 ll1 wy1 wt1 wa1 ++ wM cI b (n : Int) fr to wd ti ed1 st1 en1 rm1 fm1 cm1 qu1) := hD
        obtain rfl : y1 = y2 := mq_MC_uniq ha1 ha2
        refine lv_icmp_eq (tgt := 257) hx hb dL_law_252 (by decide) (fun _ => ?_) (fun h => absurd rfl h)
        refine z_iinc (y := ((i + 5 : Nat) : Int)) (lv' := [(3, .int (zI ((i + 5 : Nat) : Int))), (0, .ref bb), (1, .ref (a 0)), (2, .ref (b 0))]) hx hb dL_law_257 hl (k := 3) rfl (by omega) (by decide) rfl (fun ls hl => ?_)
        refine lv_goto (tgt := 18) hx hb dL_law_260 (by decide) ?_
        exact ih (i + 5) n fr to wd ti fl1 qk1 rc1 ll1 wy1 wt1 wa1 ed1 st1 en1 rm1 fm1 cm1 qu1 (by omega) (by omega) hN H locs hP hD hS ls (lv_sub hl [1, 2, 3, 0] rfl)
      · refine lv_tableOut (tgt := 257) hx hb dL_law_32 (Or.inr (by decide)) (by decide) ?_
        refine z_iinc (y := ((i + 5 : Nat) : Int)) (lv' := [(3, .int (zI ((i + 5 : Nat) : Int))), (0, .ref bb), (1, .ref (a 0)), (2, .ref (b 0))]) hx hb dL_law_257 hl (k := 3) rfl (by omega) (by decide) rfl (fun ls hl => ?_)
        refine lv_goto (tgt := 18) hx hb dL_law_260 (by decide) ?_
        exact ih (i + 5) n fr to wd ti fl qk rc ll wy wt wa ed st en rm fm cm qu (by omega) (by omega) hN H locs hP hD hS ls (lv_sub hl [1, 2, 3, 0] rfl)
end
section
set_option maxHeartbeats 8000000 in
set_option maxRecDepth 100000 in
/-- from the entry, for every script of at most 320 ints, the law comes to its end with true -/
theorem whole_start {p : Program} {e : Env} {s : State} {m : MethodId} {below : List Frame} {meth : Method} {c : Code} (l : Launch) {b L : Nat} {xs : Nat → Int32} (hL : L ≤ 320) (C0 : lw_At p s m meth c b L xs) : W p l e room_1 s m #[Value.ref b] below meth c s.heap [] 0 0 (lw_Z below #[Value.ref b] s) (entryFrame m ([Value.ref b] : List Value).toArray 4) := by
  obtain ⟨hx, hb, hr, hml, hown, hts0, hX, hbl, hlocks, -⟩ := C0
  have hts : ∀ w ∈ lw_all, w.before #[Value.ref b] s = true := fun w h => hts0 w (lw_all_tbl h)
  obtain ⟨D, hK⟩ := lw_classes hts0
  have hA : ∀ q, s.heap.size ≤ q → lw_A s q := fun q h => h
  have hS : va_S (lw_A s) s.heap s.heap [] := va_S.rf
  have hP : va_P D vwCl [] s.heap := fun k q h => absurd h (by simp)
  have hD : va_D (lw_A s) [] := ⟨fun i j p q h => absurd h (by simp), fun k q h => absurd h (by simp)⟩
  have hl := lv_entry ([Value.ref b]) (n := 4) (Nat.le_of_ble_eq_true rfl)
  rw [lg_entry_eq]
  generalize (lg_sl ([Value.ref b]) ++ List.replicate (4 - (lg_sl ([Value.ref b])).length) Slot.unset).toArray = ls at hl ⊢
  have hl : lv_has ls 4 [(0, .ref b)] := hl
  refine va_new (ci := 0) (fs := [.int (zI 0), .null, .null, .null, .null, .null, .null, .null, .null, .int (zI 0), .null, .null]) (C := RX0) (T := TX0) (N := 12) hx hb hts in_X0 tyX0 tyX0_ok hown (hts _ q14) (hts _ q15) (hts _ q12) hK hP hD hS hA rfl (fun j hj => by rcases (show j = 0 ∨ j = 1 ∨ j = 2 ∨ j = 3 ∨ j = 4 ∨ j = 5 ∨ j = 6 ∨ j = 7 ∨ j = 8 ∨ j = 9 ∨ j = 10 ∨ j = 11 by omega) with rfl | rfl | rfl | rfl | rfl | rfl | rfl | rfl | rfl | rfl | rfl | rfl <;> rfl) (Nat.le_of_ble_eq_true rfl) (Nat.le_of_ble_eq_true rfl) dL_law_0 (fun h0 H hP hD hS => ?_)
  have hP : va_P D vwCl [(h0, .inr (0, [.int (zI 0), .null, .null, .null, .null, .null, .null, .null, .null, .int (zI 0), .null, .null]))] H := hP
  have hD : va_D (lw_A s) [(h0, .inr (0, [.int (zI 0), .null, .null, .null, .null, .null, .null, .null, .null, .int (zI 0), .null, .null]))] := hD
  refine lv_dup hx hb dL_law_3 rfl ?_
  have hFc := z_sub hD hS hA
  refine va_callv (va_runI (As := []) (rest := [.ref h0]) ⟨hx, hb, hml, hown, hts⟩ (m_init l D h0 H.size) (cwI 0 hts (lw_meth q18) rfl rfl rfl (hts _ q12) (hts _ q16) (hts _ q17) rfl (by decide +kernel) ⟨Nat.le_of_ble_eq_true rfl, Nat.le_of_ble_eq_true rfl⟩) ⟨z_blind, fun U hU hW => ⟨rfl, by rw [hU], by rw [hU]; exact hP, va_K.moved hW.alike hK, hD.weaken (fun _ _ _ _ => trivial)⟩⟩ rfl rfl hl.1 rfl (lv_room (Nat.le_of_ble_eq_true rfl)) dL_law_4 ⟨Nat.le_of_ble_eq_true rfl, Nat.le_of_ble_eq_true rfl⟩) hS (fun q _ h => hFc q h) hFc (fun u t H1 locs ht hvm hw hB hz1 hk1 hS => ?_)
  obtain ⟨a, cI, cZ⟩ := u
  have hw : a 0 = h0 := hw
  subst hw
  obtain ⟨hP1, hK1, hD1⟩ := hB
  rw [ht] at hP1
  have hK : va_K D vwCl (zT cI cZ) s := va_K.moved hvm.symm hK1
  have hP : va_P D vwCl (wX0 cI cZ a) H1 := hP1
  have hD : va_D (lw_A s) (wX0 cI cZ a) := hD1.weaken (fun _ q _ h => hFc q.1 h)
  refine W.widen (k := 11) (n := 147) (by decide) (by decide) ?_
  refine lv_astore_n (lv' := [(1, .ref (a 0)), (0, .ref b)]) hx hb dL_law_7 rfl hl (by decide) rfl (fun ls hl => ?_)
  refine va_new (ci := 1) (fs := [.int (zI 0), .null, .null, .null, .null, .int (zI 0), .null, .null, .null, .null, .null, .null]) (C := RX1) (T := TX1) (N := 12) hx hb hts in_X1 tyX1 tyX1_ok hown (hts _ q113) (hts _ q114) (hts _ q13) hK hP hD hS hA rfl (fun j hj => by rcases (show j = 0 ∨ j = 1 ∨ j = 2 ∨ j = 3 ∨ j = 4 ∨ j = 5 ∨ j = 6 ∨ j = 7 ∨ j = 8 ∨ j = 9 ∨ j = 10 ∨ j = 11 by omega) with rfl | rfl | rfl | rfl | rfl | rfl | rfl | rfl | rfl | rfl | rfl | rfl <;> rfl) (Nat.le_of_ble_eq_true rfl) (Nat.le_of_ble_eq_true rfl) dL_law_8 (fun h1 H2 hP hD hS => ?_)
  have hP : va_P D vwCl (wX0 cI cZ a ++ [(h1, .inr (1, [.int (zI 0), .null, .null, .null, .null, .int (zI 0), .null, .null, .null, .null, .null, .null]))]) H2 := hP
  have hD : va_D (lw_A s) (wX0 cI cZ a ++ [(h1, .inr (1, [.int (zI 0), .null, .null, .null, .null, .int (zI 0), .null, .null, .null, .null, .null, .null]))]) := hD
  refine lv_dup hx hb dL_law_11 rfl ?_
  have hPc := hP.sub (ws' := [(h1, .inr (1, [.int (zI 0), .null, .null, .null, .null, .int (zI 0), .null, .null, .null, .null, .null, .null]))]) [11] rfl
  have hDc := hD.sub (ws' := [(h1, .inr (1, [.int (zI 0), .null, .null, .null, .null, .int (zI 0), .null, .null, .null, .null, .null, .null]))]) [11] (by decide) rfl
  have hKc := hK.sub (tys' := []) [] rfl
  have hFc := va_free (wc := [(h1, .inr (1, [.int (zI 0), .null, .null, .null, .null, .int (zI 0), .null, .null, .null, .null, .null, .null]))]) hD hS hA [11] rfl
  refine va_callv (va_runI (As := []) (rest := [.ref h1]) ⟨hx, hb, hml, hown, hts⟩ (m_init1 l D h1 H2.size) (cwI 0 hts (lw_meth q117) rfl rfl rfl (hts _ q13) (hts _ q115) (hts _ q116) rfl (by decide +kernel) ⟨Nat.le_of_ble_eq_true rfl, Nat.le_of_ble_eq_true rfl⟩) ⟨z_blind, fun U hU hW => ⟨rfl, by rw [hU], by rw [hU]; exact hPc, va_K.moved hW.alike hKc, hDc.weaken (fun _ _ _ _ => trivial)⟩⟩ rfl rfl hl.1 rfl (lv_room (Nat.le_of_ble_eq_true rfl)) dL_law_12 ⟨Nat.le_of_ble_eq_true rfl, Nat.le_of_ble_eq_true rfl⟩) hS (fun q _ h => hFc q h) hFc (fun u t H3 locs3 ht hvm hw hB hz1 hk1 hS => ?_)
  obtain ⟨b2, cJ⟩ := u
  have hw : b2 0 = h1 := hw
  subst hw
  obtain ⟨hP1, hK1, hD1⟩ := hB
  rw [ht] at hP1
  have hK1 : va_K D vwCl [(cJ, .int)] s := va_K.moved hvm.symm hK1
  obtain rfl : cI = cJ := z_same (hK.app hK1) 0 2 rfl rfl
  obtain ⟨hP, hD⟩ := va_join (wr := wX0 cI cZ a) (w1 := wM0 cI b2) hP hD [11] [0, 1, 2, 3, 4, 5, 6, 7, 8, 9, 10] rfl rfl (by decide) (by decide) hk1 hFc hP1 hD1
  refine W.widen (k := 22) (n := 1001) (by decide) (by decide) ?_
  refine lv_astore_n (lv' := [(2, .ref (b2 0)), (1, .ref (a 0)), (0, .ref b)]) hx hb dL_law_15 rfl hl (by decide) rfl (fun ls hl => ?_)
  refine z_iconst hx hb dL_law_16 ?_
  refine lv_istore_n (lv' := [(3, .int (zI 0)), (2, .ref (b2 0)), (1, .ref (a 0)), (0, .ref b)]) hx hb dL_law_17 rfl hl (by decide) rfl (fun ls hl => ?_)
  exact law_loop l hL hx hb hr hml hown hts hX hbl hlocks D cI cZ a b2 hK (L + 1) 0 0 z0 z0 z0 z0 z0 z0 z0 z0 0 z0 z0 0 z0 z0 z0 z0 z0 z0 (by omega) (by omega) mq_NetL_0 H3 locs3 hP hD hS ls (lv_sub hl [3, 2, 1, 0] rfl)
set_option maxHeartbeats 4000000 in
theorem lw_walk (l : Launch) (b : Addr) (xs : List Int32) : MetFree l x (headSpec (Jvm.Cond.code x code maxLocals ret :: tables_1) room_1) (lw_P b xs) (fun _ _ _ _ _ => True) lw_Q := by
  refine MetFree.of_bodyS (code := code) (maxLocals := maxLocals) (ret := ret) (by decide) ?_ ?_
  · intro args s m h hn
    obtain ⟨meth, c, h1, h2, h3, h4, h5, h6, -, -⟩ := Cond.code_spec hn (atoms_spec (ws := Jvm.Cond.code x code maxLocals ret :: tables_1) h _ List.mem_cons_self)
    exact ⟨meth, c, h1, h2, h3, h4, h5, h6⟩
  · intro p e s m args below meth c s₁ B hml0 hP _
    obtain ⟨rfl, hx, hbd, hgv⟩ := hP
    obtain ⟨scr, harrAt, hlist, hof, hsmall⟩ := hx
    obtain ⟨hcb, hkn, -, -⟩ := State.arrayAt?_spec harrAt
    have hown : s.vm.findClass R_law = some m.cls := findClass_of_methodNamed B.named
    have hts0 : ∀ c ∈ (Jvm.Cond.code x code maxLocals ret :: tables_1), c.before #[Value.ref b] s = true := atoms_spec (ws := Jvm.Cond.code x code maxLocals ret :: tables_1) B.pre
    have hts : ∀ w ∈ lw_tbl, w.before #[Value.ref b] s = true := k2_hts_sels lw_privs (fun w hw => hts0 w (List.mem_cons_of_mem _ hw)) lw_privs_ok
    have hml : c.maxLocals = 4 := B.maxLocals_eq (hts0 _ List.mem_cons_self)
    have X₀ : Stand p l e room_1 s m #[Value.ref b] below meth c s₁ [] 0 0 := Stand.of_body B
    have hh0 : s₁.heap = s.heap := by rw [B.state]; rfl
    have hsz : scr.slots.size = xs.length := by rw [← Array.length_toList, hlist, List.length_map]
    have hval : ∀ j : Nat, j < xs.length → scr.slots[j]? = some (.int (xs.getD j 0)) := fun j hj => by
      rw [← Array.getElem?_toList, hlist]
      simp [hj]
    have hbl : b < s.heap.size := (Array.getElem?_eq_some_iff.mp hcb).1
    have hX : va_X b xs.length (fun j => xs.getD j 0) s s.heap := ⟨scr, hcb, hof, hkn, hsz, hval⟩
    have K : W p l e room_1 s m #[Value.ref b] below meth c s₁.heap [] 0 0 (lw_Z below #[Value.ref b] s) (entryFrame m ([Value.ref b] : List Value).toArray 4) := by
      rw [hh0]
      exact whole_start l hbd ⟨B.exec, B.bytes, B.returns, hml, hown, hts, hX, hbl, B.notSynchronized, hgv⟩
    obtain ⟨t, a1, o, b1, b2, b3⟩ := K s₁ rfl X₀
    exact ⟨t, o, a1, b1, b2, b3⟩
theorem lw_pre_spec {args : Array Value} {s : State} (h : (Jvm.Cond.and given_1 narrow_1).before args s = true) (hr : rest_1_c.before args s = true) : ∃ (b : Addr) (xs : List Int32), lw_P b xs args s := by
  have hs := flat_of_before _ h
  have hq := flat_of_before _ hr
  have hc : (Cond.count 1).before args s = true := hs _ (by decide +kernel)
  have harr : (Cond.arrayOf (.arg 0) .int).before args s = true := hs _ (by decide +kernel)
  have hle : (Cond.le (.length (.arg 0)) (.int 320)).before args s = true := hs _ (by decide +kernel)
  have hlen : (Cond.isInt (.length (.arg 0))).before args s = true := hq _ (by decide +kernel)
  have hall : (Cond.all (.arg 0) (.isInt (.elem (.arg 0) (.index 0)))).before args s = true := hq _ (by decide +kernel)
  obtain ⟨b, xs, hb, hx⟩ := State.ints_of_pre rfl harr hlen hall
  have hsm : xs.length < 2 ^ 31 := hx.choose_spec.2.2.2
  have hev : (Term.length (.arg 0)).eval args s none [] s = some (.int xs.length.toInt32) := hx.length_eval hb
  have hv := Cond.le_ints hev (show (Term.int 320).eval args s none [] s = some (.int 320) from rfl)
  have hd : xs.length.toInt32 ≤ 320 := by
    simpa [Cond.before, Cond.holds, hv] using hle
  have hN : xs.length ≤ 320 := (Int32.ofNat_le_ofNat hsm (by decide)).mp (show Int32.ofNat xs.length ≤ Int32.ofNat 320 from hd)
  exact ⟨b, xs, Cond.one_arg hc (show args[0]? = some (.ref b) from hb), hx, hN, h⟩
theorem lw_comes (l : Launch) : Comes l x (Jvm.Cond.code x code maxLocals ret :: tables_1) room_1 (fun tb e args s => Calls_1 tb e args s ∧ rest_1 tb e args s ∧ Pre_1 tb e args s)
    (fun _ _ args s o t => lw_Q args s o t) := by
  intro p e ha hc hk s m args below hf hfit hheap happ hpre
  obtain ⟨b, xs, hP⟩ := lw_pre_spec hpre.2.2 hpre.2.1
  obtain ⟨k, o, h1, h2, h3, hQ⟩ := lw_walk l b xs p e ha hc hk s m args below hf ((Spec.applies_iff_loose hf).mp happ).1 hP trivial
  exact ⟨k, o, h1, h2, h3, hQ⟩
theorem lw_frame {s t : State} {o : Outcome} {args : Array Value} (h : Framed s o t [] 600000 7290000) :
    Framed s o t (fieldLocs frame_1_writes args s ++ arrayLocs frame_1_arrays args s ++ staticLocs frame_1_statics s) 600000 7290000 := h
theorem lw_limb (L : Cond) (hL : ∀ (args : Array Value) (s t : State), L.after args s (.returned (some (.int 1))) t = true) :
    ArmFor flags0 classFile x code maxLocals ret World_1 tables_1 room_1 Calls_1 rest_1 Pre_1
      (fun tb e a s o t => postC L tb e a s o t ∧ Framed s o t (fieldLocs frame_1_writes a s ++ arrayLocs frame_1_arrays a s ++ staticLocs frame_1_statics s) 600000 7290000) := by
  intro l _ _ _ p e ha hc hk s m args below hf hfit hheap happ hpre
  obtain ⟨k, o, h1, h2, h3, rfl, hF⟩ := lw_comes l p e ha hc hk s m args below hf hfit hheap happ hpre
  exact ⟨k, _, h1, h2, h3, hL args s _, lw_frame hF⟩
theorem i_vc : Claimed_1_1 ∧ Claimed_1_2 := ⟨lw_limb limb_1_1 (fun args s t => by simp [limb_1_1, Cond.after, Cond.holds, Cond.value]), lw_limb limb_1_2 (fun args s t => Cond.after_iff.mpr (by
  first | (rw [show limb_1_2 = Cond.eq .result (.int 1) from rfl, Cond.eq_ints (x := 1) (y := 1) rfl rfl]; simp; done) | (simp [limb_1_2, Cond.value, Term.eval]; done)))⟩
end
