section
/-- the sum of f over 0 .. n - 1 -/
def bf_s (f : Nat → Nat) : Nat → Nat
  | 0 => 0
  | n + 1 => bf_s f n + f n
theorem bf_s_c {f g : Nat → Nat} {n : Nat} (h : ∀ k, k < n → f k = g k) : bf_s f n = bf_s g n := by
  induction n with
  | zero => rfl
  | succ n ih =>
    show bf_s f n + f n = bf_s g n + g n
    rw [ih (fun k hk => h k (by omega)), h n (by omega)]
theorem bf_s_0 {f : Nat → Nat} {n : Nat} (h : ∀ k, k < n → f k = 0) : bf_s f n = 0 := by
  induction n with
  | zero => rfl
  | succ n ih =>
    show bf_s f n + f n = 0
    rw [ih (fun k hk => h k (by omega)), h n (by omega)]
theorem bf_s_le {f : Nat → Nat} {n b : Nat} (h : ∀ k, k < n → f k ≤ b) : bf_s f n ≤ n * b := by
  induction n with
  | zero => exact Nat.zero_le _
  | succ n ih =>
    show bf_s f n + f n ≤ (n + 1) * b
    have h1 := ih (fun k hk => h k (by omega))
    have h2 := h n (by omega)
    rw [Nat.succ_mul]
    omega
theorem bf_s_mono {f g : Nat → Nat} {n : Nat} (h : ∀ k, k < n → f k ≤ g k) : bf_s f n ≤ bf_s g n := by
  induction n with
  | zero => exact Nat.le_refl _
  | succ n ih =>
    show bf_s f n + f n ≤ bf_s g n + g n
    have h1 := ih (fun k hk => h k (by omega))
    have h2 := h n (by omega)
    omega
theorem bf_s_add (f : Nat → Nat) (m n : Nat) : bf_s f (m + n) = bf_s f m + bf_s (fun k => f (m + k)) n := by
  induction n with
  | zero => rfl
  | succ n ih =>
    show bf_s f (m + n) + f (m + n) = bf_s f m + (bf_s (fun k => f (m + k)) n + f (m + n))
    rw [ih]
    omega
theorem bf_s_plus (f g : Nat → Nat) (n : Nat) : bf_s (fun k => f k + g k) n = bf_s f n + bf_s g n := by
  induction n with
  | zero => rfl
  | succ n ih =>
    show bf_s (fun k => f k + g k) n + (f n + g n) = (bf_s f n + f n) + (bf_s g n + g n)
    rw [ih]
    omega
theorem bf_s_k (v n : Nat) : bf_s (fun _ => v) n = n * v := by
  induction n with
  | zero => exact (Nat.zero_mul v).symm
  | succ n ih =>
    show bf_s (fun _ => v) n + v = (n + 1) * v
    rw [ih, Nat.succ_mul]
/-- a picture of rows and columns as a row of 256 -/
def bf_R (F : Nat → Nat → Nat) : Nat → Nat := fun k => F (k / 16) (k % 16)
theorem bf_s_2d (F : Nat → Nat → Nat) (n : Nat) : bf_s (bf_R F) (n * 16) = bf_s (fun i => bf_s (F i) 16) n := by
  induction n with
  | zero => rfl
  | succ n ih =>
    rw [show (n + 1) * 16 = n * 16 + 16 by omega, bf_s_add, ih]
    show _ = bf_s (fun i => bf_s (F i) 16) n + bf_s (F n) 16
    congr 1
    refine bf_s_c (fun k hk => ?_)
    show F ((n * 16 + k) / 16) ((n * 16 + k) % 16) = F n k
    rw [show (n * 16 + k) / 16 = n by omega, show (n * 16 + k) % 16 = k by omega]
/-- a sum whose terms are zero but for three in a row -/
theorem bf_s_3 {f : Nat → Nat} {c n : Nat} (hn : c + 3 ≤ n) (h0 : ∀ j, j < c → f j = 0) (h1 : ∀ j, c + 3 ≤ j → f j = 0) : bf_s f n = f c + f (c + 1) + f (c + 2) := by
  obtain ⟨m, rfl⟩ : ∃ m, n = (c + 3) + m := ⟨n - (c + 3), by omega⟩
  rw [bf_s_add, bf_s_0 (n := m) (fun k _ => h1 _ (by omega))]
  show ((bf_s f c + f c) + f (c + 1)) + f (c + 2) + 0 = _
  rw [bf_s_0 (n := c) h0]
  omega
/-- an image that is zero but for a block of three by three -/
def bf_im (r c : Nat) (g : Nat → Nat → Nat) : Nat → Nat → Nat := fun s t => if r ≤ s ∧ s < r + 3 ∧ c ≤ t ∧ t < c + 3 then g (s - r) (t - c) else 0
theorem bf_im_in {r c : Nat} {g : Nat → Nat → Nat} (a b : Nat) (ha : a < 3) (hb : b < 3) : bf_im r c g (r + a) (c + b) = g a b := by
  unfold bf_im
  rw [if_pos (by omega), show r + a - r = a by omega, show c + b - c = b by omega]
theorem bf_im_out {r c : Nat} {g : Nat → Nat → Nat} {s t : Nat} (h : ¬ (r ≤ s ∧ s < r + 3 ∧ c ≤ t ∧ t < c + 3)) : bf_im r c g s t = 0 := if_neg h
theorem bf_im_s {r c : Nat} (hr : r ≤ 13) (hc : c ≤ 13) (g : Nat → Nat → Nat) : bf_s (bf_R (bf_im r c g)) 256 = (g 0 0 + g 0 1 + g 0 2) + (g 1 0 + g 1 1 + g 1 2) + (g 2 0 + g 2 1 + g 2 2) := by
  have row : ∀ a, a < 3 → bf_s (bf_im r c g (r + a)) 16 = g a 0 + g a 1 + g a 2 := by
    intro a ha
    rw [bf_s_3 (c := c) (by omega) (fun j hj => bf_im_out (by omega)) (fun j hj => bf_im_out (by omega))]
    have e0 : bf_im r c g (r + a) c = g a 0 := bf_im_in a 0 ha (by omega)
    rw [e0, bf_im_in a 1 ha (by omega), bf_im_in a 2 ha (by omega)]
  rw [show (256 : Nat) = 16 * 16 from rfl, bf_s_2d, bf_s_3 (c := r) (by omega) (fun j hj => bf_s_0 (fun k _ => bf_im_out (by omega))) (fun j hj => bf_s_0 (fun k _ => bf_im_out (by omega)))]
  have e0 : bf_s (bf_im r c g r) 16 = g 0 0 + g 0 1 + g 0 2 := row 0 (by omega)
  rw [e0, row 1 (by omega), row 2 (by omega)]
/-- a function of two block images, zero at zeros, is a block image -/
theorem bf_im_2 {r c : Nat} {g g' : Nat → Nat → Nat} (φ : Nat → Nat → Nat) (h0 : φ 0 0 = 0) (k : Nat) : φ (bf_R (bf_im r c g) k) (bf_R (bf_im r c g') k) = bf_R (bf_im r c (fun a b => φ (g a b) (g' a b))) k := by
  unfold bf_R bf_im
  by_cases h : r ≤ k / 16 ∧ k / 16 < r + 3 ∧ c ≤ k % 16 ∧ k % 16 < c + 3
  · rw [if_pos h, if_pos h, if_pos h]
  · rw [if_neg h, if_neg h, if_neg h, h0]
theorem bf_im_s2 {r c : Nat} (hr : r ≤ 13) (hc : c ≤ 13) (g g' : Nat → Nat → Nat) (φ : Nat → Nat → Nat) (h0 : φ 0 0 = 0) : bf_s (fun k => φ (bf_R (bf_im r c g) k) (bf_R (bf_im r c g') k)) 256 = (φ (g 0 0) (g' 0 0) + φ (g 0 1) (g' 0 1) + φ (g 0 2) (g' 0 2)) + (φ (g 1 0) (g' 1 0) + φ (g 1 1) (g' 1 1) + φ (g 1 2) (g' 1 2)) + (φ (g 2 0) (g' 2 0) + φ (g 2 1) (g' 2 1) + φ (g 2 2) (g' 2 2)) := by
  rw [bf_s_c (fun k _ => bf_im_2 φ h0 k), bf_im_s hr hc]
/-- one place of an image written -/
def bf_put (F : Nat → Nat → Nat) (i j v : Nat) : Nat → Nat → Nat := fun s t => if s = i ∧ t = j then v else F s t
theorem bf_im_put {r c : Nat} {g : Nat → Nat → Nat} {a b v : Nat} (ha : a < 3) (hb : b < 3) : bf_put (bf_im r c g) (r + a) (c + b) v = bf_im r c (fun x y => if x = a ∧ y = b then v else g x y) := by
  funext s t
  unfold bf_put bf_im
  by_cases h : r ≤ s ∧ s < r + 3 ∧ c ≤ t ∧ t < c + 3
  · rw [if_pos h, if_pos h]
    dsimp only
    by_cases e : s = r + a ∧ t = c + b
    · rw [if_pos e, if_pos (by omega)]
    · rw [if_neg e, if_neg (by omega)]
  · rw [if_neg h, if_neg h, if_neg (by omega)]
theorem bf_im_b {r c : Nat} {g : Nat → Nat → Nat} {B : Nat} (hB : 0 < B) (h : ∀ a b, g a b < B) (k : Nat) : bf_R (bf_im r c g) k < B := by
  unfold bf_R bf_im
  by_cases e : r ≤ k / 16 ∧ k / 16 < r + 3 ∧ c ≤ k % 16 ∧ k % 16 < c + 3
  · rw [if_pos e]
    exact h _ _
  · rw [if_neg e]
    exact hB
/-- a count goes on, or stays -/
theorem bf_s1 {f : Nat → Nat} {i : Nat} (h : f i = 1) : nI (bf_s f i) + 1 = nI (bf_s f (i + 1)) := by
  show _ = nI (bf_s f i + f i)
  rw [h, nI_1]
theorem bf_s0 {f : Nat → Nat} {i : Nat} (h : f i = 0) : nI (bf_s f i) = nI (bf_s f (i + 1)) := by
  show _ = nI (bf_s f i + f i)
  rw [h]
  rfl
end
section
/-- x is at least as good as y: g asks for the greatest -/
def bf_od (g : Bool) (x y : Nat) : Prop := (g = true → y ≤ x) ∧ (g = false → x ≤ y)
theorem bf_od_r (g : Bool) (x : Nat) : bf_od g x x := ⟨fun _ => Nat.le_refl x, fun _ => Nat.le_refl x⟩
theorem bf_od_t {g : Bool} {x y z : Nat} (h : bf_od g x y) (h' : bf_od g y z) : bf_od g x z := ⟨fun e => Nat.le_trans (h'.1 e) (h.1 e), fun e => Nat.le_trans (h.2 e) (h'.2 e)⟩
theorem bf_od_n {g : Bool} {x y : Nat} (h : ¬ bf_od g x y) : bf_od g y x := by
  cases g with
  | true =>
    refine ⟨fun _ => ?_, fun e => nomatch e⟩
    rcases Nat.le_total x y with z | z
    · exact z
    · exact absurd ⟨fun _ => z, fun e => nomatch e⟩ h
  | false =>
    refine ⟨(fun e => nomatch e), fun _ => ?_⟩
    rcases Nat.le_total x y with z | z
    · exact absurd ⟨(fun e => nomatch e), fun _ => z⟩ h
    · exact z
theorem bf_od_a {g : Bool} {x y : Nat} (h : bf_od g x y) (h' : bf_od g y x) : x = y := by
  cases g with
  | true => exact Nat.le_antisymm (h'.1 rfl) (h.1 rfl)
  | false => exact Nat.le_antisymm (h.2 rfl) (h'.2 rfl)
/-- the queue q[h .. t) over the places b .. m - 1 of the line L; e: what the candidates needn't cover -/
def bf_Q (g : Bool) (L : Nat → Nat) (b m h t : Nat) (q : Nat → Nat) (e : Nat → Prop) : Prop :=
  h ≤ t ∧ t ≤ m ∧ (∀ k, h ≤ k → k < t → b ≤ q k ∧ q k < m) ∧ (∀ k, h ≤ k → k + 1 < t → q k < q (k + 1) ∧ ¬ bf_od g (L (q (k + 1))) (L (q k)))
    ∧ (∀ x, b ≤ x → x < m → (∃ k, h ≤ k ∧ k < t ∧ x ≤ q k ∧ bf_od g (L (q k)) (L x)) ∨ e x)
theorem bf_Q_0 (g : Bool) (L : Nat → Nat) (b : Nat) (q : Nat → Nat) : bf_Q g L b 0 0 0 q (fun _ => False) :=
  ⟨Nat.le_refl 0, Nat.le_refl 0, fun k _ h => absurd h (by omega), fun k _ h => absurd h (by omega), fun x _ h => absurd h (by omega)⟩
theorem bf_Q_w {g : Bool} {L : Nat → Nat} {b m h t : Nat} {q : Nat → Nat} {e : Nat → Prop} (H : bf_Q g L b m h t q (fun _ => False)) : bf_Q g L b m h t q e :=
  ⟨H.1, H.2.1, H.2.2.1, H.2.2.2.1, fun x h1 h2 => (H.2.2.2.2 x h1 h2).elim Or.inl (fun z => z.elim)⟩
theorem bf_Q_pop {g : Bool} {L : Nat → Nat} {b m h t : Nat} {q : Nat → Nat} (H : bf_Q g L b m h (t + 1) q (fun x => bf_od g (L m) (L x))) (ht : h ≤ t) (ho : bf_od g (L m) (L (q t))) : bf_Q g L b m h t q (fun x => bf_od g (L m) (L x)) := by
  obtain ⟨h1, h2, h3, h4, h5⟩ := H
  refine ⟨ht, by omega, fun k a c => h3 k a (by omega), fun k a c => h4 k a (by omega), fun x a c => ?_⟩
  rcases h5 x a c with ⟨k, k1, k2, k3, k4⟩ | z
  · by_cases e : k = t
    · subst e
      exact Or.inr (bf_od_t ho k4)
    · exact Or.inl ⟨k, k1, by omega, k3, k4⟩
  · exact Or.inr z
theorem bf_Q_push {g : Bool} {L : Nat → Nat} {b m h t : Nat} {q q' : Nat → Nat} (H : bf_Q g L b m h t q (fun x => bf_od g (L m) (L x))) (hb : b ≤ m) (ho : ∀ k, h ≤ k → k + 1 = t → ¬ bf_od g (L m) (L (q k))) (hq : ∀ k, k < t → q' k = q k) (hq' : q' t = m) : bf_Q g L b (m + 1) h (t + 1) q' (fun _ => False) := by
  obtain ⟨h1, h2, h3, h4, h5⟩ := H
  refine ⟨by omega, by omega, fun k a c => ?_, fun k a c => ?_, fun x a c => Or.inl ?_⟩
  · by_cases e : k = t
    · rw [e, hq']
      exact ⟨hb, by omega⟩
    · rw [hq k (by omega)]
      have := h3 k a (by omega)
      exact ⟨this.1, by omega⟩
  · by_cases e : k + 1 = t
    · rw [e, hq', hq k (by omega)]
      exact ⟨(h3 k a (by omega)).2, ho k a e⟩
    · rw [hq k (by omega), hq (k + 1) (by omega)]
      exact h4 k a (by omega)
  · by_cases e : x = m
    · refine ⟨t, h1, by omega, by rw [hq']; omega, ?_⟩
      rw [hq', e]
      exact bf_od_r _ _
    · rcases h5 x a (by omega) with ⟨k, k1, k2, k3, k4⟩ | z
      · refine ⟨k, k1, by omega, ?_, ?_⟩
        · rw [hq k k2]
          exact k3
        · rw [hq k k2]
          exact k4
      · refine ⟨t, h1, by omega, by rw [hq']; omega, ?_⟩
        rw [hq']
        exact z
theorem bf_Q_hd {g : Bool} {L : Nat → Nat} {b m h t : Nat} {q : Nat → Nat} (H : bf_Q g L b m h t q (fun _ => False)) (hb : b < m) : h < t ∧ b ≤ q h ∧ q h < m ∧ ∀ x, b ≤ x → x < m → bf_od g (L (q h)) (L x) := by
  obtain ⟨h1, h2, h3, h4, h5⟩ := H
  have ht : h < t := by
    rcases h5 b (Nat.le_refl b) hb with ⟨k, k1, k2, _, _⟩ | z
    · omega
    · exact z.elim
  have hq := h3 h (Nat.le_refl h) ht
  have mono : ∀ n, h + n < t → bf_od g (L (q h)) (L (q (h + n))) := by
    intro n
    induction n with
    | zero => exact fun _ => bf_od_r _ _
    | succ n ih => exact fun hn => bf_od_t (ih (by omega)) (bf_od_n (h4 (h + n) (by omega) hn).2)
  refine ⟨ht, hq.1, hq.2, fun x a c => ?_⟩
  rcases h5 x a c with ⟨k, k1, k2, _, k4⟩ | z
  · have hm := mono (k - h) (by omega)
    rw [show h + (k - h) = k by omega] at hm
    exact bf_od_t hm k4
  · exact z.elim
theorem bf_Q_s1 {g : Bool} {L : Nat → Nat} {b b' m h t : Nat} {q : Nat → Nat} (H : bf_Q g L b m h t q (fun _ => False)) (hb : b ≤ b') (hq : h < t → b' ≤ q h) : bf_Q g L b' m h t q (fun _ => False) := by
  obtain ⟨h1, h2, h3, h4, h5⟩ := H
  have up : ∀ n, h + n < t → b' ≤ q (h + n) := by
    intro n
    induction n with
    | zero => exact fun z => hq z
    | succ n ih =>
      intro hn
      have z1 := ih (by omega)
      have z2 := (h4 (h + n) (by omega) hn).1
      show b' ≤ q (h + n + 1)
      omega
  refine ⟨h1, h2, fun k a c => ⟨?_, (h3 k a c).2⟩, h4, fun x a c => h5 x (by omega) c⟩
  have z := up (k - h) (by omega)
  rw [show h + (k - h) = k by omega] at z
  exact z
theorem bf_Q_s2 {g : Bool} {L : Nat → Nat} {b b' m h t : Nat} {q : Nat → Nat} (H : bf_Q g L b m h t q (fun _ => False)) (hb : b' ≤ b + 1) (hm : b' < m) (ht : h < t) (hq : q h < b') : bf_Q g L b' m (h + 1) t q (fun _ => False) := by
  have hb2 : b = q h ∧ b' = q h + 1 := by
    have := (H.2.2.1 h (Nat.le_refl h) ht).1
    omega
  obtain ⟨h1, h2, h3, h4, h5⟩ := H
  have cov : ∀ x, b' ≤ x → x < m → ∃ k, h + 1 ≤ k ∧ k < t ∧ x ≤ q k ∧ bf_od g (L (q k)) (L x) := by
    intro x a c
    rcases h5 x (by omega) c with ⟨k, k1, k2, k3, k4⟩ | z
    · refine ⟨k, ?_, k2, k3, k4⟩
      by_cases e : k = h
      · subst e
        omega
      · omega
    · exact z.elim
  have up : ∀ n, h + 1 + n < t → b' ≤ q (h + 1 + n) := by
    intro n
    induction n with
    | zero =>
      intro z
      have := (h4 h (Nat.le_refl h) z).1
      show b' ≤ q (h + 1)
      omega
    | succ n ih =>
      intro hn
      have z1 := ih (by omega)
      have z2 := (h4 (h + 1 + n) (by omega) hn).1
      show b' ≤ q (h + 1 + n + 1)
      omega
  refine ⟨by omega, h2, fun k a c => ⟨?_, (h3 k (by omega) c).2⟩, fun k a c => h4 k (by omega) c, fun x a c => Or.inl (cov x a c)⟩
  have z := up (k - (h + 1)) (by omega)
  rw [show h + 1 + (k - (h + 1)) = k by omega] at z
  exact z
/-- the best of L b .. L (b + n) -/
def bf_fl (g : Bool) (L : Nat → Nat) (b : Nat) : Nat → Nat
  | 0 => L b
  | n + 1 => if (g = true ∧ bf_fl g L b n ≤ L (b + (n + 1))) ∨ (g = false ∧ L (b + (n + 1)) ≤ bf_fl g L b n) then L (b + (n + 1)) else bf_fl g L b n
theorem bf_fl_p (g : Bool) (L : Nat → Nat) (b n : Nat) : (∃ x, b ≤ x ∧ x ≤ b + n ∧ bf_fl g L b n = L x) ∧ ∀ x, b ≤ x → x ≤ b + n → bf_od g (bf_fl g L b n) (L x) := by
  induction n with
  | zero =>
    refine ⟨⟨b, by omega, by omega, rfl⟩, fun x h1 h2 => ?_⟩
    rw [show x = b by omega]
    exact bf_od_r _ _
  | succ n ih =>
    obtain ⟨⟨x, x1, x2, x3⟩, h⟩ := ih
    by_cases hc : (g = true ∧ bf_fl g L b n ≤ L (b + (n + 1))) ∨ (g = false ∧ L (b + (n + 1)) ≤ bf_fl g L b n)
    · have e : bf_fl g L b (n + 1) = L (b + (n + 1)) := if_pos hc
      have o : bf_od g (L (b + (n + 1))) (bf_fl g L b n) := by
        rcases hc with ⟨c1, c2⟩ | ⟨c1, c2⟩
        · exact ⟨fun _ => c2, fun z => absurd (c1.symm.trans z) (by decide)⟩
        · exact ⟨fun z => absurd (c1.symm.trans z) (by decide), fun _ => c2⟩
      rw [e]
      refine ⟨⟨b + (n + 1), by omega, by omega, rfl⟩, fun y h1 h2 => ?_⟩
      by_cases ey : y = b + (n + 1)
      · rw [ey]
        exact bf_od_r _ _
      · exact bf_od_t o (h y h1 (by omega))
    · have e : bf_fl g L b (n + 1) = bf_fl g L b n := if_neg hc
      have o : bf_od g (bf_fl g L b n) (L (b + (n + 1))) := by
        refine bf_od_n (fun z => hc ?_)
        cases g with
        | true => exact Or.inl ⟨rfl, z.1 rfl⟩
        | false => exact Or.inr ⟨rfl, z.2 rfl⟩
      rw [e]
      refine ⟨⟨x, by omega, by omega, x3⟩, fun y h1 h2 => ?_⟩
      by_cases ey : y = b + (n + 1)
      · rw [ey]
        exact o
      · exact h y h1 (by omega)
/-- the best of L in a window of w to both sides of j, within 0 .. 15 -/
def bf_w (g : Bool) (L : Nat → Nat) (w j : Nat) : Nat := bf_fl g L (j - w) (min 15 (j + w) - (j - w))
theorem bf_w_p (g : Bool) (L : Nat → Nat) {w j : Nat} (hj : j < 16) : (∃ x, x < 16 ∧ x ≤ j + w ∧ j ≤ x + w ∧ bf_w g L w j = L x) ∧ ∀ x, x < 16 → x ≤ j + w → j ≤ x + w → bf_od g (bf_w g L w j) (L x) := by
  obtain ⟨⟨x, x1, x2, x3⟩, h⟩ := bf_fl_p g L (j - w) (min 15 (j + w) - (j - w))
  exact ⟨⟨x, by omega, by omega, by omega, x3⟩, fun y y1 y2 y3 => h y (by omega) (by omega)⟩
theorem bf_w_un {g : Bool} {L : Nat → Nat} {w j v : Nat} (hj : j < 16) (he : ∃ x, x < 16 ∧ x ≤ j + w ∧ j ≤ x + w ∧ v = L x) (ho : ∀ x, x < 16 → x ≤ j + w → j ≤ x + w → bf_od g v (L x)) : bf_w g L w j = v := by
  obtain ⟨⟨y, y1, y2, y3, y4⟩, h⟩ := bf_w_p g L (w := w) hj
  obtain ⟨x, x1, x2, x3, x4⟩ := he
  refine bf_od_a (g := g) ?_ ?_
  · rw [x4]
    exact h x x1 x2 x3
  · rw [y4]
    exact ho y y1 y2 y3
/-- rows, then columns -/
def bf_f1 (g : Bool) (w : Nat) (R : Nat → Nat) : Nat → Nat := fun k => bf_w g (fun t => R (k / 16 * 16 + t)) w (k % 16)
def bf_fc (g : Bool) (h : Nat) (R : Nat → Nat) : Nat → Nat := fun k => bf_w g (fun s => R (s * 16 + k % 16)) h (k / 16)
def bf_f2 (g : Bool) (w h : Nat) (R : Nat → Nat) : Nat → Nat := bf_fc g h (bf_f1 g w R)
theorem bf_w_b {g : Bool} {L : Nat → Nat} {w j B : Nat} (hj : j < 16) (h : ∀ x, x < 16 → L x < B) : bf_w g L w j < B := by
  obtain ⟨⟨y, y1, y2, y3, y4⟩, _⟩ := bf_w_p g L (w := w) hj
  rw [y4]
  exact h y y1
theorem bf_f1_b {g : Bool} {w B : Nat} {R : Nat → Nat} (h : ∀ k, k < 256 → R k < B) : ∀ k, k < 256 → bf_f1 g w R k < B :=
  fun k hk => bf_w_b (by omega) (fun x hx => h _ (by omega))
theorem bf_fc_b {g : Bool} {w B : Nat} {R : Nat → Nat} (h : ∀ k, k < 256 → R k < B) : ∀ k, k < 256 → bf_fc g w R k < B :=
  fun k hk => bf_w_b (by omega) (fun x hx => h _ (by omega))
/-- what a filter answers at a place: the best of its window -/
theorem bf_f2_un {g : Bool} {w h : Nat} {F : Nat → Nat → Nat} {k v : Nat} (hk : k < 256)
    (he : ∃ s t, s < 16 ∧ t < 16 ∧ s ≤ k / 16 + h ∧ k / 16 ≤ s + h ∧ t ≤ k % 16 + w ∧ k % 16 ≤ t + w ∧ v = F s t)
    (ho : ∀ s t, s < 16 → t < 16 → s ≤ k / 16 + h → k / 16 ≤ s + h → t ≤ k % 16 + w → k % 16 ≤ t + w → bf_od g v (F s t)) : bf_f2 g w h (bf_R F) k = v := by
  have row : ∀ s, s < 16 → bf_f1 g w (bf_R F) (s * 16 + k % 16) = bf_w g (F s) w (k % 16) := by
    intro s hs
    unfold bf_f1 bf_R
    rw [show (s * 16 + k % 16) / 16 = s by omega, show (s * 16 + k % 16) % 16 = k % 16 by omega]
    refine bf_w_un (by omega) ?_ ?_
    · obtain ⟨⟨y, y1, y2, y3, y4⟩, _⟩ := bf_w_p g (F s) (w := w) (j := k % 16) (by omega)
      refine ⟨y, y1, y2, y3, ?_⟩
      show _ = F ((s * 16 + y) / 16) ((s * 16 + y) % 16)
      rw [show (s * 16 + y) / 16 = s by omega, show (s * 16 + y) % 16 = y by omega]
      exact y4
    · intro x x1 x2 x3
      show bf_od g _ (F ((s * 16 + x) / 16) ((s * 16 + x) % 16))
      rw [show (s * 16 + x) / 16 = s by omega, show (s * 16 + x) % 16 = x by omega]
      exact (bf_w_p g (F s) (w := w) (j := k % 16) (by omega)).2 x x1 x2 x3
  obtain ⟨s, t, s1, t1, s2, s3, t2, t3, hv⟩ := he
  unfold bf_f2 bf_fc
  have ex : ∀ s', s' < 16 → s' ≤ k / 16 + h → k / 16 ≤ s' + h → bf_od g v (bf_f1 g w (bf_R F) (s' * 16 + k % 16)) := by
    intro s' a b c
    rw [row s' a]
    obtain ⟨⟨y, y1, y2, y3, y4⟩, _⟩ := bf_w_p g (F s') (w := w) (j := k % 16) (by omega)
    rw [y4]
    exact ho s' y a y1 b c y2 y3
  refine bf_w_un (by omega) ⟨s, s1, s2, s3, ?_⟩ ex
  show v = bf_f1 g w (bf_R F) (s * 16 + k % 16)
  refine bf_od_a (ex s s1 s2 s3) ?_
  rw [row s s1, hv]
  exact (bf_w_p g (F s) (w := w) (j := k % 16) (by omega)).2 t t1 t2 t3
end
section
/-- the array a holds the picture R, small numbers -/
def bf_A (a : Nat → Int32) (R : Nat → Nat) : Prop := ∀ k, k < 256 → a k = nI (R k) ∧ R k < 1048576
theorem bf_A_c {a : Nat → Int32} {R R' : Nat → Nat} (h : bf_A a R) (e : ∀ k, k < 256 → R k = R' k) : bf_A a R' := by
  intro k hk
  rw [← e k hk]
  exact h k hk
theorem bf_A_e {a b : Nat → Int32} {R : Nat → Nat} (h : bf_A a R) (e : ∀ k, k < 256 → b k = a k) : bf_A b R := by
  intro k hk
  rw [e k hk]
  exact h k hk
theorem bf_at {a : Nat → Int32} {R : Nat → Nat} (h : bf_A a R) {i : Nat} (hi : i < 256) : a (nI i).toNatClampNeg = nI (R i) := by
  rw [nI_clamp (by omega)]
  exact (h i hi).1
theorem bf_fill {f s : Nat → Int32} {i k : Nat} {x : Int32} (hk : k = i) (h : ∀ j, j < i → s j = f j) (hx : x = f i) : ∀ j, j < i + 1 → upd s k x j = f j := by
  intro j hj
  rw [hk]
  by_cases e : j = i
  · rw [e, pk_us, hx]
  · rw [pk_un e]
    exact h j (by omega)
theorem bf_rest {f s : Nat → Int32} {i k : Nat} {x : Int32} (hk : k = i) (h : ∀ j, i ≤ j → s j = f j) : ∀ j, i + 1 ≤ j → upd s k x j = f j := by
  intro j hj
  rw [hk, pk_un (by omega)]
  exact h j (by omega)
theorem bf_keep {post : St2 → Prop} {a1 a2 a3 a4 a5 a6 a7 : Nat → Int32} {R : Nat → Nat} (h : bf_A a1 R) (H : ∀ b, bf_A b R → post (a1, b, a3, a4, a5, a6, a7)) : wpX_keep post (a1, a2, a3, a4, a5, a6, a7) :=
  pk_loop (fun n i s => wX_keep_2 post n (nI i) a1 s a3 a4 a5 a6 a7) (fun i s => ∀ j, j < i → s j = a1 j) 256 0 a2 (by omega) (fun j hj => absurd hj (by omega))
    (fun n s hI => pk_le 256 256 (fun _ => H s (bf_A_e h hI)) (fun z => absurd z (by omega)))
    (fun n i s hi hI hw => pk_le 256 i (fun z => absurd z (by omega)) (fun _ => ⟨pk_in i 256 hi, pk_in i 256 hi, nm_e (nm_r (nI_1 i) (hw _ (bf_fill (nI_clamp (by omega)) hI (by rw [nI_clamp (by omega)]))))⟩))
theorem bf_remember {post : St2 → Prop} {a1 a2 a3 a4 a5 a6 a7 : Nat → Int32} {R : Nat → Nat} (h : bf_A a1 R) (H : ∀ b, bf_A b R → post (a1, a2, b, a4, a5, a6, a7)) : wpX_remember post (a1, a2, a3, a4, a5, a6, a7) :=
  pk_loop (fun n i s => wX_remember_2 post n (nI i) a1 a2 s a4 a5 a6 a7) (fun i s => ∀ j, j < i → s j = a1 j) 256 0 a3 (by omega) (fun j hj => absurd hj (by omega))
    (fun n s hI => pk_le 256 256 (fun _ => H s (bf_A_e h hI)) (fun z => absurd z (by omega)))
    (fun n i s hi hI hw => pk_le 256 i (fun z => absurd z (by omega)) (fun _ => ⟨pk_in i 256 hi, pk_in i 256 hi, nm_e (nm_r (nI_1 i) (hw _ (bf_fill (nI_clamp (by omega)) hI (by rw [nI_clamp (by omega)]))))⟩))
theorem bf_sum {post : Int32 → Prop} {a1 a2 a3 a4 a5 a6 a7 : Nat → Int32} {R : Nat → Nat} (h : bf_A a1 R) (H : post (nI (bf_s R 256))) : wpX_sum post (a1, a2, a3, a4, a5, a6, a7) :=
  pk_loop (fun n i s => wX_sum_4 post a1 a2 a3 a4 a5 a6 a7 n s (nI i)) (fun i s => s = nI (bf_s R i)) 256 0 (nI 0) (by omega) rfl
    (fun n s hI => pk_le 256 256 (fun _ => by rw [hI]; exact H) (fun z => absurd z (by omega)))
    (fun n i s hi hI hw => pk_le 256 i (fun z => absurd z (by omega)) (fun _ => ⟨pk_in i 256 hi, nm_e (nm_r (nI_1 i) (hw _ (by rw [hI, bf_at h hi, nI_add]; rfl)))⟩))
theorem bf_equal {post : Int32 → Prop} {a1 a2 a3 a4 a5 a6 a7 : Nat → Int32} {R P : Nat → Nat} (h1 : bf_A a1 R) (h2 : bf_A a2 P) (H : post (nI (bf_s (fun k => if R k = P k then 1 else 0) 256))) : wpX_equal post (a1, a2, a3, a4, a5, a6, a7) :=
  pk_loop (fun n i s => wX_equal_4 post a1 a2 a3 a4 a5 a6 a7 n s (nI i)) (fun i s => s = nI (bf_s (fun k => if R k = P k then 1 else 0) i)) 256 0 (nI 0) (by omega) rfl
    (fun n s hI => pk_le 256 256 (fun _ => by rw [hI]; exact H) (fun z => absurd z (by omega)))
    (fun n i s hi hI hw => pk_le 256 i (fun z => absurd z (by omega)) (fun _ => ⟨pk_in i 256 hi, pk_in i 256 hi, by
      have b1 := (h1 i hi).2
      have b2 := (h2 i hi).2
      exact pk_eq (R i) (P i) (fun e => nm_e (nm_r (nI_1 i) (hw _ (by rw [hI]; exact bf_s1 (if_pos e))))) (fun e => nm_r (nI_1 i) (hw _ (by rw [hI]; exact bf_s0 (if_neg e)))) (bf_at h1 hi) (bf_at h2 hi)⟩))
theorem bf_changed {post : Int32 → Prop} {a1 a2 a3 a4 a5 a6 a7 : Nat → Int32} {R P : Nat → Nat} (h1 : bf_A a1 R) (h2 : bf_A a3 P) (H : post (nI (bf_s (fun k => if R k = P k then 0 else 1) 256))) : wpX_changed post (a1, a2, a3, a4, a5, a6, a7) :=
  pk_loop (fun n i s => wX_changed_4 post a1 a2 a3 a4 a5 a6 a7 n s (nI i)) (fun i s => s = nI (bf_s (fun k => if R k = P k then 0 else 1) i)) 256 0 (nI 0) (by omega) rfl
    (fun n s hI => pk_le 256 256 (fun _ => by rw [hI]; exact H) (fun z => absurd z (by omega)))
    (fun n i s hi hI hw => pk_le 256 i (fun z => absurd z (by omega)) (fun _ => ⟨pk_in i 256 hi, pk_in i 256 hi, by
      have b1 := (h1 i hi).2
      have b2 := (h2 i hi).2
      exact pk_eq (R i) (P i) (fun e => nm_r (nI_1 i) (hw _ (by rw [hI]; exact bf_s0 (if_pos e)))) (fun e => nm_e (nm_r (nI_1 i) (hw _ (by rw [hI]; exact bf_s1 (if_neg e))))) (bf_at h1 hi) (bf_at h2 hi)⟩))
theorem bf_above {post : Int32 → Prop} {a1 a2 a3 a4 a5 a6 a7 : Nat → Int32} {R P : Nat → Nat} (h1 : bf_A a1 R) (h2 : bf_A a2 P) (H : post (nI (bf_s (fun k => if R k ≤ P k then 0 else 1) 256))) : wpX_above post (a1, a2, a3, a4, a5, a6, a7) :=
  pk_loop (fun n i s => wX_above_4 post a1 a2 a3 a4 a5 a6 a7 n s (nI i)) (fun i s => s = nI (bf_s (fun k => if R k ≤ P k then 0 else 1) i)) 256 0 (nI 0) (by omega) rfl
    (fun n s hI => pk_le 256 256 (fun _ => by rw [hI]; exact H) (fun z => absurd z (by omega)))
    (fun n i s hi hI hw => pk_le 256 i (fun z => absurd z (by omega)) (fun _ => ⟨pk_in i 256 hi, pk_in i 256 hi, by
      have b1 := (h1 i hi).2
      have b2 := (h2 i hi).2
      exact pk_le (R i) (P i) (fun e => nm_r (nI_1 i) (hw _ (by rw [hI]; exact bf_s0 (if_pos e)))) (fun e => nm_e (nm_r (nI_1 i) (hw _ (by rw [hI]; exact bf_s1 (if_neg (by omega)))))) (bf_at h1 hi) (bf_at h2 hi)⟩))
theorem bf_exchange {post : St2 → Prop} {a1 a2 a3 a4 a5 a6 a7 : Nat → Int32} {R P : Nat → Nat} (h1 : bf_A a1 R) (h2 : bf_A a2 P) (H : ∀ b1 b2, bf_A b1 P → bf_A b2 R → post (b1, b2, a3, a4, a5, a6, a7)) : wpX_exchange post (a1, a2, a3, a4, a5, a6, a7) :=
  pk_loop (fun n i (s : (Nat → Int32) × (Nat → Int32)) => wX_exchange_2 post n (nI i) s.1 s.2 a3 a4 a5 a6 a7)
    (fun i s => ((∀ j, j < i → s.1 j = a2 j) ∧ (∀ j, i ≤ j → s.1 j = a1 j)) ∧ ((∀ j, j < i → s.2 j = a1 j) ∧ (∀ j, i ≤ j → s.2 j = a2 j))) 256 0 (a1, a2) (by omega)
    ⟨⟨fun j hj => absurd hj (by omega), fun _ _ => rfl⟩, ⟨fun j hj => absurd hj (by omega), fun _ _ => rfl⟩⟩
    (fun n s hI => pk_le 256 256 (fun _ => H s.1 s.2 (bf_A_e h2 hI.1.1) (bf_A_e h1 hI.2.1)) (fun z => absurd z (by omega)))
    (fun n i s hi hI hw => pk_le 256 i (fun z => absurd z (by omega)) (fun _ => ⟨pk_in i 256 hi, nm_e ⟨pk_in i 256 hi, pk_in i 256 hi, nm_e ⟨pk_in i 256 hi, nm_e (nm_r (nI_1 i) (hw (_, _)
      ⟨⟨bf_fill (nI_clamp (by omega)) hI.1.1 (by rw [nI_clamp (by omega)]; exact hI.2.2 i (by omega)), bf_rest (nI_clamp (by omega)) hI.1.2⟩,
        ⟨bf_fill (nI_clamp (by omega)) hI.2.1 (by rw [nI_clamp (by omega)]; exact hI.1.2 i (by omega)), bf_rest (nI_clamp (by omega)) hI.2.2⟩⟩))⟩⟩⟩))
theorem bf_threshold {post : Int32 → St2 → Prop} {a1 a2 a3 a4 a5 a6 a7 : Nat → Int32} {x : Int32} (T : Nat → Bool) (hT : ∀ k, k < 256 → (a1 k < x ↔ T k = false))
    (H : ∀ b, bf_A b (fun k => if T k = true then 255 else 0) → post (nI (bf_s (fun k => if T k = true then 1 else 0) 256)) (b, a2, a3, a4, a5, a6, a7)) : wpX_threshold post (a1, a2, a3, a4, a5, a6, a7) x :=
  pk_loop (fun n i (s : Int32 × (Nat → Int32)) => wX_threshold_4 post x n s.1 (nI i) s.2 a2 a3 a4 a5 a6 a7)
    (fun i s => s.1 = nI (bf_s (fun k => if T k = true then 1 else 0) i) ∧ (∀ j, j < i → s.2 j = nI (if T j = true then 255 else 0)) ∧ (∀ j, i ≤ j → s.2 j = a1 j)) 256 0 (nI 0, a1) (by omega)
    ⟨rfl, fun j hj => absurd hj (by omega), fun _ _ => rfl⟩
    (fun n s hI => pk_le 256 256 (fun _ => by
      rw [hI.1]
      refine H s.2 (fun k hk => ⟨hI.2.1 k hk, ?_⟩)
      show (if T k = true then 255 else 0) < 1048576
      split <;> omega) (fun z => absurd z (by omega)))
    (fun n i s hi hI hw => pk_le 256 i (fun z => absurd z (by omega)) (fun _ => ⟨pk_in i 256 hi, by
      have e : s.2 (nI i).toNatClampNeg = a1 i := by
        rw [nI_clamp (by omega)]
        exact hI.2.2 i (by omega)
      rw [e]
      refine br_c (fun z => ?_) (fun z => ?_)
      · have t : T i = false := (hT i hi).mp z
        refine br_t rfl ⟨pk_in i 256 hi, nm_e (br_t rfl (nm_r (nI_1 i) (hw (s.1, upd s.2 (nI i).toNatClampNeg 0) ⟨?_, ?_, ?_⟩)))⟩
        · show s.1 = _
          rw [hI.1]
          exact bf_s0 (if_neg (by rw [t]; decide))
        · exact bf_fill (f := fun j => nI (if T j = true then 255 else 0)) (nI_clamp (by omega)) hI.2.1 (by
            show (0 : Int32) = nI (if T i = true then 255 else 0)
            rw [if_neg (by rw [t]; decide)]
            rfl)
        · exact bf_rest (nI_clamp (by omega)) hI.2.2
      · have t : T i = true := by
          cases h : T i with
          | true => rfl
          | false => exact absurd ((hT i hi).mpr h) z
        refine br_f (by decide) ⟨pk_in i 256 hi, nm_e (br_f (by decide) (nm_e (nm_r (nI_1 i) (hw (_, _) ⟨?_, ?_, ?_⟩))))⟩
        · show s.1 + 1 = _
          rw [hI.1]
          exact bf_s1 (if_pos t)
        · exact bf_fill (f := fun j => nI (if T j = true then 255 else 0)) (nI_clamp (by omega)) hI.2.1 (by
            show (255 : Int32) = nI (if T i = true then 255 else 0)
            rw [if_pos t]
            rfl)
        · exact bf_rest (nI_clamp (by omega)) hI.2.2⟩))
theorem bf_badPixel {post : Int32 → Prop} {x y : Int32} (i j : Nat) (hx : x = nI i) (hy : y = nI j) (hi : i < 16) (hj : j < 16) (H : post 0) : wpX_badPixel post () x y := by
  subst hx hy
  exact br_f (nI_pos (by omega)) (br_f (nI_ge (b := 16) hi (by decide)) (br_f (nI_pos (by omega)) (br_t (nI_lt (b := 16) hj (by decide)) H)))
theorem bf_rc {x y : Int32} (i j : Nat) (hx : x = nI i) (hy : y = nI j) : (x * 16) + y = nI (i * 16 + j) := by
  subst hx hy
  rw [show (16 : Int32) = nI 16 from rfl, pk_mul, nI_add]
theorem bf_pixel {post : Int32 → Prop} {a1 a2 a3 a4 a5 a6 a7 : Nat → Int32} {R : Nat → Nat} {x y : Int32} (i j : Nat) (hx : x = nI i) (hy : y = nI j) (hi : i < 16) (hj : j < 16) (h : bf_A a1 R) (H : post (nI (R (i * 16 + j)))) : wpX_pixel post (a1, a2, a3, a4, a5, a6, a7) x y := by
  have e := bf_rc i j hx hy
  unfold wpX_pixel
  refine bf_badPixel i j hx hy hi hj (br_t rfl ⟨?_, ?_⟩)
  · rw [e]
    exact vp_in_nI (by omega) (by omega)
  · rw [e, bf_at h (by omega)]
    exact H
theorem bf_set {post : Int32 → St2 → Prop} {a1 a2 a3 a4 a5 a6 a7 : Nat → Int32} {F : Nat → Nat → Nat} {x y z : Int32} (i j v : Nat) (hx : x = nI i) (hy : y = nI j) (hz : z = nI v) (hi : i < 16) (hj : j < 16) (hv : v ≤ 255) (h : bf_A a1 (bf_R F))
    (H : ∀ b, bf_A b (bf_R (bf_put F i j v)) → post (nI (F i j)) (b, a2, a3, a4, a5, a6, a7)) : wpX_set post (a1, a2, a3, a4, a5, a6, a7) x y z := by
  have e := bf_rc i j hx hy
  have ev : a1 ((x * 16) + y).toNatClampNeg = nI (F i j) := by
    rw [e, bf_at h (by omega)]
    show nI (F ((i * 16 + j) / 16) ((i * 16 + j) % 16)) = _
    rw [show (i * 16 + j) / 16 = i by omega, show (i * 16 + j) % 16 = j by omega]
  have hin : vp_in ((x * 16) + y) 256 := by
    rw [e]
    exact vp_in_nI (by omega) (by omega)
  unfold wpX_set
  refine bf_badPixel i j hx hy hi hj (br_t rfl ?_)
  rw [hz]
  refine br_f (nI_pos (by omega)) (br_t (nI_le (b := 255) hv (by decide)) ⟨hin, nm_r ev ⟨hin, nm_e (H _ ?_)⟩⟩)
  intro k hk
  rw [e, nI_clamp (by omega)]
  show upd a1 (i * 16 + j) (nI v) k = nI (if k / 16 = i ∧ k % 16 = j then v else F (k / 16) (k % 16)) ∧ (if k / 16 = i ∧ k % 16 = j then v else F (k / 16) (k % 16)) < 1048576
  by_cases c : k = i * 16 + j
  · rw [if_pos (by omega), c, pk_us]
    exact ⟨rfl, by omega⟩
  · rw [if_neg (by omega), pk_un c]
    exact h k hk
end
section
/-- the flag 'greatest' as the bytecode hands it on -/
def bf_gi (g : Bool) : Nat := if g = true then 1 else 0
/-- the array of sixteen holds the line L -/
def bf_L4 (a : Nat → Int32) (L : Nat → Nat) : Prop := ∀ j, j < 16 → a j = nI (L j) ∧ L j < 1048576
theorem bf_outd {post : Int32 → Prop} {a1 a2 a3 a4 a5 a6 a7 : Nat → Int32} {L : Nat → Nat} {g : Bool} {x y z : Int32} (i k : Nat) (hx : x = nI i) (hy : y = nI k) (hz : z = nI (bf_gi g)) (hi : i < 16) (hk : k < 16) (h4 : bf_L4 a4 L)
    (H1 : bf_od g (L i) (L k) → post 1) (H0 : ¬ bf_od g (L i) (L k) → post 0) : wpX_outdoes post (a1, a2, a3, a4, a5, a6, a7) x y z := by
  subst hx hy hz
  have bi := h4 i hi
  have bk := h4 k hk
  have ei : a4 (nI i).toNatClampNeg = nI (L i) := by rw [nI_clamp (by omega)]; exact bi.1
  have ek : a4 (nI k).toNatClampNeg = nI (L k) := by rw [nI_clamp (by omega)]; exact bk.1
  have hi2 := bi.2
  have hk2 := bk.2
  cases g with
  | false => exact br_t rfl ⟨pk_in i 16 hi, pk_in k 16 hk, pk_lt (L k) (L i) (fun c => H0 (fun o => absurd (o.2 rfl) (by omega))) (fun c => H1 ⟨(fun e => nomatch e), fun _ => c⟩) ek ei⟩
  | true => exact br_f (by decide) ⟨pk_in i 16 hi, pk_in k 16 hk, pk_lt (L i) (L k) (fun c => H0 (fun o => absurd (o.1 rfl) (by omega))) (fun c => H1 ⟨fun _ => c, fun e => nomatch e⟩) ei ek⟩
section
variable {post : St2 → Prop} {J43 : Int32 → Int32 → Int32 → (Nat → Int32) → (Nat → Int32) → (Nat → Int32) → (Nat → Int32) → (Nat → Int32) → (Nat → Int32) → (Nat → Int32) → Prop} {a1 a2 a3 a4 a5 a6 a7 : Nat → Int32}
theorem bf_92 {x1 x2 x3 x4 : Int32} {g : Bool} {L : Nat → Nat} {b i h t : Nat} {q : Nat → Nat} (hi : i < 16) (hb : b ≤ i) (HQ : bf_Q g L b i h t q (fun x => bf_od g (L i) (L x))) (h5 : ∀ k, h ≤ k → k < t → a5 k = nI (q k))
    (ho : ∀ k, h ≤ k → k + 1 = t → ¬ bf_od g (L i) (L (q k)))
    (H : ∀ t' b5 q', bf_Q g L b (i + 1) h (t' + 1) q' (fun _ => False) → (∀ k, h ≤ k → k < t' + 1 → b5 k = nI (q' k)) → wX_filterLine_104 post J43 x1 x2 x3 x4 (nI h) (nI (t' + 1)) (nI i) a1 a2 a3 a4 b5 a6 a7) :
    wX_filterLine_92 post J43 x1 x2 x3 x4 (nI h) (nI t) (nI i) a1 a2 a3 a4 a5 a6 a7 := by
  have ht : t < 16 := by
    have := HQ.2.1
    omega
  refine ⟨pk_in t 16 ht, nm_e (nm_r (nI_1 t) (H t _ (fun k => if k = t then i else q k) (bf_Q_push HQ hb ho (fun k hk => if_neg (by omega)) (if_pos rfl)) (fun k k1 k2 => ?_)))⟩
  rw [nI_clamp (by omega)]
  by_cases e : k = t
  · rw [e, pk_us, if_pos rfl]
  · rw [pk_un e, if_neg e]
    exact h5 k k1 (by omega)
theorem bf_59 {x1 x2 x3 x4 : Int32} {g : Bool} {L : Nat → Nat} {b i h : Nat} {q : Nat → Nat} (hi : i < 16) (hb : b ≤ i) (h4 : bf_L4 a4 L) (hg : x4 = nI (bf_gi g))
    (H : ∀ t' b5 q', bf_Q g L b (i + 1) h (t' + 1) q' (fun _ => False) → (∀ k, h ≤ k → k < t' + 1 → b5 k = nI (q' k)) → wX_filterLine_104 post J43 x1 x2 x3 x4 (nI h) (nI (t' + 1)) (nI i) a1 a2 a3 a4 b5 a6 a7) :
    ∀ t, bf_Q g L b i h t q (fun x => bf_od g (L i) (L x)) → (∀ k, h ≤ k → k < t → a5 k = nI (q k)) → wX_filterLine_59 post J43 x1 x2 x3 x4 (nI h) (nI i) a1 a2 a3 a4 a5 a6 a7 (t + 1) (nI t) := by
  intro t
  induction t with
  | zero =>
    intro HQ h5
    have h0 := HQ.1
    exact pk_le 0 h (fun _ => bf_92 hi hb HQ h5 (fun k a c => absurd c (by omega)) H) (fun z => absurd z (by omega))
  | succ t ih =>
    intro HQ h5
    have h0 := HQ.1
    have h01 := HQ.2.1
    refine pk_le (t + 1) h (fun z => bf_92 hi hb HQ h5 (fun k a c => absurd c (by omega)) H) (fun z => ⟨pk_in t 16 (by omega) (nI_pred t), ?_⟩)
    have hq := HQ.2.2.1 t (by omega) (by omega)
    have e5 : a5 (nI (t + 1) - 1).toNatClampNeg = nI (q t) := by
      rw [nI_pred, nI_clamp (by omega)]
      exact h5 t (by omega) (by omega)
    refine bf_outd i (q t) rfl e5 hg hi (by omega) h4 (fun od => br_f (by decide) (nm_r (pk_m1 t) (ih (bf_Q_pop HQ (by omega) od) (fun k k1 k2 => h5 k k1 (by omega))))) (fun nod => br_t rfl (bf_92 hi hb HQ h5 (fun k a c => ?_) H))
    rw [show k = t by omega]
    exact nod
/-- the state ahead of turn i of the second loop -/
def bf_J (g : Bool) (L : Nat → Nat) (w s d : Nat) (a1 : Nat → Int32) (i h t : Nat) (c1 c5 : Nat → Int32) : Prop :=
  ∃ q, bf_Q g L (i - 1 - 2 * w) (min i 16) h t q (fun _ => False) ∧ (∀ k, h ≤ k → k < t → c5 k = nI (q k)) ∧ (∀ j, j + w < i → c1 (s + j * d) = nI (bf_w g L w j)) ∧ (∀ k, (∀ j, j < 16 → k ≠ s + j * d) → c1 k = a1 k)
theorem bf_132 {x4 : Int32} {g : Bool} {L : Nat → Nat} {w s d i h t : Nat} {q : Nat → Nat} {c1 c5 : Nat → Int32} (hi : i < 16 + w) (hw : w ≤ 7) (hwi : w ≤ i) (h4 : bf_L4 a4 L) (hr : ∀ j, j < 16 → s + j * d < 256) (hinj : ∀ j j', j < 16 → j' < 16 → s + j * d = s + j' * d → j = j')
    (HQ : bf_Q g L (i - 2 * w) (min (i + 1) 16) h t q (fun _ => False)) (h5 : ∀ k, h ≤ k → k < t → c5 k = nI (q k)) (hc : ∀ j, j + w < i → c1 (s + j * d) = nI (bf_w g L w j)) (hu : ∀ k, (∀ j, j < 16 → k ≠ s + j * d) → c1 k = a1 k)
    (HJ : ∀ h' c1', bf_J g L w s d a1 (i + 1) h' t c1' c5 → J43 (nI h') (nI t) (nI (i + 1)) c1' a2 a3 a4 c5 a6 a7) :
    wX_filterLine_132 post J43 (nI s) (nI d) (nI w) x4 (nI h) (nI t) (nI i) (nI (i - w)) c1 a2 a3 a4 c5 a6 a7 := by
  obtain ⟨ht, q1, q2, q3⟩ := bf_Q_hd HQ (by omega)
  have ht2 := HQ.2.1
  have e5 : c5 (nI h).toNatClampNeg = nI (q h) := by
    rw [nI_clamp (by omega)]
    exact h5 h (Nat.le_refl h) ht
  have ep : nI s + nI (i - w) * nI d = nI (s + (i - w) * d) := by rw [pk_mul, nI_add]
  have hp : s + (i - w) * d < 256 := hr (i - w) (by omega)
  refine ⟨pk_in h 16 (by omega), pk_in (q h) 16 (by omega) e5, pk_in _ 256 hp ep, nm_e (nm_r (nI_1 i) (HJ h _ ⟨q, ?_, h5, fun j hj => ?_, fun k hk => ?_⟩))⟩
  · rw [show i + 1 - 1 - 2 * w = i - 2 * w by omega]
    exact HQ
  · rw [ep, nI_clamp (by omega), e5, nI_clamp (by omega)]
    by_cases e : j = i - w
    · rw [e, pk_us, (h4 (q h) (by omega)).1]
      congr 1
      refine (bf_w_un (by omega) ⟨q h, by omega, by omega, by omega, rfl⟩ (fun x x1 x2 x3 => q3 x (by omega) (by omega))).symm
    · rw [pk_un (fun z => e (hinj j (i - w) (by omega) (by omega) z))]
      exact hc j (by omega)
  · rw [ep, nI_clamp (by omega), pk_un (hk (i - w) (by omega))]
    exact hu k hk
theorem bf_104 {x4 : Int32} {g : Bool} {L : Nat → Nat} {w s d i h t : Nat} {q : Nat → Nat} {c1 c5 : Nat → Int32} (hi : i < 16 + w) (hw : w ≤ 7) (h4 : bf_L4 a4 L) (hr : ∀ j, j < 16 → s + j * d < 256) (hinj : ∀ j j', j < 16 → j' < 16 → s + j * d = s + j' * d → j = j')
    (HQ : bf_Q g L (i - 1 - 2 * w) (min (i + 1) 16) h t q (fun _ => False)) (h5 : ∀ k, h ≤ k → k < t → c5 k = nI (q k)) (hc : ∀ j, j + w < i → c1 (s + j * d) = nI (bf_w g L w j)) (hu : ∀ k, (∀ j, j < 16 → k ≠ s + j * d) → c1 k = a1 k)
    (HJ : ∀ h' c1', bf_J g L w s d a1 (i + 1) h' t c1' c5 → J43 (nI h') (nI t) (nI (i + 1)) c1' a2 a3 a4 c5 a6 a7) :
    wX_filterLine_104 post J43 (nI s) (nI d) (nI w) x4 (nI h) (nI t) (nI i) c1 a2 a3 a4 c5 a6 a7 := by
  by_cases hwi : i < w
  · refine nm_e (br_t (pk_sneg (by omega) hwi) (nm_r (nI_1 i) (HJ h c1 ⟨q, ?_, h5, fun j hj => absurd hj (by omega), hu⟩)))
    rw [show i + 1 - 1 - 2 * w = i - 1 - 2 * w by omega]
    exact HQ
  · obtain ⟨ht, q1, q2, q3⟩ := bf_Q_hd HQ (by omega)
    have ht2 := HQ.2.1
    have e5 : c5 (nI h).toNatClampNeg = nI (q h) := by
      rw [nI_clamp (by omega)]
      exact h5 h (Nat.le_refl h) ht
    have cmp : (nI (i - w) - nI w ≤ c5 (nI h).toNatClampNeg) ↔ i - 2 * w ≤ q h := by
      rw [e5, Int32.le_iff_toInt_le, pk_sub_toInt (by omega) (by omega), nI_toInt (by omega)]
      omega
    refine nm_r (pk_sub (by omega)) (br_f (nI_pos (by omega)) ⟨pk_in h 16 (by omega), br_c (fun z => ?_) (fun z => nm_r (nI_1 h) ?_)⟩)
    · exact bf_132 hi hw (by omega) h4 hr hinj (bf_Q_s1 HQ (by omega) (fun _ => cmp.mp z)) h5 hc hu HJ
    · have z' : ¬ i - 2 * w ≤ q h := fun y => z (cmp.mpr y)
      exact bf_132 hi hw (by omega) h4 hr hinj (bf_Q_s2 HQ (by omega) (by omega) ht (by omega)) (fun k k1 k2 => h5 k (by omega) k2) hc hu HJ
end
theorem bf_43 {post : St2 → Prop} {a1 a2 a3 a4 a5 a6 a7 : Nat → Int32} {x4 : Int32} {g : Bool} {L : Nat → Nat} {w s d : Nat} (hw : w ≤ 7) (hg : x4 = nI (bf_gi g)) (h4 : bf_L4 a4 L) (hr : ∀ j, j < 16 → s + j * d < 256) (hinj : ∀ j j', j < 16 → j' < 16 → s + j * d = s + j' * d → j = j')
    (H : ∀ b1 b5, (∀ j, j < 16 → b1 (s + j * d) = nI (bf_w g L w j)) → (∀ k, (∀ j, j < 16 → k ≠ s + j * d) → b1 k = a1 k) → post (b1, a2, a3, a4, b5, a6, a7)) :
    ∃ n, wX_filterLine_43 post (nI s) (nI d) (nI w) x4 n (nI 0) (nI 0) (nI 0) a1 a2 a3 a4 a5 a6 a7 := by
  refine pk_loop (fun n i (st : Nat × Nat × (Nat → Int32) × (Nat → Int32)) => wX_filterLine_43 post (nI s) (nI d) (nI w) x4 n (nI st.1) (nI st.2.1) (nI i) st.2.2.1 a2 a3 a4 st.2.2.2 a6 a7)
    (fun i st => bf_J g L w s d a1 i st.1 st.2.1 st.2.2.1 st.2.2.2) (16 + w) 0 (0, 0, a1, a5) (by omega) ⟨fun _ => 0, bf_Q_0 _ _ _ _, fun k _ z => absurd z (Nat.not_lt_zero k), fun j z => absurd z (Nat.not_lt_zero _), fun _ _ => rfl⟩ ?_ ?_
  · intro n st HI
    obtain ⟨q, _, _, hc, hu⟩ := HI
    exact pk_le (16 + w) (16 + w) (fun _ => H _ _ (fun j hj => hc j (by omega)) hu) (fun z => absurd z (by omega)) (nI_add 16 w)
  · intro n i st hi HI hk
    obtain ⟨h, t, c1, c5⟩ := st
    obtain ⟨q, HQ, h5, hc, hu⟩ := HI
    dsimp only at HQ h5 hc hu
    refine pk_le (16 + w) i (fun z => absurd z (by omega)) (fun _ => pk_le 16 i (fun z => ?_) (fun z => ?_)) (nI_add 16 w)
    · rw [show min i 16 = min (i + 1) 16 by omega] at HQ
      exact bf_104 (h := h) (t := t) (c1 := c1) (c5 := c5) hi hw h4 hr hinj HQ h5 hc hu (fun h' c1' hJ => hk (h', t, c1', c5) hJ)
    · rw [show min i 16 = i by omega] at HQ
      refine ⟨t + 1, bf_59 (h := h) (q := q) z (by omega) h4 hg (fun t' b5 q' HQ' h5' => ?_) t (bf_Q_w HQ) h5⟩
      rw [show i + 1 = min (i + 1) 16 by omega] at HQ'
      exact bf_104 (c1 := c1) (c5 := b5) hi hw h4 hr hinj HQ' h5' hc hu (fun h' c1' hJ => hk (h', t' + 1, c1', b5) hJ)
theorem bf_line {post : St2 → Prop} {a1 a2 a3 a4 a5 a6 a7 : Nat → Int32} {R : Nat → Nat} {x1 x2 x3 x4 : Int32} {g : Bool} {w s d : Nat} (e1 : x1 = nI s) (e2 : x2 = nI d) (e3 : x3 = nI w) (hg : x4 = nI (bf_gi g)) (hw : w ≤ 7) (h1 : bf_A a1 R)
    (hr : ∀ j, j < 16 → s + j * d < 256) (hinj : ∀ j j', j < 16 → j' < 16 → s + j * d = s + j' * d → j = j')
    (H : ∀ b1 b4 b5, (∀ j, j < 16 → b1 (s + j * d) = nI (bf_w g (fun j => R (s + j * d)) w j)) → (∀ k, (∀ j, j < 16 → k ≠ s + j * d) → b1 k = a1 k) → post (b1, a2, a3, b4, b5, a6, a7)) :
    wpX_filterLine post (a1, a2, a3, a4, a5, a6, a7) x1 x2 x3 x4 := by
  subst e1 e2 e3
  refine pk_loop (fun n i st => wX_filterLine_3 post (nI s) (nI d) (nI w) x4 n (nI i) a1 a2 a3 st a5 a6 a7) (fun i st => ∀ j, j < i → st j = a1 (s + j * d)) 16 0 a4 (by omega) (fun j z => absurd z (by omega)) ?_ ?_
  · intro n st HI
    refine pk_le 16 16 (fun _ => bf_43 (L := fun j => R (s + j * d)) hw hg (fun j hj => ?_) hr hinj (fun b1 b5 z1 z2 => H b1 st b5 z1 z2)) (fun z => absurd z (by omega))
    rw [HI j hj]
    exact h1 _ (hr j hj)
  · intro n i st hi HI hk
    have ep : nI s + nI i * nI d = nI (s + i * d) := by rw [pk_mul, nI_add]
    have hp := hr i hi
    refine pk_le 16 i (fun z => absurd z (by omega)) (fun _ => ⟨pk_in _ 256 hp ep, pk_in i 16 hi, nm_e (nm_r (nI_1 i) (hk _ ?_))⟩)
    exact bf_fill (f := fun j => a1 (s + j * d)) (nI_clamp (by omega)) HI (by rw [ep, nI_clamp (by omega)])
theorem bf_filter {post : St2 → Prop} {a1 a2 a3 a4 a5 a6 a7 : Nat → Int32} {R : Nat → Nat} {x1 x2 x3 : Int32} {g : Bool} {w h : Nat} (e1 : x1 = nI w) (e2 : x2 = nI h) (hg : x3 = nI (bf_gi g)) (hw : w ≤ 7) (hh : h ≤ 7) (h1 : bf_A a1 R)
    (H : ∀ b1 b4 b5, bf_A b1 (bf_f2 g w h R) → post (b1, a2, a3, b4, b5, a6, a7)) : wpX_filter post (a1, a2, a3, a4, a5, a6, a7) x1 x2 x3 := by
  have hB : ∀ k, k < 256 → R k < 1048576 := fun k hk => (h1 k hk).2
  have hB1 := bf_f1_b (g := g) (w := w) hB
  have hB2 := bf_fc_b (g := g) (w := h) hB1
  have cols : ∀ c1 c4 c5, bf_A c1 (bf_f1 g w R) → ∃ n, wX_filter_31 post x2 x3 n (nI 0) c1 a2 a3 c4 c5 a6 a7 := by
    intro c1 c4 c5 hc
    refine pk_loop (fun n i (st : (Nat → Int32) × (Nat → Int32) × (Nat → Int32)) => wX_filter_31 post x2 x3 n (nI i) st.1 a2 a3 st.2.1 st.2.2 a6 a7)
      (fun i st => bf_A st.1 (fun k => if k % 16 < i then bf_f2 g w h R k else bf_f1 g w R k)) 16 0 (c1, c4, c5) (by omega) (bf_A_c hc (fun k _ => (if_neg (by omega)).symm)) ?_ ?_
    · intro n st HI
      exact pk_le 16 16 (fun _ => H _ _ _ (bf_A_c HI (fun k _ => if_pos (by omega)))) (fun z => absurd z (by omega))
    · intro n i st hi HI hk
      refine pk_le 16 i (fun z => absurd z (by omega)) (fun _ => bf_line (g := g) (w := h) (s := i) (d := 16) rfl rfl e2 hg hh HI (fun j hj => by omega) (fun j j' _ _ e => by omega) (fun b1 b4 b5 z1 z2 => nm_r (nI_1 i) (hk (b1, b4, b5) ?_)))
      intro k hk2
      show b1 k = nI (if k % 16 < i + 1 then bf_f2 g w h R k else bf_f1 g w R k) ∧ (if k % 16 < i + 1 then bf_f2 g w h R k else bf_f1 g w R k) < 1048576
      by_cases e : k % 16 = i
      · rw [if_pos (by omega)]
        refine ⟨?_, hB2 k hk2⟩
        have z := z1 (k / 16) (by omega)
        rw [show i + k / 16 * 16 = k by omega] at z
        rw [z]
        congr 1
        show _ = bf_w g (fun s => bf_f1 g w R (s * 16 + k % 16)) h (k / 16)
        congr 1
        funext s
        show (if (i + s * 16) % 16 < i then bf_f2 g w h R (i + s * 16) else bf_f1 g w R (i + s * 16)) = _
        rw [if_neg (by omega), e, Nat.add_comm]
      · have z := z2 k (fun j _ => by omega)
        have HIk : st.1 k = nI (if k % 16 < i then bf_f2 g w h R k else bf_f1 g w R k) ∧ (if k % 16 < i then bf_f2 g w h R k else bf_f1 g w R k) < 1048576 := HI k hk2
        rw [z]
        by_cases e' : k % 16 < i
        · rw [if_pos (by omega)]
          rw [if_pos e'] at HIk
          exact HIk
        · rw [if_neg (by omega)]
          rw [if_neg e'] at HIk
          exact HIk
  refine pk_loop (fun n i (st : (Nat → Int32) × (Nat → Int32) × (Nat → Int32)) => wX_filter_3 post x1 x2 x3 n (nI i) st.1 a2 a3 st.2.1 st.2.2 a6 a7)
    (fun i st => bf_A st.1 (fun k => if k / 16 < i then bf_f1 g w R k else R k)) 16 0 (a1, a4, a5) (by omega) (bf_A_c h1 (fun k _ => (if_neg (by omega)).symm)) ?_ ?_
  · intro n st HI
    exact pk_le 16 16 (fun _ => cols _ _ _ (bf_A_c HI (fun k hk => if_pos (by omega)))) (fun z => absurd z (by omega))
  · intro n i st hi HI hk
    refine pk_le 16 i (fun z => absurd z (by omega)) (fun _ => bf_line (g := g) (w := w) (s := i * 16) (d := 1) (pk_mul i 16) rfl e1 hg hw HI (fun j hj => by omega) (fun j j' _ _ e => by omega) (fun b1 b4 b5 z1 z2 => nm_r (nI_1 i) (hk (b1, b4, b5) ?_)))
    intro k hk2
    show b1 k = nI (if k / 16 < i + 1 then bf_f1 g w R k else R k) ∧ (if k / 16 < i + 1 then bf_f1 g w R k else R k) < 1048576
    by_cases e : k / 16 = i
    · rw [if_pos (by omega)]
      refine ⟨?_, hB1 k hk2⟩
      have z := z1 (k % 16) (by omega)
      rw [show i * 16 + k % 16 * 1 = k by omega] at z
      rw [z]
      congr 1
      show _ = bf_w g (fun t => R (k / 16 * 16 + t)) w (k % 16)
      congr 1
      funext t
      show (if (i * 16 + t * 1) / 16 < i then bf_f1 g w R (i * 16 + t * 1) else R (i * 16 + t * 1)) = _
      rw [if_neg (by omega), e, Nat.mul_one]
    · have z := z2 k (fun j _ => by omega)
      have HIk : st.1 k = nI (if k / 16 < i then bf_f1 g w R k else R k) ∧ (if k / 16 < i then bf_f1 g w R k else R k) < 1048576 := HI k hk2
      rw [z]
      by_cases e' : k / 16 < i
      · rw [if_pos (by omega)]
        rw [if_pos e'] at HIk
        exact HIk
      · rw [if_neg (by omega)]
        rw [if_neg e'] at HIk
        exact HIk
end
section
theorem bf_size {post : Int32 → Prop} {x y : Int32} {w h : Nat} (e1 : x = nI w) (e2 : y = nI h) (hw : w ≤ 7) (hh : h ≤ 7) (H : post 0) : wpX_badSize post () x y := by
  subst e1 e2
  exact br_f (nI_pos (by omega)) (br_f (nI_nlt (a := 7) hw (by decide)) (br_f (nI_pos (by omega)) (br_t (nI_le (b := 7) hh (by decide)) H)))
section
variable {post : Int32 → St2 → Prop} {a1 a2 a3 a4 a5 a6 a7 : Nat → Int32} {R : Nat → Nat} {x y : Int32} {w h : Nat}
theorem bf_dilate (R' : Nat → Nat) (e1 : x = nI w) (e2 : y = nI h) (hw : w ≤ 7) (hh : h ≤ 7) (h1 : bf_A a1 R) (hR : ∀ k, k < 256 → bf_f2 true w h R k = R' k)
    (H : ∀ b1 b3 b4 b5, bf_A b1 R' → post (nI (bf_s (fun k => if R' k = R k then 0 else 1) 256)) (b1, a2, b3, b4, b5, a6, a7)) : wpX_dilate post (a1, a2, a3, a4, a5, a6, a7) x y := by
  unfold wpX_dilate
  exact bf_size e1 e2 hw hh (br_t rfl (bf_remember h1 (fun b3 h3 => bf_filter (g := true) e1 e2 rfl hw hh h1 (fun b1 b4 b5 hb => bf_changed (bf_A_c hb hR) h3 (H b1 b3 b4 b5 (bf_A_c hb hR))))))
theorem bf_erode (R' : Nat → Nat) (e1 : x = nI w) (e2 : y = nI h) (hw : w ≤ 7) (hh : h ≤ 7) (h1 : bf_A a1 R) (hR : ∀ k, k < 256 → bf_f2 false w h R k = R' k)
    (H : ∀ b1 b3 b4 b5, bf_A b1 R' → post (nI (bf_s (fun k => if R' k = R k then 0 else 1) 256)) (b1, a2, b3, b4, b5, a6, a7)) : wpX_erode post (a1, a2, a3, a4, a5, a6, a7) x y := by
  unfold wpX_erode
  exact bf_size e1 e2 hw hh (br_t rfl (bf_remember h1 (fun b3 h3 => bf_filter (g := false) e1 e2 rfl hw hh h1 (fun b1 b4 b5 hb => bf_changed (bf_A_c hb hR) h3 (H b1 b3 b4 b5 (bf_A_c hb hR))))))
theorem bf_opn (R1 R' : Nat → Nat) (e1 : x = nI w) (e2 : y = nI h) (hw : w ≤ 7) (hh : h ≤ 7) (h1 : bf_A a1 R) (hR1 : ∀ k, k < 256 → bf_f2 false w h R k = R1 k) (hR : ∀ k, k < 256 → bf_f2 true w h R1 k = R' k)
    (H : ∀ b1 b3 b4 b5, bf_A b1 R' → post (nI (bf_s (fun k => if R' k = R k then 0 else 1) 256)) (b1, a2, b3, b4, b5, a6, a7)) : wpX_open post (a1, a2, a3, a4, a5, a6, a7) x y := by
  unfold wpX_open
  exact bf_size e1 e2 hw hh (br_t rfl (bf_remember h1 (fun b3 h3 => bf_filter (g := false) e1 e2 rfl hw hh h1 (fun b1 b4 b5 hb => bf_filter (g := true) e1 e2 rfl hw hh (bf_A_c hb hR1) (fun d1 d4 d5 hd => bf_changed (bf_A_c hd hR) h3 (H d1 b3 d4 d5 (bf_A_c hd hR)))))))
theorem bf_close (R1 R' : Nat → Nat) (e1 : x = nI w) (e2 : y = nI h) (hw : w ≤ 7) (hh : h ≤ 7) (h1 : bf_A a1 R) (hR1 : ∀ k, k < 256 → bf_f2 true w h R k = R1 k) (hR : ∀ k, k < 256 → bf_f2 false w h R1 k = R' k)
    (H : ∀ b1 b3 b4 b5, bf_A b1 R' → post (nI (bf_s (fun k => if R' k = R k then 0 else 1) 256)) (b1, a2, b3, b4, b5, a6, a7)) : wpX_close post (a1, a2, a3, a4, a5, a6, a7) x y := by
  unfold wpX_close
  exact bf_size e1 e2 hw hh (br_t rfl (bf_remember h1 (fun b3 h3 => bf_filter (g := true) e1 e2 rfl hw hh h1 (fun b1 b4 b5 hb => bf_filter (g := false) e1 e2 rfl hw hh (bf_A_c hb hR1) (fun d1 d4 d5 hd => bf_changed (bf_A_c hd hR) h3 (H d1 b3 d4 d5 (bf_A_c hd hR)))))))
end
end
section
/-- the sum of all pixels above i and left of j -/
def bf_S (R : Nat → Nat) (i j : Nat) : Nat := bf_s (fun s => bf_s (fun t => R (s * 16 + t)) j) i
/-- the border of the sums is zero -/
def bf_Z (a : Nat → Int32) : Prop := (∀ k, k < 17 → a k = nI 0) ∧ (∀ i, i ≤ 16 → a (i * 17) = nI 0)
theorem bf_S_0 (R : Nat → Nat) (i : Nat) : bf_S R i 0 = 0 := bf_s_0 (fun _ _ => rfl)
theorem bf_Z_of {R : Nat → Nat} {a : Nat → Int32} (h : ∀ i j, i ≤ 16 → j ≤ 16 → a (i * 17 + j) = nI (bf_S R i j)) : bf_Z a := by
  refine ⟨fun k hk => ?_, fun i hi => ?_⟩
  · have z := h 0 k (by omega) (by omega)
    rw [show 0 * 17 + k = k by omega] at z
    exact z
  · have z := h i 0 hi (by omega)
    rw [bf_S_0] at z
    exact z
theorem bf_fills {post : St2 → Prop} {a1 a2 a3 a4 a5 a6 a7 : Nat → Int32} {R : Nat → Nat} (h1 : bf_A a1 R) (hz : bf_Z a6)
    (H : ∀ b6, (∀ i j, i ≤ 16 → j ≤ 16 → b6 (i * 17 + j) = nI (bf_S R i j)) → post (a1, a2, a3, a4, a5, b6, a7)) : wpX_fillSums post (a1, a2, a3, a4, a5, a6, a7) := by
  have inner : ∀ (J2 : Int32 → (Nat → Int32) → (Nat → Int32) → (Nat → Int32) → (Nat → Int32) → (Nat → Int32) → (Nat → Int32) → (Nat → Int32) → Prop) (r : Nat) (b6 : Nat → Int32), r < 16 → ((∀ i j, i ≤ r → j ≤ 16 → b6 (i * 17 + j) = nI (bf_S R i j)) ∧ (∀ i, i ≤ 16 → b6 (i * 17) = nI 0)) →
      (∀ b, ((∀ i j, i ≤ r + 1 → j ≤ 16 → b (i * 17 + j) = nI (bf_S R i j)) ∧ (∀ i, i ≤ 16 → b (i * 17) = nI 0)) → J2 (nI (r + 1)) a1 a2 a3 a4 a5 b a7) → ∃ n, wX_fillSums_12 post J2 (nI r) n (nI 0) (nI 0) a1 a2 a3 a4 a5 b6 a7 := by
    intro J2 r b6 hr hI HJ
    refine pk_loop (fun n c (st : Int32 × (Nat → Int32)) => wX_fillSums_12 post J2 (nI r) n st.1 (nI c) a1 a2 a3 a4 a5 st.2 a7)
      (fun c st => st.1 = nI (bf_s (fun t => R (r * 16 + t)) c) ∧ (∀ i j, i ≤ r → j ≤ 16 → st.2 (i * 17 + j) = nI (bf_S R i j)) ∧ (∀ i, i ≤ 16 → st.2 (i * 17) = nI 0) ∧ (∀ j, j ≤ c → st.2 ((r + 1) * 17 + j) = nI (bf_S R (r + 1) j)))
      16 0 (nI 0, b6) (by omega) ⟨rfl, hI.1, hI.2, fun j hj => ?_⟩ ?_ ?_
    · rw [show j = 0 by omega, bf_S_0]
      exact hI.2 (r + 1) (by omega)
    · intro n st hst
      obtain ⟨_, s2, s3, s4⟩ := hst
      refine pk_le 16 16 (fun _ => nm_r (nI_1 r) (HJ _ ⟨fun i j hi hj => ?_, s3⟩)) (fun z => absurd z (by omega))
      by_cases e : i ≤ r
      · exact s2 i j e hj
      · rw [show i = r + 1 by omega]
        exact s4 j hj
    · intro n c st hc hst hk
      obtain ⟨x, b⟩ := st
      obtain ⟨s1, s2, s3, s4⟩ := hst
      dsimp only at s1 s2 s3 s4
      have e1 : nI r * 16 + nI c = nI (r * 16 + c) := bf_rc r c rfl rfl
      have e2 : nI r * 17 + nI c + 1 = nI (r * 17 + c + 1) := by rw [show (17 : Int32) = nI 17 from rfl, pk_mul, nI_add, nI_1]
      have e3 : (nI r + 1) * 17 + nI c + 1 = nI ((r + 1) * 17 + c + 1) := by rw [nI_1 r, show (17 : Int32) = nI 17 from rfl, pk_mul, nI_add, nI_1]
      have ex : x + a1 (nI r * 16 + nI c).toNatClampNeg = nI (bf_s (fun t => R (r * 16 + t)) (c + 1)) := by
        rw [e1, bf_at h1 (by omega), s1, nI_add]
        rfl
      have ev : b (nI r * 17 + nI c + 1).toNatClampNeg + nI (bf_s (fun t => R (r * 16 + t)) (c + 1)) = nI (bf_S R (r + 1) (c + 1)) := by
        rw [e2, nI_clamp (by omega), Nat.add_assoc, s2 r (c + 1) (by omega) (by omega), nI_add]
        rfl
      refine pk_le 16 c (fun z => absurd z (by omega)) (fun _ => ⟨pk_in _ 256 (by omega) e1, nm_r ex ⟨pk_in _ 289 (by omega) e2, pk_in _ 289 (by omega) e3, nm_e (nm_r (nI_1 c) (hk (_, _) ⟨rfl, fun i j hi hj => ?_, fun i hi => ?_, fun j hj => ?_⟩))⟩⟩)
      · show upd b _ _ (i * 17 + j) = _
        rw [e3, nI_clamp (by omega), pk_un (by omega)]
        exact s2 i j hi hj
      · show upd b _ _ (i * 17) = _
        rw [e3, nI_clamp (by omega), pk_un (by omega)]
        exact s3 i hi
      · show upd b _ _ ((r + 1) * 17 + j) = _
        rw [e3, nI_clamp (by omega)]
        by_cases e : j = c + 1
        · rw [e, ← Nat.add_assoc, pk_us]
          exact ev
        · rw [pk_un (by omega)]
          exact s4 j (by omega)
  refine pk_loop (fun n r b => wX_fillSums_2 post n (nI r) a1 a2 a3 a4 a5 b a7) (fun r b => (∀ i j, i ≤ r → j ≤ 16 → b (i * 17 + j) = nI (bf_S R i j)) ∧ (∀ i, i ≤ 16 → b (i * 17) = nI 0)) 16 0 a6 (by omega) ⟨fun i j hi hj => ?_, hz.2⟩ ?_ ?_
  · rw [show i = 0 by omega, show 0 * 17 + j = j by omega]
    exact hz.1 j (by omega)
  · intro n b hb
    exact pk_le 16 16 (fun _ => H b hb.1) (fun z => absurd z (by omega))
  · intro n r b hr hb hk
    exact pk_le 16 r (fun z => absurd z (by omega)) (fun _ => inner _ r b hr hb (fun b' hb' => hk b' hb'))
/-- the sum over the rows t .. b - 1 and the columns l .. r - 1 -/
def bf_mw (R : Nat → Nat) (t b l r : Nat) : Nat := bf_s (fun s => bf_s (fun u => R ((t + s) * 16 + (l + u))) (r - l)) (b - t)
theorem bf_S_4 (R : Nat → Nat) {t b l r : Nat} (h1 : t ≤ b) (h2 : l ≤ r) : bf_S R b r + bf_S R t l = bf_mw R t b l r + bf_S R t r + bf_S R b l := by
  have hb : ∀ x, bf_S R b x = bf_S R t x + bf_s (fun s => bf_s (fun u => R ((t + s) * 16 + u)) x) (b - t) := by
    intro x
    have z := bf_s_add (fun s => bf_s (fun u => R (s * 16 + u)) x) t (b - t)
    rw [show t + (b - t) = b by omega] at z
    exact z
  have hr : bf_s (fun s => bf_s (fun u => R ((t + s) * 16 + u)) r) (b - t) = bf_s (fun s => bf_s (fun u => R ((t + s) * 16 + u)) l) (b - t) + bf_mw R t b l r := by
    unfold bf_mw
    rw [← bf_s_plus]
    refine bf_s_c (fun s _ => ?_)
    have z := bf_s_add (fun u => R ((t + s) * 16 + u)) l (r - l)
    rw [show l + (r - l) = r by omega] at z
    exact z
  rw [hb r, hb l, hr]
  omega
theorem bf_n4 {A B C D W : Nat} (E : A + D = W + B + C) : nI A - nI B - nI C + nI D = nI W := by
  have z : nI (A + D) = nI (W + B + C) := congrArg nI E
  rw [← nI_add, ← nI_add, ← nI_add] at z
  grind
theorem bf_mw_le {R : Nat → Nat} (hB : ∀ k, k < 256 → R k < 1048576) {t b l r : Nat} (hb : b ≤ 16) (hr : r ≤ 16) : bf_mw R t b l r ≤ (b - t) * (r - l) * 1048575 := by
  rw [Nat.mul_assoc]
  refine bf_s_le (fun s hs => bf_s_le (fun u hu => ?_))
  have z := hB ((t + s) * 16 + (l + u)) (by omega)
  omega
theorem bf_wn1 {post : Int32 → Prop} {a b : Nat} (ha : a < 16) (hb : b ≤ 7) (H : post (nI (a - b))) : wpX_within post () (nI a - nI b) := by
  by_cases h : b ≤ a
  · rw [pk_sub h]
    exact br_t (nI_pos' (by omega)) (br_t (nI_le (b := 16) (by omega) (by decide)) H)
  · refine br_f (fun z => ?_) ?_
    · have y := pk_sneg (a := a) (b := b) (by omega) (by omega)
      rw [Int32.le_iff_toInt_le] at z
      rw [Int32.lt_iff_toInt_lt] at y
      omega
    · rw [show a - b = 0 by omega] at H
      exact H
theorem bf_wn2 {post : Int32 → Prop} {a b : Nat} (ha : a < 16) (hb : b ≤ 7) (H : post (nI (min 16 (a + b + 1)))) : wpX_within post () (nI a + nI b + 1) := by
  rw [nI_add, nI_1]
  refine br_t (nI_pos' (by omega)) (pk_le (a + b + 1) 16 (fun z => ?_) (fun z => ?_))
  · rw [show min 16 (a + b + 1) = a + b + 1 by omega] at H
    exact H
  · rw [show min 16 (a + b + 1) = 16 by omega] at H
    exact H
/-- the mean of a window -/
def bf_mn (w h : Nat) (R : Nat → Nat) : Nat → Nat := fun k =>
  bf_mw R (k / 16 - h) (min 16 (k / 16 + h + 1)) (k % 16 - w) (min 16 (k % 16 + w + 1)) / ((min 16 (k / 16 + h + 1) - (k / 16 - h)) * (min 16 (k % 16 + w + 1) - (k % 16 - w)))
theorem bf_mn_b {R : Nat → Nat} (hB : ∀ k, k < 256 → R k < 1048576) {w h k : Nat} (hk : k < 256) : bf_mn w h R k < 1048576 := by
  have z : bf_mn w h R k ≤ 1048575 := Nat.div_le_of_le_mul (bf_mw_le hB (by omega) (by omega))
  omega
theorem bf_core {post : Int32 → Prop} {a6 : Nat → Int32} {R : Nat → Nat} {t b l r : Nat} (ht : t < b) (hb : b ≤ 16) (hl : l < r) (hr : r ≤ 16) (hB : ∀ k, k < 256 → R k < 1048576) (h6 : ∀ i j, i ≤ 16 → j ≤ 16 → a6 (i * 17 + j) = nI (bf_S R i j))
    (H : post (nI (bf_mw R t b l r / ((b - t) * (r - l))))) :
    ∀ x9 : Int32, x9 = (nI b - nI t) * (nI r - nI l) → (vp_in ((nI b * 17) + nI r) 289 ∧ (vp_in ((nI t * 17) + nI r) 289 ∧ (vp_in ((nI b * 17) + nI l) 289 ∧ (vp_in ((nI t * 17) + nI l) 289 ∧
      (∀ x10 : Int32, x10 = (((a6 ((nI b * 17) + nI r).toNatClampNeg) - (a6 ((nI t * 17) + nI r).toNatClampNeg)) - (a6 ((nI b * 17) + nI l).toNatClampNeg)) + (a6 ((nI t * 17) + nI l).toNatClampNeg) → (((x9 ≤ 0 → (post 0)) ∧ (¬ x9 ≤ 0 → (¬ x9 = 0 ∧ (post (x10 / x9))))))))))) := by
  have ei : ∀ i j, nI i * 17 + nI j = nI (i * 17 + j) := fun i j => by rw [show (17 : Int32) = nI 17 from rfl, pk_mul, nI_add]
  have ea : ∀ i j, i ≤ 16 → j ≤ 16 → a6 ((nI i * 17) + nI j).toNatClampNeg = nI (bf_S R i j) := fun i j hi hj => by
    rw [ei, nI_clamp (by omega)]
    exact h6 i j hi hj
  have hin : ∀ i j, i ≤ 16 → j ≤ 16 → vp_in ((nI i * 17) + nI j) 289 := fun i j hi hj => by
    rw [ei]
    exact vp_in_nI (by omega) (by omega)
  have hc1 : 1 ≤ (b - t) * (r - l) := Nat.mul_le_mul (show 1 ≤ b - t by omega) (show 1 ≤ r - l by omega)
  have hc2 : (b - t) * (r - l) ≤ 16 * 16 := Nat.mul_le_mul (by omega) (by omega)
  have hW := bf_mw_le hB (t := t) (l := l) hb hr
  have hW2 : (b - t) * (r - l) * 1048575 ≤ 16 * 16 * 1048575 := Nat.mul_le_mul hc2 (Nat.le_refl _)
  rw [ea b r hb hr, ea t r (by omega) hr, ea b l hb (by omega), ea t l (by omega) (by omega), pk_sub (by omega), pk_sub (by omega), pk_mul, bf_n4 (bf_S_4 R (Nat.le_of_lt ht) (Nat.le_of_lt hl))]
  refine nm_e ⟨hin b r hb hr, hin t r (by omega) hr, hin b l hb (by omega), hin t l (by omega) (by omega), nm_e (br_f (nI_nle (by omega) (by omega)) ⟨nI_ne0 (by omega) (by omega), ?_⟩)⟩
  rw [pk_div (by omega) (by omega) (by omega)]
  exact H
theorem bf_meanAt {post : Int32 → Prop} {a1 a2 a3 a4 a5 a6 a7 : Nat → Int32} {R : Nat → Nat} {x y z v : Int32} {k w h : Nat} (hk : k < 256) (ex : x = nI (k / 16)) (ey : y = nI (k % 16)) (ez : z = nI w) (ev : v = nI h) (hw : w ≤ 7) (hh : h ≤ 7)
    (hB : ∀ k, k < 256 → R k < 1048576) (h6 : ∀ i j, i ≤ 16 → j ≤ 16 → a6 (i * 17 + j) = nI (bf_S R i j)) (H : post (nI (bf_mn w h R k))) : wpX_meanAt post (a1, a2, a3, a4, a5, a6, a7) x y z v := by
  subst ex ey ez ev
  unfold wpX_meanAt
  exact bf_wn1 (by omega) hh (bf_wn2 (by omega) hh (bf_wn1 (by omega) hw (bf_wn2 (by omega) hw (bf_core (by omega) (by omega) (by omega) (by omega) hB h6 H))))
theorem bf_mean {post : Int32 → St2 → Prop} {a1 a2 a3 a4 a5 a6 a7 : Nat → Int32} {R : Nat → Nat} {x y : Int32} {w h : Nat} (ex : x = nI w) (ey : y = nI h) (hw : w ≤ 7) (hh : h ≤ 7) (h1 : bf_A a1 R) (hz : bf_Z a6)
    (H : ∀ b1 b3 b6, bf_A b1 (bf_mn w h R) → bf_Z b6 → post (nI (bf_s (fun k => if bf_mn w h R k = R k then 0 else 1) 256)) (b1, a2, b3, a4, a5, b6, a7)) : wpX_mean post (a1, a2, a3, a4, a5, a6, a7) x y := by
  have hB : ∀ k, k < 256 → R k < 1048576 := fun k hk => (h1 k hk).2
  unfold wpX_mean
  refine bf_size ex ey hw hh (br_t rfl (bf_remember h1 (fun b3 h3 => bf_fills h1 hz (fun b6 h6 => ?_))))
  refine pk_loop (fun n i c1 => wX_mean_21 post x y n (nI i) c1 a2 b3 a4 a5 b6 a7) (fun i c1 => ∀ j, j < i → c1 j = nI (bf_mn w h R j)) 256 0 a1 (by omega) (fun j hj => absurd hj (by omega)) ?_ ?_
  · intro n c1 hc
    have hA : bf_A c1 (bf_mn w h R) := fun k hk => ⟨hc k hk, bf_mn_b hB hk⟩
    exact pk_le 256 256 (fun _ => bf_changed hA h3 (H c1 b3 b6 hA (bf_Z_of h6))) (fun z => absurd z (by omega))
  · intro n i c1 hi hc hk
    refine pk_le 256 i (fun z => absurd z (by omega)) (fun _ => ⟨by decide, by decide, bf_meanAt hi (pk_div (d := 16) (by omega) (by omega) (by omega)) (pk_rem (d := 16) (by omega) (by omega) (by omega)) ex ey hw hh hB h6 ⟨pk_in i 256 hi, nm_e (nm_r (nI_1 i) (hk _ ?_))⟩⟩)
    exact bf_fill (f := fun j => nI (bf_mn w h R j)) (nI_clamp (by omega)) hc rfl
theorem bf_mean_bad {post : Int32 → St2 → Prop} {u : St2} {x y : Int32} (h : (7 < x ∧ ¬ x < 0) ∨ (¬ x < 0 ∧ ¬ 7 < x ∧ y < 0)) (H : post (-3) u) : wpX_mean post u x y := by
  obtain ⟨a1, a2, a3, a4, a5, a6, a7⟩ := u
  rcases h with ⟨h1, h2⟩ | ⟨h1, h2, h3⟩
  · exact br_f h2 (br_t h1 (br_f (by decide) H))
  · exact br_f h1 (br_f h2 (br_t h3 (br_f (by decide) H)))
end
section
/-- the root of a label -/
def bf_fd (l : Nat → Nat) : Nat → Nat → Nat
  | 0, k => k
  | n + 1, k => if l k < k then bf_fd l n (l k) else k
theorem bf_fd_le (l : Nat → Nat) : ∀ n k, bf_fd l n k ≤ k := by
  intro n
  induction n with
  | zero => exact fun k => Nat.le_refl k
  | succ n ih =>
    intro k
    show (if l k < k then bf_fd l n (l k) else k) ≤ k
    by_cases h : l k < k
    · rw [if_pos h]
      have := ih (l k)
      omega
    · rw [if_neg h]
      exact Nat.le_refl k
/-- two labels joined; the number of joins -/
def bf_j (i k : Nat) (s : (Nat → Nat) × Nat) : (Nat → Nat) × Nat :=
  if bf_fd s.1 256 i = bf_fd s.1 256 k then s else (fun x => if x = max (bf_fd s.1 256 i) (bf_fd s.1 256 k) then min (bf_fd s.1 256 i) (bf_fd s.1 256 k) else s.1 x, s.2 + 1)
def bf_p1 (P : Nat → Bool) (i : Nat) (s : (Nat → Nat) × Nat) : (Nat → Nat) × Nat := if 0 < i % 16 ∧ P (i - 1) = true then bf_j i (i - 1) s else s
def bf_p2 (P : Nat → Bool) (i : Nat) (s : (Nat → Nat) × Nat) : (Nat → Nat) × Nat := if 16 ≤ i ∧ P (i - 16) = true then bf_j i (i - 16) s else s
def bf_p (P : Nat → Bool) (i : Nat) (s : (Nat → Nat) × Nat) : (Nat → Nat) × Nat := if P i = true then bf_p2 P i (bf_p1 P i s) else s
def bf_run (P : Nat → Bool) : Nat → (Nat → Nat) × Nat
  | 0 => (fun k => k, 0)
  | i + 1 => bf_p P i (bf_run P i)
theorem bf_j_hi {i k m : Nat} {s : (Nat → Nat) × Nat} (hi : i < m) (hk : k < m) (h : ∀ x, m ≤ x → s.1 x = x) : ∀ x, m ≤ x → (bf_j i k s).1 x = x := by
  intro x hx
  unfold bf_j
  have h1 := bf_fd_le s.1 256 i
  have h2 := bf_fd_le s.1 256 k
  by_cases e : bf_fd s.1 256 i = bf_fd s.1 256 k
  · rw [if_pos e]
    exact h x hx
  · rw [if_neg e]
    show (if x = max (bf_fd s.1 256 i) (bf_fd s.1 256 k) then min (bf_fd s.1 256 i) (bf_fd s.1 256 k) else s.1 x) = x
    rw [if_neg (by omega)]
    exact h x hx
theorem bf_run_hi (P : Nat → Bool) : ∀ i x, i ≤ x → (bf_run P i).1 x = x := by
  intro i
  induction i with
  | zero => exact fun _ _ => rfl
  | succ i ih =>
    show ∀ x, i + 1 ≤ x → (bf_p P i (bf_run P i)).1 x = x
    have h0 : ∀ x, i + 1 ≤ x → (bf_run P i).1 x = x := fun x hx => ih x (by omega)
    have h1 : ∀ x, i + 1 ≤ x → (bf_p1 P i (bf_run P i)).1 x = x := by
      unfold bf_p1
      by_cases c : 0 < i % 16 ∧ P (i - 1) = true
      · rw [if_pos c]
        exact bf_j_hi (by omega) (by omega) h0
      · rw [if_neg c]
        exact h0
    have h2 : ∀ x, i + 1 ≤ x → (bf_p2 P i (bf_p1 P i (bf_run P i))).1 x = x := by
      unfold bf_p2
      by_cases c : 16 ≤ i ∧ P (i - 16) = true
      · rw [if_pos c]
        exact bf_j_hi (by omega) (by omega) h1
      · rw [if_neg c]
        exact h1
    unfold bf_p
    by_cases c : P i = true
    · rw [if_pos c]
      exact h2
    · rw [if_neg c]
      exact h0
theorem bf_find {post : Int32 → Prop} {a1 a2 a3 a4 a5 a6 a7 : Nat → Int32} {l : Nat → Nat} {m : Nat} (hm : m ≤ 256) (hl : ∀ k, k < m → a7 k = nI (l k) ∧ l k ≤ k) : ∀ n k, k ≤ n → k < m → post (nI (bf_fd l n k)) → wX_find_2 post a1 a2 a3 a4 a5 a6 a7 (n + 1) (nI k) := by
  intro n
  induction n with
  | zero =>
    intro k h1 h2 H
    have hk := hl k h2
    have e : a7 (nI k).toNatClampNeg = nI (l k) := by
      rw [nI_clamp (by omega)]
      exact hk.1
    have hk2 := hk.2
    exact ⟨pk_in k 256 (by omega), pk_le k (l k) (fun _ => H) (fun z => absurd z (by omega)) rfl e⟩
  | succ n ih =>
    intro k h1 h2 H
    have hk := hl k h2
    have e : a7 (nI k).toNatClampNeg = nI (l k) := by
      rw [nI_clamp (by omega)]
      exact hk.1
    have hk2 := hk.2
    have H' : post (nI (if l k < k then bf_fd l n (l k) else k)) := H
    refine ⟨pk_in k 256 (by omega), pk_le k (l k) (fun z => ?_) (fun z => ⟨pk_in k 256 (by omega), nm_r e (ih (l k) (by omega) (by omega) ?_)⟩) rfl e⟩
    · rw [if_neg (by omega)] at H'
      exact H'
    · rw [if_pos z] at H'
      exact H'
theorem bf_findw {post : Int32 → Prop} {a1 a2 a3 a4 a5 a6 a7 : Nat → Int32} {l : Nat → Nat} {m k : Nat} {x : Int32} (ex : x = nI k) (hm : m ≤ 256) (hk : k < m) (hl : ∀ k, k < m → a7 k = nI (l k) ∧ l k ≤ k) (H : post (nI (bf_fd l 256 k))) : wpX_find post (a1, a2, a3, a4, a5, a6, a7) x := by
  subst ex
  exact ⟨257, bf_find hm hl 256 k (by omega) hk H⟩
theorem bf_join {post : Int32 → St2 → Prop} {a1 a2 a3 a4 a5 a6 a7 : Nat → Int32} {s : (Nat → Nat) × Nat} {m i k : Nat} {x y : Int32} (ex : x = nI i) (ey : y = nI k) (hm : m ≤ 256) (hi : i < m) (hk : k < m) (hl : ∀ k, k < m → a7 k = nI (s.1 k) ∧ s.1 k ≤ k)
    (H0 : bf_j i k s = s → post 0 (a1, a2, a3, a4, a5, a6, a7))
    (H1 : ∀ b7, (∀ v, v < m → b7 v = nI ((bf_j i k s).1 v) ∧ (bf_j i k s).1 v ≤ v) → (bf_j i k s).2 = s.2 + 1 → post 1 (a1, a2, a3, a4, a5, a6, b7)) : wpX_join post (a1, a2, a3, a4, a5, a6, a7) x y := by
  have hA := bf_fd_le s.1 256 i
  have hB := bf_fd_le s.1 256 k
  have jn : bf_fd s.1 256 i ≠ bf_fd s.1 256 k → bf_j i k s = (fun x => if x = max (bf_fd s.1 256 i) (bf_fd s.1 256 k) then min (bf_fd s.1 256 i) (bf_fd s.1 256 k) else s.1 x, s.2 + 1) := fun e => if_neg e
  have je : bf_fd s.1 256 i = bf_fd s.1 256 k → bf_j i k s = s := fun e => if_pos e
  unfold wpX_join
  refine bf_findw ex hm hi hl (bf_findw ey hm hk hl ?_)
  generalize bf_fd s.1 256 i = A at *
  generalize bf_fd s.1 256 k = B at *
  refine pk_eq A B (fun e => H0 (je e)) (fun ne => ?_)
  have jn' := jn ne
  refine pk_le B A (fun z => ⟨pk_in A 256 (by omega), nm_e (H1 _ (fun v hv => ?_) (by rw [jn']))⟩) (fun z => ⟨pk_in B 256 (by omega), nm_e (H1 _ (fun v hv => ?_) (by rw [jn']))⟩)
  · rw [jn', nI_clamp (by omega)]
    show upd a7 A (nI B) v = nI (if v = max A B then min A B else s.1 v) ∧ (if v = max A B then min A B else s.1 v) ≤ v
    by_cases e : v = A
    · rw [if_pos (by omega), e, pk_us, show min A B = B by omega]
      exact ⟨rfl, z⟩
    · rw [if_neg (by omega), pk_un e]
      exact hl v hv
  · rw [jn', nI_clamp (by omega)]
    show upd a7 B (nI A) v = nI (if v = max A B then min A B else s.1 v) ∧ (if v = max A B then min A B else s.1 v) ≤ v
    by_cases e : v = B
    · rw [if_pos (by omega), e, pk_us, show min A B = A by omega]
      exact ⟨rfl, by omega⟩
    · rw [if_neg (by omega), pk_un e]
      exact hl v hv
theorem bf_m1 (c e : Nat) : nI c - nI e + (-1) = nI c - nI (e + 1) := by
  rw [← nI_1 e]
  grind
theorem bf_a1 (c e : Nat) : nI c - nI e + 1 = nI (c + 1) - nI e := by
  rw [← nI_1 c]
  grind
theorem bf_62 {post : Int32 → St2 → Prop} {J4 : Int32 → Int32 → (Nat → Int32) → (Nat → Int32) → (Nat → Int32) → (Nat → Int32) → (Nat → Int32) → (Nat → Int32) → (Nat → Int32) → Prop} {a1 a2 a3 a4 a5 a6 a7 : Nat → Int32} {R : Nat → Nat} {P : Nat → Bool} {s : (Nat → Nat) × Nat} {c i : Nat} {x : Int32}
    (hx : x = nI c - nI s.2) (hi : i < 256) (h1 : bf_A a1 R) (hP : ∀ k, k < 256 → (0 < R k ↔ P k = true)) (hl : ∀ k, k < i + 1 → a7 k = nI (s.1 k) ∧ s.1 k ≤ k)
    (HJ : ∀ b7, (∀ k, k < i + 1 → b7 k = nI ((bf_p2 P i s).1 k) ∧ (bf_p2 P i s).1 k ≤ k) → J4 (nI c - nI (bf_p2 P i s).2) (nI (i + 1)) a1 a2 a3 a4 a5 a6 b7) :
    wX_patches_62 post J4 x (nI i) a1 a2 a3 a4 a5 a6 a7 := by
  subst hx
  have key : bf_p2 P i s = s → J4 (nI c - nI s.2) (nI (i + 1)) a1 a2 a3 a4 a5 a6 a7 := fun e => by
    have z := HJ a7 (by rw [e]; exact hl)
    rw [e] at z
    exact z
  refine pk_lt i 16 (fun z => nm_r (nI_1 i) (key (if_neg (by omega)))) (fun z => ⟨pk_in (i - 16) 256 (by omega) (pk_sub z), ?_⟩)
  have e16 : a1 (nI i - 16).toNatClampNeg = nI (R (i - 16)) := by
    rw [show nI i - 16 = nI (i - 16) from pk_sub z]
    exact bf_at h1 (by omega)
  have b16 := (h1 (i - 16) (by omega)).2
  have p16 := hP (i - 16) (by omega)
  refine pk_le (R (i - 16)) 0 (fun y => nm_r (nI_1 i) (key (if_neg (fun q => absurd (p16.mpr q.2) (by omega))))) (fun y => ?_) e16 rfl
  have ep : bf_p2 P i s = bf_j i (i - 16) s := if_pos ⟨z, p16.mp y⟩
  refine bf_join (m := i + 1) rfl (pk_sub z) (by omega) (by omega) (by omega) hl (fun e => br_t rfl (nm_r (nI_1 i) (key (ep.trans e)))) (fun b7 hb e2 => br_f (by decide) (nm_r (bf_m1 c s.2) (nm_r (nI_1 i) ?_)))
  have w := HJ b7 (by rw [ep]; exact hb)
  rw [ep, e2] at w
  exact w
theorem bf_patches {post : Int32 → St2 → Prop} {a1 a2 a3 a4 a5 a6 a7 : Nat → Int32} {R : Nat → Nat} (P : Nat → Bool) (h1 : bf_A a1 R) (hP : ∀ k, k < 256 → (0 < R k ↔ P k = true))
    (H : ∀ b7, post (nI (bf_s (fun k => if P k = true then 1 else 0) 256) - nI (bf_run P 256).2) (a1, a2, a3, a4, a5, a6, b7)) : wpX_patches post (a1, a2, a3, a4, a5, a6, a7) := by
  refine pk_loop (fun n i (st : Int32 × (Nat → Int32)) => wX_patches_4 post n st.1 (nI i) a1 a2 a3 a4 a5 a6 st.2)
    (fun i st => st.1 = nI (bf_s (fun k => if P k = true then 1 else 0) i) - nI (bf_run P i).2 ∧ (∀ k, k < i → st.2 k = nI ((bf_run P i).1 k) ∧ (bf_run P i).1 k ≤ k)) 256 0 (nI 0, a7) (by omega) ⟨show nI 0 = nI 0 - nI 0 by decide, fun k hk => absurd hk (by omega)⟩ ?_ ?_
  · intro n st hst
    refine pk_le 256 256 (fun _ => ?_) (fun z => absurd z (by omega))
    rw [hst.1]
    exact H st.2
  · intro n i st hi hst hk
    obtain ⟨x, b⟩ := st
    obtain ⟨s1, s2⟩ := hst
    dsimp only at s1 s2
    have hhi := bf_run_hi P i i (Nat.le_refl i)
    have hl : ∀ k, k < i + 1 → upd b (nI i).toNatClampNeg (nI i) k = nI ((bf_run P i).1 k) ∧ (bf_run P i).1 k ≤ k := by
      intro k hk
      rw [nI_clamp (by omega)]
      by_cases e : k = i
      · rw [e, pk_us, hhi]
        exact ⟨rfl, Nat.le_refl i⟩
      · rw [pk_un e]
        exact s2 k (by omega)
    have pi := hP i hi
    have bi := (h1 i hi).2
    have fin : ∀ x' b', x' = nI (bf_s (fun k => if P k = true then 1 else 0) (i + 1)) - nI (bf_p P i (bf_run P i)).2 → (∀ k, k < i + 1 → b' k = nI ((bf_p P i (bf_run P i)).1 k) ∧ (bf_p P i (bf_run P i)).1 k ≤ k) → wX_patches_4 post n x' (nI (i + 1)) a1 a2 a3 a4 a5 a6 b' := fun x' b' e1 e2 => hk (x', b') ⟨e1, e2⟩
    refine pk_le 256 i (fun z => absurd z (by omega)) (fun _ => ⟨pk_in i 256 hi, nm_e ⟨pk_in i 256 hi, pk_le (R i) 0 (fun y => nm_r (nI_1 i) ?_) (fun y => ?_) (bf_at h1 hi) rfl⟩⟩)
    · have np : ¬ P i = true := fun q => absurd (pi.mpr q) (by omega)
      have ep : bf_p P i (bf_run P i) = bf_run P i := if_neg np
      refine fin _ _ ?_ (by rw [ep]; exact hl)
      show x = _
      rw [ep, s1, bf_s0 (f := fun k => if P k = true then 1 else 0) (if_neg np)]
    · have pp : P i = true := pi.mp y
      have ep : bf_p P i (bf_run P i) = bf_p2 P i (bf_p1 P i (bf_run P i)) := if_pos pp
      rw [ep] at fin
      have ec : x + 1 = nI (bf_s (fun k => if P k = true then 1 else 0) (i + 1)) - nI (bf_run P i).2 := by
        rw [s1, bf_a1]
        show _ = nI (bf_s (fun k => if P k = true then 1 else 0) i + (if P i = true then 1 else 0)) - _
        rw [if_pos pp]
      have go : ∀ x' b', x' = nI (bf_s (fun k => if P k = true then 1 else 0) (i + 1)) - nI (bf_p1 P i (bf_run P i)).2 → (∀ k, k < i + 1 → b' k = nI ((bf_p1 P i (bf_run P i)).1 k) ∧ (bf_p1 P i (bf_run P i)).1 k ≤ k) → wX_patches_62 post (wX_patches_4 post n) x' (nI i) a1 a2 a3 a4 a5 a6 b' :=
        fun x' b' e1 e2 => bf_62 e1 hi h1 hP e2 (fun b7 h7 => fin _ b7 rfl h7)
      have go0 : bf_p1 P i (bf_run P i) = bf_run P i → wX_patches_62 post (wX_patches_4 post n) (x + 1) (nI i) a1 a2 a3 a4 a5 a6 (upd b (nI i).toNatClampNeg (nI i)) := fun e => by
        rw [e] at go
        exact go _ _ ec hl
      refine nm_e ⟨by decide, ?_⟩
      refine pk_le (i % 16) 0 (fun z => go0 (if_neg (by omega))) (fun z => ?_) (pk_rem (d := 16) (by omega) (by omega) (by omega)) rfl
      have em : nI i - 1 = nI (i - 1) := pk_sub (b := 1) (by omega)
      have e1 : a1 (nI i - 1).toNatClampNeg = nI (R (i - 1)) := by
        rw [em]
        exact bf_at h1 (by omega)
      have b1 := (h1 (i - 1) (by omega)).2
      have q1 := hP (i - 1) (by omega)
      refine ⟨pk_in (i - 1) 256 (by omega) em, pk_le (R (i - 1)) 0 (fun y1 => go0 (if_neg (fun q => absurd (q1.mpr q.2) (by omega)))) (fun y1 => ?_) e1 rfl⟩
      have ep1 : bf_p1 P i (bf_run P i) = bf_j i (i - 1) (bf_run P i) := if_pos ⟨z, q1.mp y1⟩
      refine bf_join (m := i + 1) rfl em (by omega) (by omega) (by omega) hl (fun e => br_t rfl (go0 (ep1.trans e))) (fun b7 hb e2 => br_f (by decide) (nm_r (e' := nI (bf_s (fun k => if P k = true then 1 else 0) (i + 1)) - nI ((bf_run P i).2 + 1)) ?_ (go _ b7 ?_ ?_)))
      · rw [ec, bf_m1]
      · rw [ep1, e2]
      · rw [ep1]
        exact hb
end
section
/-- a block: y in its middle, x around -/
def bf_g (x y : Nat) : Nat → Nat → Nat := fun a b => if a = 1 ∧ b = 1 then y else x
/-- a box of p -/
def bf_bx (r0 r1 c0 c1 p : Nat) : Nat → Nat → Nat := fun s t => if r0 ≤ s ∧ s < r1 ∧ c0 ≤ t ∧ t < c1 then p else 0
theorem bf_bx_le (r0 r1 c0 c1 p s t : Nat) : bf_bx r0 r1 c0 c1 p s t ≤ p := by
  unfold bf_bx
  by_cases h : r0 ≤ s ∧ s < r1 ∧ c0 ≤ t ∧ t < c1
  · rw [if_pos h]
    exact Nat.le_refl p
  · rw [if_neg h]
    exact Nat.zero_le p
theorem bf_odT {x y : Nat} (h : y ≤ x) : bf_od true x y := ⟨fun _ => h, fun e => nomatch e⟩
theorem bf_odF {x y : Nat} (h : x ≤ y) : bf_od false x y := ⟨(fun e => nomatch e), fun _ => h⟩
theorem bf_dil_bx {r0 r1 c0 c1 p w h : Nat} (hr : r0 < r1) (hc : c0 < c1) (hr1 : r1 ≤ 16) (hc1 : c1 ≤ 16) : ∀ k, k < 256 → bf_f2 true w h (bf_R (bf_bx r0 r1 c0 c1 p)) k = bf_R (bf_bx (r0 - h) (r1 + h) (c0 - w) (c1 + w) p) k := by
  intro k hk
  show _ = (if r0 - h ≤ k / 16 ∧ k / 16 < r1 + h ∧ c0 - w ≤ k % 16 ∧ k % 16 < c1 + w then p else 0)
  have hi : k / 16 < 16 := by omega
  have hj : k % 16 < 16 := by omega
  by_cases c : r0 - h ≤ k / 16 ∧ k / 16 < r1 + h ∧ c0 - w ≤ k % 16 ∧ k % 16 < c1 + w
  · rw [if_pos c]
    obtain ⟨c1', c2, c3, c4⟩ := c
    refine bf_f2_un hk ⟨max r0 (min (r1 - 1) (k / 16)), max c0 (min (c1 - 1) (k % 16)), by omega, by omega, by omega, by omega, by omega, by omega, ?_⟩ (fun s t _ _ _ _ _ _ => bf_odT (bf_bx_le _ _ _ _ _ _ _))
    exact (if_pos (by omega)).symm
  · rw [if_neg c]
    refine bf_f2_un hk ⟨k / 16, k % 16, hi, hj, by omega, by omega, by omega, by omega, (if_neg (by omega)).symm⟩ (fun s t _ _ s1 s2 t1 t2 => bf_odT ?_)
    show (if r0 ≤ s ∧ s < r1 ∧ c0 ≤ t ∧ t < c1 then p else 0) ≤ 0
    rw [if_neg (by omega)]
    exact Nat.le_refl 0
theorem bf_dil_e {r0 r1 c0 c1 p w h : Nat} (he : r1 ≤ r0 ∨ c1 ≤ c0) : ∀ k, k < 256 → bf_f2 true w h (bf_R (bf_bx r0 r1 c0 c1 p)) k = 0 := by
  intro k hk
  refine bf_f2_un hk ⟨k / 16, k % 16, by omega, by omega, by omega, by omega, by omega, by omega, (if_neg (by omega)).symm⟩ (fun s t _ _ s1 s2 t1 t2 => bf_odT ?_)
  show (if r0 ≤ s ∧ s < r1 ∧ c0 ≤ t ∧ t < c1 then p else 0) ≤ 0
  rw [if_neg (by omega)]
  exact Nat.le_refl 0
theorem bf_ero_bx {r0 r1 c0 c1 p w h : Nat} (hr0 : 1 ≤ r0) (hr1 : r1 ≤ 15) (hc0 : 1 ≤ c0) (hc1 : c1 ≤ 15) : ∀ k, k < 256 → bf_f2 false w h (bf_R (bf_bx r0 r1 c0 c1 p)) k = bf_R (bf_bx (r0 + h) (r1 - h) (c0 + w) (c1 - w) p) k := by
  intro k hk
  show _ = (if r0 + h ≤ k / 16 ∧ k / 16 < r1 - h ∧ c0 + w ≤ k % 16 ∧ k % 16 < c1 - w then p else 0)
  have hi : k / 16 < 16 := by omega
  have hj : k % 16 < 16 := by omega
  generalize hI : k / 16 = I at *
  generalize hJ : k % 16 = J at *
  by_cases c : r0 + h ≤ I ∧ I < r1 - h ∧ c0 + w ≤ J ∧ J < c1 - w
  · rw [if_pos c]
    obtain ⟨c1', c2, c3, c4⟩ := c
    refine bf_f2_un hk ⟨I, J, by omega, by omega, by omega, by omega, by omega, by omega, (if_pos (by omega)).symm⟩ (fun s t _ _ s1 s2 t1 t2 => bf_odF ?_)
    show p ≤ (if r0 ≤ s ∧ s < r1 ∧ c0 ≤ t ∧ t < c1 then p else 0)
    rw [if_pos (by omega)]
    exact Nat.le_refl p
  · rw [if_neg c]
    have z : ∃ s t, s < 16 ∧ t < 16 ∧ s ≤ I + h ∧ I ≤ s + h ∧ t ≤ J + w ∧ J ≤ t + w ∧ ¬ (r0 ≤ s ∧ s < r1 ∧ c0 ≤ t ∧ t < c1) := by
      by_cases d1 : I < r0 + h
      · exact ⟨min I (r0 - 1), J, by omega, by omega, by omega, by omega, by omega, by omega, by omega⟩
      · by_cases d2 : r1 ≤ I + h
        · exact ⟨max I r1, J, by omega, by omega, by omega, by omega, by omega, by omega, by omega⟩
        · by_cases d3 : J < c0 + w
          · exact ⟨I, min J (c0 - 1), by omega, by omega, by omega, by omega, by omega, by omega, by omega⟩
          · exact ⟨I, max J c1, by omega, by omega, by omega, by omega, by omega, by omega, by omega⟩
    obtain ⟨s, t, s1, t1, s2, s3, t2, t3, hn⟩ := z
    exact bf_f2_un hk ⟨s, t, s1, t1, by omega, by omega, by omega, by omega, (if_neg hn).symm⟩ (fun s t _ _ _ _ _ _ => bf_odF (Nat.zero_le _))
theorem bf_im_le {r c p q : Nat} (hq : q ≤ p) (s t : Nat) : bf_im r c (bf_g p q) s t ≤ p := by
  unfold bf_im bf_g
  split
  · split <;> omega
  · omega
/-- the square with a darker middle, dilated -/
theorem bf_dil_A {r c p q : Nat} (hr : 1 ≤ r) (hr1 : r + 3 ≤ 15) (hc : 1 ≤ c) (hc1 : c + 3 ≤ 15) (hq : q ≤ p) : ∀ k, k < 256 → bf_f2 true 1 1 (bf_R (bf_im r c (bf_g p q))) k = bf_R (bf_bx (r - 1) (r + 4) (c - 1) (c + 4) p) k := by
  intro k hk
  show _ = (if r - 1 ≤ k / 16 ∧ k / 16 < r + 4 ∧ c - 1 ≤ k % 16 ∧ k % 16 < c + 4 then p else 0)
  have hi : k / 16 < 16 := by omega
  have hj : k % 16 < 16 := by omega
  by_cases d : r - 1 ≤ k / 16 ∧ k / 16 < r + 4 ∧ c - 1 ≤ k % 16 ∧ k % 16 < c + 4
  · rw [if_pos d]
    obtain ⟨d1, d2, d3, d4⟩ := d
    have wi : ∃ a, (a = 0 ∨ a = 2) ∧ r + a ≤ k / 16 + 1 ∧ k / 16 ≤ r + a + 1 := by
      by_cases z : k / 16 ≤ r + 1
      · exact ⟨0, Or.inl rfl, by omega, by omega⟩
      · exact ⟨2, Or.inr rfl, by omega, by omega⟩
    have wj : ∃ b, (b = 0 ∨ b = 2) ∧ c + b ≤ k % 16 + 1 ∧ k % 16 ≤ c + b + 1 := by
      by_cases z : k % 16 ≤ c + 1
      · exact ⟨0, Or.inl rfl, by omega, by omega⟩
      · exact ⟨2, Or.inr rfl, by omega, by omega⟩
    obtain ⟨a, a1, a2, a3⟩ := wi
    obtain ⟨b, b1, b2, b3⟩ := wj
    refine bf_f2_un hk ⟨r + a, c + b, by omega, by omega, a2, a3, b2, b3, ?_⟩ (fun s t _ _ _ _ _ _ => bf_odT (bf_im_le hq s t))
    rw [bf_im_in a b (by omega) (by omega)]
    exact (if_neg (by omega)).symm
  · rw [if_neg d]
    refine bf_f2_un hk ⟨k / 16, k % 16, hi, hj, by omega, by omega, by omega, by omega, (if_neg (by omega)).symm⟩ (fun s t _ _ s1 s2 t1 t2 => bf_odT ?_)
    rw [bf_im_out (by omega)]
    exact Nat.le_refl 0
theorem bf_bx_B (r c p : Nat) : bf_bx r (r + 3) c (c + 3) p = bf_im r c (bf_g p p) := by
  funext s t
  unfold bf_bx bf_im bf_g
  rw [ite_self]
theorem bf_bx_C (r c p : Nat) : bf_bx (r + 1) (r + 2) (c + 1) (c + 2) p = bf_im r c (bf_g 0 p) := by
  funext s t
  unfold bf_bx bf_im bf_g
  by_cases h : r + 1 ≤ s ∧ s < r + 2 ∧ c + 1 ≤ t ∧ t < c + 2
  · rw [if_pos h, if_pos (by omega), if_pos (by omega)]
  · rw [if_neg h]
    by_cases h2 : r ≤ s ∧ s < r + 3 ∧ c ≤ t ∧ t < c + 3
    · rw [if_pos h2, if_neg (by omega)]
    · rw [if_neg h2]
theorem bf_bx_D (r c p : Nat) (hr : 1 ≤ r) (hc : 1 ≤ c) : bf_bx (r - 1 + 1) (r + 4 - 1) (c - 1 + 1) (c + 4 - 1) p = bf_im r c (bf_g p p) := by
  rw [show r - 1 + 1 = r by omega, show c - 1 + 1 = c by omega]
  exact bf_bx_B r c p
/-- sums and counts over such a block -/
theorem bf_gs {r c : Nat} (hr : r ≤ 13) (hc : c ≤ 13) (x y : Nat) : bf_s (bf_R (bf_im r c (bf_g x y))) 256 = 8 * x + y := by
  rw [bf_im_s hr hc]
  show (x + x + x) + (x + y + x) + (x + x + x) = _
  omega
theorem bf_gc {r c : Nat} (hr : r ≤ 13) (hc : c ≤ 13) (x y x' y' : Nat) (φ : Nat → Nat → Nat) (h0 : φ 0 0 = 0) : bf_s (fun k => φ (bf_R (bf_im r c (bf_g x y)) k) (bf_R (bf_im r c (bf_g x' y')) k)) 256 = 8 * φ x x' + φ y y' := by
  rw [bf_im_s2 hr hc _ _ φ h0]
  show (φ x x' + φ x x' + φ x x') + (φ x x' + φ y y' + φ x x') + (φ x x' + φ x x' + φ x x') = _
  omega
/-- how many places of two such blocks differ -/
theorem bf_gd {r c : Nat} (hr : r ≤ 13) (hc : c ≤ 13) (x y x' y' : Nat) : bf_s (fun k => if bf_R (bf_im r c (bf_g x y)) k = bf_R (bf_im r c (bf_g x' y')) k then 0 else 1) 256 = 8 * (if x = x' then 0 else 1) + (if y = y' then 0 else 1) :=
  bf_gc hr hc x y x' y' (fun a b => if a = b then 0 else 1) rfl
theorem bf_ga {r c : Nat} (hr : r ≤ 13) (hc : c ≤ 13) (x y x' y' : Nat) : bf_s (fun k => if bf_R (bf_im r c (bf_g x y)) k ≤ bf_R (bf_im r c (bf_g x' y')) k then 0 else 1) 256 = 8 * (if x ≤ x' then 0 else 1) + (if y ≤ y' then 0 else 1) :=
  bf_gc hr hc x y x' y' (fun a b => if a ≤ b then 0 else 1) rfl
/-- a function of such a block, zero at zero -/
theorem bf_gm {r c x y : Nat} (φ : Nat → Nat) (h0 : φ 0 = 0) (k : Nat) : φ (bf_R (bf_im r c (bf_g x y)) k) = bf_R (bf_im r c (bf_g (φ x) (φ y))) k := by
  unfold bf_R bf_im bf_g
  by_cases h : r ≤ k / 16 ∧ k / 16 < r + 3 ∧ c ≤ k % 16 ∧ k % 16 < c + 3
  · rw [if_pos h, if_pos h]
    by_cases e : k / 16 - r = 1 ∧ k % 16 - c = 1
    · rw [if_pos e, if_pos e]
    · rw [if_neg e, if_neg e]
  · rw [if_neg h, if_neg h, h0]
theorem bf_gb {r c x y B : Nat} (hx : x < B) (hy : y < B) (k : Nat) : bf_R (bf_im r c (bf_g x y)) k < B :=
  bf_im_b (by omega) (fun a b => by unfold bf_g; split <;> omega) k
theorem bf_all_eq (R : Nat → Nat) : bf_s (fun k => if R k = R k then 1 else 0) 256 = 256 := by
  rw [bf_s_c (g := fun _ => 1) (fun k _ => if_pos rfl), bf_s_k]
/-- means -/
theorem bf_mn_00 {R : Nat → Nat} {k : Nat} (hk : k < 256) : bf_mn 0 0 R k = R k := by
  unfold bf_mn bf_mw
  rw [show min 16 (k / 16 + 0 + 1) - (k / 16 - 0) = 1 by omega, show min 16 (k % 16 + 0 + 1) - (k % 16 - 0) = 1 by omega]
  show (0 + (0 + R ((k / 16 - 0 + 0) * 16 + (k % 16 - 0 + 0)))) / (1 * 1) = R k
  rw [show (k / 16 - 0 + 0) * 16 + (k % 16 - 0 + 0) = k by omega, Nat.mul_one, Nat.div_one]
  omega
theorem bf_mn_11 {F : Nat → Nat → Nat} {i j : Nat} (hi : i < 13) (hj : j < 13) : bf_mn 1 1 (bf_R F) ((i + 1) * 16 + (j + 1)) = (F i j + F i (j + 1) + F i (j + 2) + (F (i + 1) j + F (i + 1) (j + 1) + F (i + 1) (j + 2)) + (F (i + 2) j + F (i + 2) (j + 1) + F (i + 2) (j + 2))) / 9 := by
  have e : ∀ a b, a < 3 → b < 3 → bf_R F ((i + a) * 16 + (j + b)) = F (i + a) (j + b) := by
    intro a b ha hb
    unfold bf_R
    rw [show ((i + a) * 16 + (j + b)) / 16 = i + a by omega, show ((i + a) * 16 + (j + b)) % 16 = j + b by omega]
  unfold bf_mn bf_mw
  rw [show ((i + 1) * 16 + (j + 1)) / 16 = i + 1 by omega, show ((i + 1) * 16 + (j + 1)) % 16 = j + 1 by omega, show min 16 (i + 1 + 1 + 1) - (i + 1 - 1) = 3 by omega, show min 16 (j + 1 + 1 + 1) - (j + 1 - 1) = 3 by omega, show i + 1 - 1 = i by omega, show j + 1 - 1 = j by omega]
  show (((0 + (((0 + bf_R F ((i + 0) * 16 + (j + 0))) + bf_R F ((i + 0) * 16 + (j + 1))) + bf_R F ((i + 0) * 16 + (j + 2)))) + (((0 + bf_R F ((i + 1) * 16 + (j + 0))) + bf_R F ((i + 1) * 16 + (j + 1))) + bf_R F ((i + 1) * 16 + (j + 2)))) + (((0 + bf_R F ((i + 2) * 16 + (j + 0))) + bf_R F ((i + 2) * 16 + (j + 1))) + bf_R F ((i + 2) * 16 + (j + 2)))) / (3 * 3) = _
  rw [e 0 0 (by omega) (by omega), e 0 1 (by omega) (by omega), e 0 2 (by omega) (by omega), e 1 0 (by omega) (by omega), e 1 1 (by omega) (by omega), e 1 2 (by omega) (by omega), e 2 0 (by omega) (by omega), e 2 1 (by omega) (by omega), e 2 2 (by omega) (by omega)]
  rw [Nat.zero_add, Nat.zero_add, Nat.zero_add, Nat.zero_add]
  rfl
theorem bf_F_in {r c p q : Nat} (a b : Nat) (ha : a < 3) (hb : b < 3) {s t : Nat} (hs : s = r + a) (ht : t = c + b) : bf_im r c (bf_g p q) s t = bf_g p q a b := by
  rw [hs, ht]
  exact bf_im_in a b ha hb
theorem bf_mn_c {r c p q : Nat} (hr : r ≤ 11) (hc : c ≤ 11) : bf_mn 1 1 (bf_R (bf_im r c (bf_g p q))) ((r + 1) * 16 + (c + 1)) = (8 * p + q) / 9 := by
  rw [bf_mn_11 (by omega) (by omega)]
  rw [bf_F_in 0 0 (by omega) (by omega) (s := r) (t := c) rfl rfl, bf_F_in 0 1 (by omega) (by omega) (s := r) (t := c + 1) rfl rfl, bf_F_in 0 2 (by omega) (by omega) (s := r) (t := c + 2) rfl rfl, bf_F_in 1 0 (by omega) (by omega) (s := r + 1) (t := c) rfl rfl, bf_F_in 1 1 (by omega) (by omega) (s := r + 1) (t := c + 1) rfl rfl, bf_F_in 1 2 (by omega) (by omega) (s := r + 1) (t := c + 2) rfl rfl, bf_F_in 2 0 (by omega) (by omega) (s := r + 2) (t := c) rfl rfl, bf_F_in 2 1 (by omega) (by omega) (s := r + 2) (t := c + 1) rfl rfl, bf_F_in 2 2 (by omega) (by omega) (s := r + 2) (t := c + 2) rfl rfl]
  show (p + p + p + (p + q + p) + (p + p + p)) / 9 = _
  rw [show p + p + p + (p + q + p) + (p + p + p) = 8 * p + q by omega]
theorem bf_mn_m {r c p q : Nat} (hr0 : 4 ≤ r) (hc0 : 4 ≤ c) (hr : r ≤ 11) (hc : c ≤ 11) : bf_mn 1 1 (bf_R (bf_im r c (bf_g p q))) ((r - 1) * 16 + (c - 1)) = p / 9 := by
  rw [show (r - 1) * 16 + (c - 1) = (r - 2 + 1) * 16 + (c - 2 + 1) by omega, bf_mn_11 (by omega) (by omega)]
  rw [bf_im_out (s := r - 2) (t := c - 2) (by omega), bf_im_out (s := r - 2) (t := c - 2 + 1) (by omega), bf_im_out (s := r - 2) (t := c - 2 + 2) (by omega), bf_im_out (s := r - 2 + 1) (t := c - 2) (by omega), bf_im_out (s := r - 2 + 1) (t := c - 2 + 1) (by omega), bf_im_out (s := r - 2 + 1) (t := c - 2 + 2) (by omega), bf_im_out (s := r - 2 + 2) (t := c - 2) (by omega), bf_im_out (s := r - 2 + 2) (t := c - 2 + 1) (by omega), bf_F_in 0 0 (by omega) (by omega) (s := r - 2 + 2) (t := c - 2 + 2) (by omega) (by omega)]
  show (0 + 0 + 0 + (0 + 0 + 0) + (0 + 0 + p)) / 9 = _
  rw [show 0 + 0 + 0 + (0 + 0 + 0) + (0 + 0 + p) = p by omega]
theorem bf_mn_o {r c p q : Nat} (hr0 : 4 ≤ r) (hc0 : 4 ≤ c) (hr : r ≤ 11) (hc : c ≤ 11) : bf_mn 1 1 (bf_R (bf_im r c (bf_g p q))) (r * 16 + c) = (3 * p + q) / 9 := by
  rw [show r * 16 + c = (r - 1 + 1) * 16 + (c - 1 + 1) by omega, bf_mn_11 (by omega) (by omega)]
  rw [bf_im_out (s := r - 1) (t := c - 1) (by omega), bf_im_out (s := r - 1) (t := c - 1 + 1) (by omega), bf_im_out (s := r - 1) (t := c - 1 + 2) (by omega), bf_im_out (s := r - 1 + 1) (t := c - 1) (by omega), bf_F_in 0 0 (by omega) (by omega) (s := r - 1 + 1) (t := c - 1 + 1) (by omega) (by omega), bf_F_in 0 1 (by omega) (by omega) (s := r - 1 + 1) (t := c - 1 + 2) (by omega) (by omega), bf_im_out (s := r - 1 + 2) (t := c - 1) (by omega), bf_F_in 1 0 (by omega) (by omega) (s := r - 1 + 2) (t := c - 1 + 1) (by omega) (by omega), bf_F_in 1 1 (by omega) (by omega) (s := r - 1 + 2) (t := c - 1 + 2) (by omega) (by omega)]
  show (0 + 0 + 0 + (0 + p + p) + (0 + p + q)) / 9 = _
  rw [show 0 + 0 + 0 + (0 + p + p) + (0 + p + q) = 3 * p + q by omega]
/-- a mean of the ring is lower than the ring -/
theorem bf_mn_ring {r c p q a b : Nat} (hr0 : 4 ≤ r) (hc0 : 4 ≤ c) (hr : r ≤ 11) (hc : c ≤ 11) (hp : 0 < p) (hq : q ≤ p) (ha : a < 3) (hb : b < 3) (hab : ¬ (a = 1 ∧ b = 1)) : bf_mn 1 1 (bf_R (bf_im r c (bf_g p q))) ((r + a) * 16 + (c + b)) < p := by
  obtain ⟨i, hi⟩ : ∃ i, r + a = i + 1 := ⟨r + a - 1, by omega⟩
  obtain ⟨j, hj⟩ : ∃ j, c + b = j + 1 := ⟨c + b - 1, by omega⟩
  rw [hi, hj, bf_mn_11 (by omega) (by omega)]
  have B := fun s t => bf_im_le (r := r) (c := c) hq s t
  have O : ∀ s t, ¬ (r ≤ s ∧ s < r + 3 ∧ c ≤ t ∧ t < c + 3) → bf_im r c (bf_g p q) s t = 0 := fun s t h => bf_im_out h
  generalize bf_im r c (bf_g p q) = F at *
  have b0 := B i j
  have b1 := B i (j + 1)
  have b2 := B i (j + 2)
  have b3 := B (i + 1) j
  have b4 := B (i + 1) (j + 1)
  have b5 := B (i + 1) (j + 2)
  have b6 := B (i + 2) j
  have b7 := B (i + 2) (j + 1)
  have b8 := B (i + 2) (j + 2)
  have key : F i j + F i (j + 1) + F i (j + 2) + (F (i + 1) j + F (i + 1) (j + 1) + F (i + 1) (j + 2)) + (F (i + 2) j + F (i + 2) (j + 1) + F (i + 2) (j + 2)) < p * 9 := by
    by_cases z0 : a = 0
    · have z := O i (j + 1) (by omega)
      omega
    · by_cases z2 : a = 2
      · have z := O (i + 2) (j + 1) (by omega)
        omega
      · by_cases y0 : b = 0
        · have z := O (i + 1) j (by omega)
          omega
        · have z := O (i + 1) (j + 2) (by omega)
          omega
  exact (Nat.div_lt_iff_lt_mul (by omega)).mpr key
theorem bf_mn_8 {r c p q : Nat} (hr0 : 4 ≤ r) (hc0 : 4 ≤ c) (hr : r ≤ 11) (hc : c ≤ 11) (hp : 0 < p) (hq : q ≤ p) : 8 ≤ bf_s (fun k => if bf_mn 1 1 (bf_R (bf_im r c (bf_g p q))) k = bf_R (bf_im r c (bf_g p q)) k then 0 else 1) 256 := by
  have e : bf_s (bf_R (bf_im r c (bf_g 1 0))) 256 = 8 := bf_gs (by omega) (by omega) 1 0
  rw [← e]
  refine bf_s_mono (fun k hk => ?_)
  by_cases h : r ≤ k / 16 ∧ k / 16 < r + 3 ∧ c ≤ k % 16 ∧ k % 16 < c + 3
  · by_cases m : k / 16 - r = 1 ∧ k % 16 - c = 1
    · have z : bf_R (bf_im r c (bf_g 1 0)) k = 0 := by
        unfold bf_R bf_im bf_g
        rw [if_pos h, if_pos m]
      rw [z]
      exact Nat.zero_le _
    · have z1 : bf_R (bf_im r c (bf_g p q)) k = p := by
        unfold bf_R bf_im bf_g
        rw [if_pos h, if_neg m]
      have z2 := bf_mn_ring (a := k / 16 - r) (b := k % 16 - c) hr0 hc0 hr hc hp hq (by omega) (by omega) m
      rw [show (r + (k / 16 - r)) * 16 + (c + (k % 16 - c)) = k by omega] at z2
      rw [if_neg (by omega)]
      have z3 := bf_gb (r := r) (c := c) (x := 1) (y := 0) (B := 2) (by omega) (by omega) k
      omega
  · have z : bf_R (bf_im r c (bf_g 1 0)) k = 0 := if_neg h
    rw [z]
    exact Nat.zero_le _
/-- the pattern of a block's bright places -/
def bf_pb (r c : Nat) (m : Nat → Nat → Bool) : Nat → Bool := fun k => decide (r ≤ k / 16) && (decide (k / 16 < r + 3) && (decide (c ≤ k % 16) && (decide (k % 16 < c + 3) && m (k / 16 - r) (k % 16 - c))))
theorem bf_pb_t {r c : Nat} {m : Nat → Nat → Bool} {k : Nat} : bf_pb r c m k = true ↔ (r ≤ k / 16 ∧ k / 16 < r + 3 ∧ c ≤ k % 16 ∧ k % 16 < c + 3) ∧ m (k / 16 - r) (k % 16 - c) = true := by
  unfold bf_pb
  simp only [Bool.and_eq_true, decide_eq_true_eq, and_assoc]
theorem bf_pb_im {r c : Nat} {m : Nat → Nat → Bool} {g : Nat → Nat → Nat} (h : ∀ a, a < 3 → ∀ b, b < 3 → (0 < g a b ↔ m a b = true)) (k : Nat) : 0 < bf_R (bf_im r c g) k ↔ bf_pb r c m k = true := by
  rw [bf_pb_t]
  unfold bf_R bf_im
  by_cases e : r ≤ k / 16 ∧ k / 16 < r + 3 ∧ c ≤ k % 16 ∧ k % 16 < c + 3
  · rw [if_pos e]
    exact (h _ (by omega) _ (by omega)).trans ⟨fun z => ⟨e, z⟩, fun z => z.2⟩
  · rw [if_neg e]
    exact ⟨fun z => absurd z (by omega), fun z => absurd z.1 e⟩
theorem bf_pb_n {r c : Nat} (hr : r ≤ 13) (hc : c ≤ 13) (m : Nat → Nat → Bool) : bf_s (fun k => if bf_pb r c m k = true then 1 else 0) 256 = bf_s (bf_R (bf_im r c (fun a b => if m a b = true then 1 else 0))) 256 := by
  refine bf_s_c (fun k _ => ?_)
  unfold bf_R bf_im
  by_cases e : r ≤ k / 16 ∧ k / 16 < r + 3 ∧ c ≤ k % 16 ∧ k % 16 < c + 3
  · rw [if_pos e]
    dsimp only
    by_cases z : m (k / 16 - r) (k % 16 - c) = true
    · rw [if_pos z, if_pos (bf_pb_t.mpr ⟨e, z⟩)]
    · rw [if_neg z, if_neg (fun y => z (bf_pb_t.mp y).2)]
  · rw [if_neg e, if_neg (fun y => e (bf_pb_t.mp y).1)]
/-- patches of a block: n bright places, e joins -/
theorem bf_pim {post : Int32 → St2 → Prop} {a1 a2 a3 a4 a5 a6 a7 : Nat → Int32} {r c : Nat} {g : Nat → Nat → Nat} (hr0 : 4 ≤ r) (hc0 : 4 ≤ c) (hr : r ≤ 11) (hc : c ≤ 11) (m : Nat → Nat → Bool) (n e : Nat) (hm : ∀ a, a < 3 → ∀ b, b < 3 → (0 < g a b ↔ m a b = true))
    (hn : bf_s (bf_R (bf_im r c (fun a b => if m a b = true then 1 else 0))) 256 = n) (he : ∀ r, r < 8 → ∀ c, c < 8 → (bf_run (bf_pb (r + 4) (c + 4) m) 256).2 = e) (h1 : bf_A a1 (bf_R (bf_im r c g)))
    (H : ∀ b7, post (nI n - nI e) (a1, a2, a3, a4, a5, a6, b7)) : wpX_patches post (a1, a2, a3, a4, a5, a6, a7) := by
  refine bf_patches (bf_pb r c m) h1 (fun k _ => bf_pb_im hm k) (fun b7 => ?_)
  have z := he (r - 4) (by omega) (c - 4) (by omega)
  rw [show r - 4 + 4 = r by omega, show c - 4 + 4 = c by omega] at z
  rw [z, bf_pb_n (by omega) (by omega), hn]
  exact H b7
/-- all places bright -/
theorem bf_fd_s {l : Nat → Nat} {k : Nat} (h : l k = k) : bf_fd l 256 k = k := by
  show (if l k < k then bf_fd l 255 (l k) else k) = k
  rw [if_neg (by omega)]
theorem bf_fd_z {l : Nat → Nat} {k : Nat} (h : l k = 0) (h0 : l 0 = 0) : bf_fd l 256 k = 0 := by
  show (if l k < k then (if l (l k) < l k then bf_fd l 254 (l (l k)) else l k) else k) = 0
  rw [h, h0]
  by_cases e : 0 < k
  · rw [if_pos e, if_neg (by omega)]
  · rw [if_neg e]
    omega
theorem bf_j_new {l : Nat → Nat} {e i k : Nat} (hi : 0 < i) (hk : k < i) (h : ∀ x, x < i → l x = 0) (hl : l i = i) : (∀ x, x < i + 1 → (bf_j i k (l, e)).1 x = 0) ∧ (bf_j i k (l, e)).2 = e + 1 := by
  have e1 : bf_fd l 256 i = i := bf_fd_s hl
  have e2 : bf_fd l 256 k = 0 := bf_fd_z (h k hk) (h 0 hi)
  have z : bf_j i k (l, e) = (fun x => if x = max i 0 then min i 0 else l x, e + 1) := by
    unfold bf_j
    dsimp only
    rw [e1, e2, if_neg (by omega)]
  rw [z]
  refine ⟨fun x hx => ?_, rfl⟩
  show (if x = max i 0 then min i 0 else l x) = 0
  by_cases c : x = i
  · rw [if_pos (by omega)]
    omega
  · rw [if_neg (by omega)]
    exact h x (by omega)
theorem bf_j_old {l : Nat → Nat} {e i k : Nat} (hk : k < i + 1) (h : ∀ x, x < i + 1 → l x = 0) : bf_j i k (l, e) = (l, e) := by
  refine if_pos ?_
  show bf_fd l 256 i = bf_fd l 256 k
  rw [bf_fd_z (h i (by omega)) (h 0 (by omega)), bf_fd_z (h k hk) (h 0 (by omega))]
theorem bf_run_all : ∀ i, (∀ x, x < i + 1 → (bf_run (fun _ => true) (i + 1)).1 x = 0) ∧ (bf_run (fun _ => true) (i + 1)).2 = i := by
  intro i
  induction i with
  | zero => exact ⟨fun x hx => by rw [show x = 0 by omega]; rfl, rfl⟩
  | succ i ih =>
    have hl := bf_run_hi (fun _ => true) (i + 1) (i + 1) (Nat.le_refl _)
    have er : bf_run (fun _ => true) (i + 1 + 1) = bf_p2 (fun _ => true) (i + 1) (bf_p1 (fun _ => true) (i + 1) (bf_run (fun _ => true) (i + 1))) := rfl
    rw [er]
    generalize bf_run (fun _ => true) (i + 1) = s at *
    obtain ⟨l, e⟩ := s
    dsimp only at ih hl
    obtain ⟨i1, i2⟩ := ih
    by_cases c : 0 < (i + 1) % 16
    · have e1 : bf_p1 (fun _ => true) (i + 1) (l, e) = bf_j (i + 1) (i + 1 - 1) (l, e) := if_pos ⟨c, rfl⟩
      have n1 := bf_j_new (e := e) (k := i + 1 - 1) (by omega) (by omega) i1 hl
      rw [e1]
      generalize bf_j (i + 1) (i + 1 - 1) (l, e) = s' at *
      obtain ⟨l', e'⟩ := s'
      dsimp only at n1
      have e2 : bf_p2 (fun _ => true) (i + 1) (l', e') = (l', e') := by
        unfold bf_p2
        by_cases d : 16 ≤ i + 1 ∧ true = true
        · rw [if_pos d]
          exact bf_j_old (by omega) n1.1
        · rw [if_neg d]
      rw [e2]
      exact ⟨n1.1, by rw [n1.2, i2]⟩
    · have e1 : bf_p1 (fun _ => true) (i + 1) (l, e) = (l, e) := if_neg (fun z => c z.1)
      have e2 : bf_p2 (fun _ => true) (i + 1) (l, e) = bf_j (i + 1) (i + 1 - 16) (l, e) := if_pos ⟨by omega, rfl⟩
      rw [e1, e2]
      have n1 := bf_j_new (e := e) (k := i + 1 - 16) (by omega) (by omega) i1 hl
      exact ⟨n1.1, by rw [n1.2, i2]⟩
theorem bf_patches_all {post : Int32 → St2 → Prop} {a1 a2 a3 a4 a5 a6 a7 : Nat → Int32} {R : Nat → Nat} (h1 : bf_A a1 R) (hR : ∀ k, k < 256 → 0 < R k) (H : ∀ b7, post 1 (a1, a2, a3, a4, a5, a6, b7)) : wpX_patches post (a1, a2, a3, a4, a5, a6, a7) := by
  refine bf_patches (fun _ => true) h1 (fun k hk => ⟨fun _ => rfl, fun _ => hR k hk⟩) (fun b7 => ?_)
  rw [(bf_run_all 255).2, bf_s_c (g := fun _ => 1) (fun k _ => if_pos rfl), bf_s_k]
  exact H b7
end
section
def bf_mA : Nat → Nat → Bool := fun _ _ => true
def bf_mR : Nat → Nat → Bool := fun a b => !(a == 1 && b == 1)
def bf_m4 : Nat → Nat → Bool := fun a b => !(a == 1) && !(b == 1)
def bf_m5 : Nat → Nat → Bool := fun a b => (a == 1) == (b == 1)
def bf_m3 : Nat → Nat → Bool := fun a b => ((a == 1) == (b == 1)) || (a == 0)
theorem bf_eA : ∀ r, r < 8 → ∀ c, c < 8 → (bf_run (bf_pb (r + 4) (c + 4) bf_mA) 256).2 = 8 := by decide +kernel
theorem bf_eR : ∀ r, r < 8 → ∀ c, c < 8 → (bf_run (bf_pb (r + 4) (c + 4) bf_mR) 256).2 = 7 := by decide +kernel
theorem bf_e4 : ∀ r, r < 8 → ∀ c, c < 8 → (bf_run (bf_pb (r + 4) (c + 4) bf_m4) 256).2 = 0 := by decide +kernel
theorem bf_e5 : ∀ r, r < 8 → ∀ c, c < 8 → (bf_run (bf_pb (r + 4) (c + 4) bf_m5) 256).2 = 0 := by decide +kernel
theorem bf_e3 : ∀ r, r < 8 → ∀ c, c < 8 → (bf_run (bf_pb (r + 4) (c + 4) bf_m3) 256).2 = 3 := by decide +kernel
end
section
theorem bf_im_c {r c : Nat} {g g' : Nat → Nat → Nat} (h : ∀ a b, a < 3 → b < 3 → g a b = g' a b) (k : Nat) : bf_R (bf_im r c g) k = bf_R (bf_im r c g') k := by
  unfold bf_R bf_im
  by_cases e : r ≤ k / 16 ∧ k / 16 < r + 3 ∧ c ≤ k % 16 ∧ k % 16 < c + 3
  · rw [if_pos e, if_pos e]
    exact h _ _ (by omega) (by omega)
  · rw [if_neg e, if_neg e]
/-- one place of the block is set -/
theorem bf_set_im {post : Int32 → St2 → Prop} {a1 a2 a3 a4 a5 a6 a7 : Nat → Int32} {r c : Nat} {g : Nat → Nat → Nat} {x y z : Int32} (a b v old : Nat) (hx : x = nI (r + a)) (hy : y = nI (c + b)) (hz : z = nI v) (ha : a < 3) (hb : b < 3) (hr : r ≤ 11) (hc : c ≤ 11) (hv : v ≤ 255) (ho : g a b = old)
    (h : bf_A a1 (bf_R (bf_im r c g))) (H : ∀ b1, bf_A b1 (bf_R (bf_im r c (fun x y => if x = a ∧ y = b then v else g x y))) → post (nI old) (b1, a2, a3, a4, a5, a6, a7)) : wpX_set post (a1, a2, a3, a4, a5, a6, a7) x y z := by
  refine bf_set (r + a) (c + b) v hx hy hz (by omega) (by omega) hv h (fun b1 h1 => ?_)
  rw [bf_im_put ha hb] at h1
  rw [bf_im_in a b ha hb, ho]
  exact H b1 h1
theorem bf_set_row {post : Int32 → St2 → Prop} {u : St2} (H : post (-1) u) : wpX_set post u 16 0 1 := by
  obtain ⟨a1, a2, a3, a4, a5, a6, a7⟩ := u
  unfold wpX_set
  exact br_f (by decide) (br_t (by decide) (br_f (by decide) H))
theorem bf_set_val {post : Int32 → St2 → Prop} {u : St2} (H : post (-2) u) : wpX_set post u 0 0 256 := by
  obtain ⟨a1, a2, a3, a4, a5, a6, a7⟩ := u
  unfold wpX_set
  exact bf_badPixel 0 0 rfl rfl (by omega) (by omega) (br_t rfl (br_f (by decide) (br_f (by decide) H)))
theorem bf_thr_all {post : Int32 → St2 → Prop} {a1 a2 a3 a4 a5 a6 a7 : Nat → Int32} {R : Nat → Nat} (h : bf_A a1 R) (H : ∀ b, bf_A b (fun _ => 255) → post 256 (b, a2, a3, a4, a5, a6, a7)) : wpX_threshold post (a1, a2, a3, a4, a5, a6, a7) (-5) := by
  refine bf_threshold (fun _ => true) (fun k hk => ⟨fun z => ?_, fun z => nomatch z⟩) (fun b hb => ?_)
  · have h2 := (h k hk).2
    rw [(h k hk).1, Int32.lt_iff_toInt_lt, nI_toInt (by omega), show ((-5 : Int32)).toInt = -5 by decide] at z
    omega
  · rw [bf_s_c (g := fun _ => 1) (fun k _ => if_pos rfl), bf_s_k]
    exact H b (bf_A_c hb (fun k _ => if_pos rfl))
theorem bf_two (r i : Nat) : nI r + 2 * nI i = nI (r + 2 * i) := by
  rw [show (2 : Int32) = nI 2 from rfl, pk_mul, nI_add]
section
variable {post : Int32 → St0 → Prop} {mc ms kc ks r c p q : Nat} {a1 a2 a3 a4 a5 a6 a7 : Nat → Int32}
theorem bf_L548 (hr0 : 4 ≤ r) (hc0 : 4 ≤ c) (hr : r ≤ 11) (hc : c ≤ 11) (h1 : bf_A a1 (bf_R (bf_im r c (bf_g 255 0)))) (hp : post 1 ()) : ∃ n, wL_lawOf_548 post mc ms (nI r) (nI c) kc ks n (nI 0) a1 a2 a3 a4 a5 a6 a7 := by
  refine ⟨3, ?_⟩
  refine pk_le 2 0 (fun z => absurd z (by omega)) (fun _ => ?_)
  refine bf_set_im 0 1 0 255 (bf_two r 0) (nI_1 c) rfl (by omega) (by omega) hr hc (by omega) (by decide) h1 (fun b1 h1 => ?_)
  refine br_t rfl ?_
  refine bf_set_im 1 0 0 255 (nI_1 r) (bf_two c 0) rfl (by omega) (by omega) hr hc (by omega) (by decide) h1 (fun b1 h1 => ?_)
  refine br_t rfl (nm_r (nI_1 0) ?_)
  refine pk_le 2 1 (fun z => absurd z (by omega)) (fun _ => ?_)
  refine bf_set_im 2 1 0 255 (bf_two r 1) (nI_1 c) rfl (by omega) (by omega) hr hc (by omega) (by decide) h1 (fun b1 h1 => ?_)
  refine br_t rfl ?_
  refine bf_set_im 1 2 0 255 (nI_1 r) (bf_two c 1) rfl (by omega) (by omega) hr hc (by omega) (by decide) h1 (fun b1 h1 => ?_)
  refine br_t rfl (nm_r (nI_1 1) ?_)
  refine pk_le 2 2 (fun _ => ?_) (fun z => absurd z (by omega))
  refine bf_pim hr0 hc0 hr hc bf_m4 4 0 (by decide) (by rw [bf_im_s (by omega) (by omega)]; rfl) bf_e4 h1 (fun b7 => ?_)
  refine br_t (by decide) ?_
  refine bf_set_im 1 1 1 0 (nI_1 r) (nI_1 c) rfl (by omega) (by omega) hr hc (by omega) (by decide) h1 (fun b1 h1 => ?_)
  refine br_t rfl ?_
  refine bf_pim hr0 hc0 hr hc bf_m5 5 0 (by decide) (by rw [bf_im_s (by omega) (by omega)]; rfl) bf_e5 h1 (fun b7 => ?_)
  refine br_t (by decide) ?_
  refine bf_set_im 0 1 9 0 rfl (nI_1 c) rfl (by omega) (by omega) hr hc (by omega) (by decide) h1 (fun b1 h1 => ?_)
  refine br_t rfl ?_
  refine bf_pim hr0 hc0 hr hc bf_m3 6 3 (by decide) (by rw [bf_im_s (by omega) (by omega)]; rfl) bf_e3 h1 (fun b7 => ?_)
  refine br_t (by decide) ?_
  refine bf_set_row (br_t rfl ?_)
  refine bf_set_val (br_t rfl ?_)
  refine bf_thr_all h1 (fun b1 h1 => ?_)
  refine br_t rfl ?_
  refine bf_patches_all h1 (fun k _ => by decide) (fun b7 => ?_)
  exact br_t rfl hp
end
end
section
theorem bf_8pq (p q : Nat) : (8 * nI p) + nI q = nI (8 * p + q) := by
  rw [show (8 : Int32) = nI 8 from rfl, pk_mul, nI_add]
theorem bf_3pq (p q : Nat) : (3 * nI p) + nI q = nI (3 * p + q) := by
  rw [show (3 : Int32) = nI 3 from rfl, pk_mul, nI_add]
/-- the bound q + 1 parts the ring from its middle -/
theorem bf_thr_A {post : Int32 → St2 → Prop} {a1 a2 a3 a4 a5 a6 a7 : Nat → Int32} {r c p q : Nat} (hr : r ≤ 11) (hc : c ≤ 11) (hpq : q < p) (hp : p ≤ 251) (h : bf_A a1 (bf_R (bf_im r c (bf_g p q))))
    (H : ∀ b, bf_A b (bf_R (bf_im r c (bf_g 255 0))) → post 8 (b, a2, a3, a4, a5, a6, a7)) : wpX_threshold post (a1, a2, a3, a4, a5, a6, a7) (nI q + 1) := by
  refine bf_threshold (fun k => decide (q + 1 ≤ bf_R (bf_im r c (bf_g p q)) k)) (fun k hk => ?_) (fun b hb => ?_)
  · have h2 := (h k hk).2
    rw [(h k hk).1, nI_1, nI_ltI (by omega) (by omega), decide_eq_false_iff_not]
    omega
  · have e : ∀ (v : Nat) k, (if decide (q + 1 ≤ bf_R (bf_im r c (bf_g p q)) k) = true then v else 0) = bf_R (bf_im r c (bf_g v 0)) k := by
      intro v k
      have z := bf_gm (r := r) (c := c) (x := p) (y := q) (fun x => if decide (q + 1 ≤ x) = true then v else 0) (if_neg (by rw [decide_eq_true_eq]; omega)) k
      rw [z, if_pos (by rw [decide_eq_true_eq]; omega), if_neg (by rw [decide_eq_true_eq]; omega)]
    rw [bf_s_c (fun k _ => e 1 k), bf_gs (by omega) (by omega)]
    exact H b (bf_A_c hb (fun k _ => e 255 k))
section
variable {post : Int32 → St0 → Prop} {mc ms kc ks r c p q : Nat} {a1 a2 a3 a4 a5 a6 a7 : Nat → Int32}
theorem bf_L332 {z0 z1 : Int32} {R1 : Nat → Nat} (hz : z1 = z0) (hr0 : 4 ≤ r) (hc0 : 4 ≤ c) (hr : r ≤ 11) (hc : c ≤ 11) (hq : 1 ≤ q) (hpq : q < p) (hp : p ≤ 251) (h1 : bf_A a1 R1) (h2 : bf_A a2 (bf_R (bf_im r c (bf_g p q)))) (h6 : bf_Z a6) (hpost : post 1 ()) :
    wL_lawOf_332 post mc ms (nI r) (nI c) (nI p) (nI q) z0 z1 kc ks a1 a2 a3 a4 a5 a6 a7 := by
  refine br_t hz ?_
  refine bf_exchange h1 h2 (fun b1 b2 hb1 _ => ?_)
  refine bf_sum hb1 ?_
  refine br_t (by rw [bf_gs (by omega) (by omega), bf_8pq]) ?_
  refine bf_mean_bad (Or.inl ⟨by decide, by decide⟩) (br_t rfl ?_)
  refine bf_mean_bad (Or.inr ⟨by decide, by decide, by decide⟩) (br_t rfl ?_)
  refine bf_mean (w := 0) (h := 0) rfl rfl (by omega) (by omega) hb1 h6 (fun d1 d3 d6 hd1 hd6 => ?_)
  have hd := bf_A_c hd1 (fun k hk => bf_mn_00 hk)
  refine br_t (by rw [bf_s_0 (fun k hk => if_pos (bf_mn_00 hk))]; rfl) ?_
  refine bf_keep hd (fun e2 he2 => ⟨by decide, nm_r (e' := nI ((8 * p + q) / 9)) (by rw [bf_8pq]; exact pk_div (d := 9) (by omega) (by omega) (by omega)) ?_⟩)
  refine bf_mean (w := 1) (h := 1) rfl rfl (by omega) (by omega) hd hd6 (fun f1 f3 f6 hf1 hf6 => ?_)
  refine br_f (nI_nlt (b := 8) (bf_mn_8 hr0 hc0 hr hc (by omega) (by omega)) ?_) ?_
  · have z : bf_s (fun k => if bf_mn 1 1 (bf_R (bf_im r c (bf_g p q))) k = bf_R (bf_im r c (bf_g p q)) k then 0 else 1) 256 ≤ 256 * 1 := bf_s_le (fun k _ => by split <;> omega)
    omega
  refine bf_pixel (r + 1) (c + 1) (nI_1 r) (nI_1 c) (by omega) (by omega) hf1 (br_t (by rw [bf_mn_c hr hc]) ?_)
  refine bf_pixel (r - 1) (c - 1) (pk_sub (b := 1) (by omega)) (pk_sub (b := 1) (by omega)) (by omega) (by omega) hf1 ⟨by decide, br_t (by rw [bf_mn_m hr0 hc0 hr hc]; exact (pk_div (d := 9) (by omega) (by omega) (by omega)).symm) ?_⟩
  refine bf_pixel r c rfl rfl (by omega) (by omega) hf1 ⟨by decide, br_t (by rw [bf_mn_o hr0 hc0 hr hc, bf_3pq]; exact (pk_div (d := 9) (by omega) (by omega) (by omega)).symm) ?_⟩
  refine bf_exchange hf1 he2 (fun g1 g2 hg1 _ => ?_)
  refine bf_thr_A hr hc hpq hp hg1 (fun k1 hk1 => ?_)
  refine br_t rfl ?_
  refine bf_sum hk1 (br_t (by rw [bf_gs (by omega) (by omega)]; rfl) ?_)
  refine bf_pim hr0 hc0 hr hc bf_mR 8 7 (by decide) (by rw [bf_im_s (by omega) (by omega)]; rfl) bf_eR hk1 (fun b7 => ?_)
  refine br_t (by decide) ?_
  refine bf_pixel (r + 1) (c + 1) (nI_1 r) (nI_1 c) (by omega) (by omega) hk1 (br_t ?_ (bf_L548 hr0 hc0 hr hc hk1 hpost))
  show nI (bf_im r c (bf_g 255 0) (((r + 1) * 16 + (c + 1)) / 16) (((r + 1) * 16 + (c + 1)) % 16)) = 0
  rw [show ((r + 1) * 16 + (c + 1)) / 16 = r + 1 by omega, show ((r + 1) * 16 + (c + 1)) % 16 = c + 1 by omega, bf_im_in 1 1 (by omega) (by omega)]
  rfl
theorem bf_mid (x y : Nat) (hr : r ≤ 11) (hc : c ≤ 11) : bf_R (bf_im r c (bf_g x y)) ((r + 1) * 16 + (c + 1)) = y := by
  show bf_im r c (bf_g x y) (((r + 1) * 16 + (c + 1)) / 16) (((r + 1) * 16 + (c + 1)) % 16) = y
  rw [show ((r + 1) * 16 + (c + 1)) / 16 = r + 1 by omega, show ((r + 1) * 16 + (c + 1)) % 16 = c + 1 by omega, bf_im_in 1 1 (by omega) (by omega)]
  rfl
/-- the law behind the nine settings -/
theorem bf_L57x {x2 : Int32} {n : Nat} (hr0 : 4 ≤ r) (hc0 : 4 ≤ c) (hr : r ≤ 11) (hc : c ≤ 11) (hq : 1 ≤ q) (hpq : q < p) (hp : p ≤ 251) (h1 : bf_A a1 (bf_R (bf_im r c (bf_g p q)))) (h6 : bf_Z a6) (hpost : post 1 ()) :
    wL_lawOf_57 post mc ms x2 (nI r) (nI c) (nI p) (nI q) kc ks (n + 1) (nI 3) a1 a2 a3 a4 a5 a6 a7 := by
  obtain ⟨w, hw, ew⟩ := pk_andE x2 (m := 3) 2 (by decide)
  obtain ⟨h, hh, eh⟩ := pk_andE (x2 >>> ((2 : Int32) &&& 31)) (m := 3) 2 (by decide)
  -- what the filters answer
  have ero5 : ∀ k, k < 256 → bf_f2 false 1 1 (bf_R (bf_bx (r - 1) (r + 4) (c - 1) (c + 4) p)) k = bf_R (bf_im r c (bf_g p p)) k := fun k hk => by
    rw [bf_ero_bx (by omega) (by omega) (by omega) (by omega) k hk, bf_bx_D r c p (by omega) (by omega)]
  have dilA := bf_dil_A (r := r) (c := c) (p := p) (q := q) (by omega) (by omega) (by omega) (by omega) (by omega)
  have dilB := bf_dil_A (r := r) (c := c) (p := p) (q := p) (by omega) (by omega) (by omega) (by omega) (by omega)
  have eroB : ∀ k, k < 256 → bf_f2 false 1 1 (bf_R (bf_im r c (bf_g p p))) k = bf_R (bf_im r c (bf_g 0 p)) k := fun k hk => by
    rw [← bf_bx_B, bf_ero_bx (by omega) (by omega) (by omega) (by omega) k hk, ← bf_bx_C]
    rfl
  have dilC : ∀ k, k < 256 → bf_f2 true 1 1 (bf_R (bf_im r c (bf_g 0 p))) k = bf_R (bf_im r c (bf_g p p)) k := fun k hk => by
    rw [← bf_bx_C, bf_dil_bx (by omega) (by omega) (by omega) (by omega) k hk, ← bf_bx_B]
    rfl
  refine pk_le 3 3 (fun _ => ?_) (fun z => absurd z (by omega))
  refine bf_keep h1 (fun b2 hb2 => ?_)
  refine bf_sum h1 (br_t (by rw [bf_gs (by omega) (by omega), bf_8pq]) ?_)
  refine bf_pim hr0 hc0 hr hc bf_mA 9 8 (fun a ha b hb => ⟨fun _ => rfl, fun _ => ?_⟩) (by rw [bf_im_s (by omega) (by omega)]; rfl) bf_eA h1 (fun b7 => ?_)
  · unfold bf_g
    split <;> omega
  refine br_t (by decide) ?_
  refine bf_equal h1 hb2 (br_t (by rw [bf_all_eq]; rfl) ?_)
  refine bf_close (w := 1) (h := 1) _ _ rfl rfl (by omega) (by omega) h1 dilA ero5 (fun c1 c3 c4 c5 hc1 => ?_)
  refine br_t (by rw [bf_gd (by omega) (by omega), if_pos rfl, if_neg (by omega)]; rfl) ?_
  refine bf_pixel (r + 1) (c + 1) (nI_1 r) (nI_1 c) (by omega) (by omega) hc1 (br_t (by rw [bf_mid p p hr hc]) ?_)
  refine bf_above hc1 hb2 (br_t (by rw [bf_ga (by omega) (by omega), if_pos (by omega), if_neg (by omega)]; rfl) ?_)
  refine bf_close (w := 1) (h := 1) _ _ rfl rfl (by omega) (by omega) hc1 dilB ero5 (fun d1 d3 d4 d5 hd1 => ?_)
  refine br_t (by rw [bf_gd (by omega) (by omega), if_pos rfl]; rfl) ?_
  refine bf_opn (w := 1) (h := 1) _ _ rfl rfl (by omega) (by omega) hd1 eroB dilC (fun e1 e3 e4 e5 he1 => ?_)
  refine br_t (by rw [bf_gd (by omega) (by omega), if_pos rfl]; rfl) ?_
  refine bf_erode (w := 1) (h := 1) _ rfl rfl (by omega) (by omega) he1 eroB (fun f1 f3 f4 f5 hf1 => ?_)
  refine br_t (by rw [bf_gd (by omega) (by omega), if_neg (by omega), if_pos rfl]; rfl) ?_
  refine bf_pixel (r + 1) (c + 1) (nI_1 r) (nI_1 c) (by omega) (by omega) hf1 (br_t (by rw [bf_mid 0 p hr hc]) ?_)
  refine bf_sum hf1 (br_t (by rw [bf_gs (by omega) (by omega), show 8 * 0 + p = p by omega]) ?_)
  refine bf_dilate (w := 1) (h := 1) _ rfl rfl (by omega) (by omega) hf1 dilC (fun g1 g3 g4 g5 hg1 => ?_)
  refine br_t (by rw [bf_gd (by omega) (by omega), if_neg (by omega), if_pos rfl]; rfl) ?_
  refine bf_sum hg1 (br_t (by rw [bf_gs (by omega) (by omega), show (9 : Int32) = nI 9 from rfl, pk_mul, show 8 * p + p = 9 * p by omega]) ?_)
  refine nm_r ew (nm_r eh ?_)
  have ero : ∀ k, k < 256 → bf_f2 false w h (bf_R (bf_im r c (bf_g p p))) k = bf_R (bf_bx (r + h) (r + 3 - h) (c + w) (c + 3 - w) p) k := fun k hk => by
    rw [← bf_bx_B, bf_ero_bx (by omega) (by omega) (by omega) (by omega) k hk]
  by_cases s : w ≤ 1 ∧ h ≤ 1
  · have dil : ∀ k, k < 256 → bf_f2 true w h (bf_R (bf_bx (r + h) (r + 3 - h) (c + w) (c + 3 - w) p)) k = bf_R (bf_im r c (bf_g p p)) k := fun k hk => by
      rw [bf_dil_bx (by omega) (by omega) (by omega) (by omega) k hk, show r + h - h = r by omega, show r + 3 - h + h = r + 3 by omega, show c + w - w = c by omega, show c + 3 - w + w = c + 3 by omega, bf_bx_B]
    refine bf_opn _ _ rfl rfl (by omega) (by omega) hg1 ero dil (fun k1 k3 k4 k5 hk1 => ?_)
    refine br_f (nI_nlt (a := 1) s.1 (by decide)) (br_f (nI_nlt (a := 1) s.2 (by decide)) ?_)
    exact bf_L332 (by rw [bf_gd (by omega) (by omega), if_pos rfl]; rfl) hr0 hc0 hr hc hq hpq hp hk1 hb2 h6 hpost
  · have dil : ∀ k, k < 256 → bf_f2 true w h (bf_R (bf_bx (r + h) (r + 3 - h) (c + w) (c + 3 - w) p)) k = bf_R (bf_im r c (bf_g 0 0)) k := fun k hk => by
      rw [bf_dil_e (by omega) k hk]
      have z := bf_gb (r := r) (c := c) (x := 0) (y := 0) (B := 1) (by omega) (by omega) k
      omega
    refine bf_opn _ _ rfl rfl (by omega) (by omega) hg1 ero dil (fun k1 k3 k4 k5 hk1 => ?_)
    have fin : ∀ z : Int32, z = 9 → wL_lawOf_330 post mc ms (nI r) (nI c) (nI p) (nI q) z kc ks k1 b2 k3 k4 k5 a6 b7 := fun z ez => bf_L332 ez hr0 hc0 hr hc hq hpq hp hk1 hb2 h6 hpost
    have e9 : nI (bf_s (fun k => if bf_R (bf_im r c (bf_g 0 0)) k = bf_R (bf_im r c (bf_g p p)) k then 0 else 1) 256) = 9 := by
      rw [bf_gd (by omega) (by omega), if_neg (by omega)]
      rfl
    exact pk_lt 1 w (fun _ => fin _ e9) (fun y => pk_lt 1 h (fun _ => fin _ e9) (fun y2 => absurd ⟨y, y2⟩ s))
end
end
section
/-- the block behind n settings -/
def bf_G (p q n : Nat) : Nat → Nat → Nat := fun a b => if 3 * a + b < n then bf_g p q a b else 0
section
variable {post : Int32 → St0 → Prop} {mc ms kc ks r c p q : Nat} {a1 a2 a3 a4 a5 a6 a7 : Nat → Int32}
variable {J57 J66 : Int32 → (Nat → Int32) → (Nat → Int32) → (Nat → Int32) → (Nat → Int32) → (Nat → Int32) → (Nat → Int32) → (Nat → Int32) → Prop}
theorem bf_103 {x2 x5 x6 x7 x8 x9 z0 z1 z2 : Int32} {i j v : Nat} (hi : i < 3) (hj : j < 3) (hr : r ≤ 11) (hc : c ≤ 11) (ev : bf_g p q i j = v) (hv : v ≤ 255) (e0 : z0 = nI v) (e1 : z1 = nI (c + j)) (e2 : z2 = nI (r + i)) (h1 : bf_A a1 (bf_R (bf_im r c (bf_G p q (3 * i + j)))))
    (HJ : ∀ b1, bf_A b1 (bf_R (bf_im r c (bf_G p q (3 * i + (j + 1))))) → J66 (nI (j + 1)) b1 a2 a3 a4 a5 a6 a7) :
    wL_lawOf_103 post mc ms J57 J66 x2 x5 x6 x7 x8 x9 (nI j) z0 z1 z2 kc ks a1 a2 a3 a4 a5 a6 a7 := by
  refine bf_set_im i j v 0 e2 e1 e0 hi hj hr hc hv (if_neg (by omega)) h1 (fun b1 hb1 => br_t rfl (nm_r (nI_1 j) (HJ b1 (bf_A_c hb1 (fun k _ => bf_im_c (fun a b ha hb => ?_) k)))))
  show (if a = i ∧ b = j then v else (if 3 * a + b < 3 * i + j then bf_g p q a b else 0)) = (if 3 * a + b < 3 * i + (j + 1) then bf_g p q a b else 0)
  by_cases e : a = i ∧ b = j
  · rw [if_pos e, if_pos (by omega), e.1, e.2, ev]
  · rw [if_neg e]
    by_cases e' : 3 * a + b < 3 * i + j
    · rw [if_pos e', if_pos (by omega)]
    · rw [if_neg e', if_neg (by omega)]
theorem bf_66 {x2 : Int32} {i : Nat} (hi : i < 3) (hr : r ≤ 11) (hc : c ≤ 11) (hp : p ≤ 251) (hq : q < p) (h1 : bf_A a1 (bf_R (bf_im r c (bf_G p q (3 * i)))))
    (HJ : ∀ b1, bf_A b1 (bf_R (bf_im r c (bf_G p q (3 * (i + 1))))) → J57 (nI (i + 1)) b1 a2 a3 a4 a5 a6 a7) :
    ∃ n, wL_lawOf_66 post mc ms J57 x2 (nI r) (nI c) (nI p) (nI q) (nI i) kc ks n (nI 0) a1 a2 a3 a4 a5 a6 a7 := by
  refine pk_loop (fun n j b => wL_lawOf_66 post mc ms J57 x2 (nI r) (nI c) (nI p) (nI q) (nI i) kc ks n (nI j) b a2 a3 a4 a5 a6 a7) (fun j b => bf_A b (bf_R (bf_im r c (bf_G p q (3 * i + j))))) 3 0 a1 (by omega) h1 ?_ ?_
  · intro n b hb
    refine pk_le 3 3 (fun _ => nm_r (nI_1 i) (HJ b ?_)) (fun z => absurd z (by omega))
    rw [show 3 * (i + 1) = 3 * i + 3 by omega]
    exact hb
  · intro n j b hj hb hk
    refine pk_le 3 j (fun z => absurd z (by omega)) (fun _ => pk_eq i 1 (fun ei => pk_eq j 1 (fun ej => ?_) (fun nj => ?_)) (fun ni => ?_))
    · exact bf_103 (i := i) (v := q) hi hj hr hc (if_pos ⟨ei, ej⟩) (by omega) rfl (nI_add c j) (nI_add r i) hb hk
    · exact bf_103 (i := i) (v := p) hi hj hr hc (if_neg (fun z => nj z.2)) (by omega) rfl (nI_add c j) (nI_add r i) hb hk
    · exact bf_103 (i := i) (v := p) hi hj hr hc (if_neg (fun z => ni z.1)) (by omega) rfl (nI_add c j) (nI_add r i) hb hk
theorem bf_57 {x2 : Int32} (hr0 : 4 ≤ r) (hc0 : 4 ≤ c) (hr : r ≤ 11) (hc : c ≤ 11) (hq : 1 ≤ q) (hpq : q < p) (hp : p ≤ 251) (h1 : ∀ k, k < 256 → a1 k = nI 0) (h6 : bf_Z a6) (hpost : post 1 ()) :
    ∃ n, wL_lawOf_57 post mc ms x2 (nI r) (nI c) (nI p) (nI q) kc ks n (nI 0) a1 a2 a3 a4 a5 a6 a7 := by
  refine pk_loop (fun n i b => wL_lawOf_57 post mc ms x2 (nI r) (nI c) (nI p) (nI q) kc ks n (nI i) b a2 a3 a4 a5 a6 a7) (fun i b => bf_A b (bf_R (bf_im r c (bf_G p q (3 * i))))) 3 0 a1 (by omega) (fun k hk => ?_) ?_ ?_
  · have z : bf_R (bf_im r c (bf_G p q (3 * 0))) k = 0 := by
      have y := bf_im_b (r := r) (c := c) (g := bf_G p q (3 * 0)) (B := 1) (by omega) (fun a b => by unfold bf_G; rw [if_neg (by omega)]; omega) k
      omega
    rw [z]
    exact ⟨h1 k hk, by omega⟩
  · intro n b hb
    refine bf_L57x hr0 hc0 hr hc hq hpq hp (bf_A_c hb (fun k _ => bf_im_c (fun a b ha hb => ?_) k)) h6 hpost
    exact if_pos (by omega)
  · intro n i b hi hb hk
    exact pk_le 3 i (fun z => absurd z (by omega)) (fun _ => bf_66 hi hr hc hp hpq hb hk)
theorem bf_lawOf {x y z v : Int32} (hmc : 8 ≤ mc) (hms : 1352 ≤ ms) (hpost : post 1 ()) : wpL_lawOf post mc ms () x y z v := by
  obtain ⟨a, ha, ea⟩ := pk_andE x (m := 7) 3 (by decide)
  obtain ⟨b, hb, eb⟩ := pk_andE (x >>> ((3 : Int32) &&& 31)) (m := 7) 3 (by decide)
  obtain ⟨d, hd, ed⟩ := pk_andE y (m := 1023) 10 (by decide)
  obtain ⟨e, he, ee⟩ := pk_andE v (m := 1023) 10 (by decide)
  have e4 : ∀ n, (4 : Int32) + nI n = nI (4 + n) := fun n => nI_add 4 n
  have hdm : d % 250 < 250 := Nat.mod_lt _ (by omega)
  have ep : (2 : Int32) + (nI d - nI d / 250 * 250) = nI (2 + d % 250) := by
    rw [show nI d - nI d / 250 * 250 = nI (d % 250) from pk_rem (d := 250) (by omega) (by omega) (by omega)]
    exact nI_add 2 _
  have em : nI (2 + d % 250) - 1 = nI (1 + d % 250) := by
    rw [show 1 + d % 250 = 2 + d % 250 - 1 by omega]
    exact pk_sub (b := 1) (by omega)
  have hem : e % (1 + d % 250) < 1 + d % 250 := Nat.mod_lt _ (by omega)
  have eq : (1 : Int32) + (nI e - nI e / nI (1 + d % 250) * nI (1 + d % 250)) = nI (1 + e % (1 + d % 250)) := by
    rw [pk_rem (by omega) (by omega) (by omega)]
    exact nI_add 1 _
  unfold wpL_lawOf
  rw [ea, eb, ed, ee]
  refine ⟨by omega, by omega, 7, 1345, by omega, by omega, by omega, by omega, by omega, by omega, by omega, by omega, by omega, by omega, by omega, by omega, by omega, by omega, by omega, by omega, nm_e ?_⟩
  refine nm_r (e4 a) (nm_r (e4 b) ⟨by decide, nm_r ep ?_⟩)
  rw [em]
  refine ⟨nI_ne0 (by omega) (by omega), nm_r eq ?_⟩
  refine bf_57 (by omega) (by omega) (by omega) (by omega) (by omega) (by omega) (by omega) (fun k _ => ?_) ⟨fun _ _ => rfl, fun _ _ => rfl⟩ hpost
  by_cases h : k = 0
  · rw [h, pk_us]
    rfl
  · rw [pk_un h]
    rfl
end
theorem bf_cell {post : Int32 → Prop} {L : Nat} {xs : Nat → Int32} {x : Int32} (k : Nat) (hx : x = nI k) (hk : k < 4) (hL : L ≤ 4) (H : ∀ v, post v) : wpL_cellAt post L xs () x :=
  pk_le L k (fun _ => H _) (fun z => ⟨pk_in k L z hx, H _⟩) rfl hx
theorem i_vc (xs : Nat → Int32) (L : Nat) (hL : L ≤ 4) : wpL_law (fun r => r = 1) L xs := by
  unfold wpL_law
  refine bf_cell 0 rfl (by omega) hL (fun v1 => ?_)
  refine bf_cell 1 rfl (by omega) hL (fun v2 => ?_)
  refine bf_cell 2 rfl (by omega) hL (fun v3 => ?_)
  refine bf_cell 3 rfl (by omega) hL (fun v4 => ?_)
  exact ⟨692, 11072, by omega, by omega, bf_lawOf (by omega) (by omega) rfl⟩
end
