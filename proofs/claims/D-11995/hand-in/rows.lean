section
/-! ===== 01: changes, sums, residues, counts: plain Lean ===== -/
/-- one place of an array of naturals changed -/
def sd_u (f : Nat → Nat) (k v : Nat) : Nat → Nat := fun i => if i = k then v else f i
theorem sd_us {f : Nat → Nat} {k v : Nat} : sd_u f k v k = v := by
  unfold sd_u
  rw [if_pos rfl]
theorem sd_un {f : Nat → Nat} {k v j : Nat} (h : j ≠ k) : sd_u f k v j = f j := by
  unfold sd_u
  rw [if_neg h]
/-- the sum of the first n -/
def sd_s (f : Nat → Nat) : Nat → Nat
  | 0 => 0
  | n + 1 => sd_s f n + f n
theorem sd_sC {f g : Nat → Nat} {n : Nat} (h : ∀ k, k < n → f k = g k) : sd_s f n = sd_s g n := by
  induction n with
  | zero => rfl
  | succ n ih =>
    show sd_s f n + f n = sd_s g n + g n
    rw [ih (fun k hk => h k (by omega)), h n (by omega)]
theorem sd_sL {f g : Nat → Nat} {n : Nat} (h : ∀ k, k < n → f k ≤ g k) : sd_s f n ≤ sd_s g n := by
  induction n with
  | zero => exact Nat.le_refl 0
  | succ n ih =>
    have a := ih (fun k hk => h k (by omega))
    have b := h n (by omega)
    show sd_s f n + f n ≤ sd_s g n + g n
    omega
theorem sd_sA (f g : Nat → Nat) (n : Nat) : sd_s (fun k => f k + g k) n = sd_s f n + sd_s g n := by
  induction n with
  | zero => rfl
  | succ n ih =>
    show sd_s (fun k => f k + g k) n + (f n + g n) = (sd_s f n + f n) + (sd_s g n + g n)
    omega
theorem sd_sU {f : Nat → Nat} {n k v : Nat} (h : k < n) : sd_s (sd_u f k v) n + f k = sd_s f n + v := by
  induction n with
  | zero => omega
  | succ n ih =>
    show sd_s (sd_u f k v) n + sd_u f k v n + f k = sd_s f n + f n + v
    by_cases e : k = n
    · subst e
      rw [sd_us, sd_sC (f := sd_u f k v) (g := f) (fun j hj => sd_un (by omega))]
      omega
    · rw [sd_un (fun z => e z.symm)]
      have := ih (by omega)
      omega
/-- one place differs -/
theorem sd_sP {f g : Nat → Nat} {n k : Nat} (hk : k < n) (h : ∀ j, j < n → j ≠ k → g j = f j) : sd_s g n + f k = sd_s f n + g k := by
  have e : sd_s g n = sd_s (sd_u f k (g k)) n := sd_sC (fun j hj => by
    by_cases z : j = k
    · rw [z, sd_us]
    · rw [sd_un z, h j hj z])
  rw [e]
  exact sd_sU hk
/-- two places differ -/
theorem sd_sP2 {f g : Nat → Nat} {n k l : Nat} (hk : k < n) (hl : l < n) (hkl : l ≠ k) (h : ∀ j, j < n → j ≠ k → j ≠ l → g j = f j) : sd_s g n + f k + f l = sd_s f n + g k + g l := by
  have a := sd_sU (f := f) (v := g k) hk
  have b := sd_sP (f := sd_u f k (g k)) (g := g) hl (fun j hj z => by
    by_cases y : j = k
    · rw [y, sd_us]
    · rw [sd_un y, h j hj y z])
  rw [sd_un hkl] at b
  omega
theorem sd_s0 {f : Nat → Nat} {n : Nat} (h : ∀ k, k < n → f k = 0) : sd_s f n = 0 := by
  induction n with
  | zero => rfl
  | succ n ih =>
    show sd_s f n + f n = 0
    rw [ih (fun k hk => h k (by omega)), h n (by omega)]
theorem sd_sK (c : Nat) : ∀ n, sd_s (fun _ => c) n = n * c := by
  intro n
  induction n with
  | zero => exact (Nat.zero_mul c).symm
  | succ n ih =>
    show sd_s (fun _ => c) n + c = (n + 1) * c
    rw [ih, Nat.succ_mul]
theorem sd_sG {f : Nat → Nat} {n k : Nat} (h : k < n) : f k ≤ sd_s f n := by
  have := sd_sU (f := f) (v := 0) h
  omega
/-- a set that is enumerated by n different places has n members -/
theorem sd_img {f : Nat → Nat} {N : Nat} : ∀ (n : Nat) (g : Nat → Nat), (∀ i j, i < j → j < n → f i ≠ f j) → (∀ i, i < n → f i < N) → (∀ i, i < n → g (f i) = 1) → (∀ x, x < N → (∀ i, i < n → f i ≠ x) → g x = 0) → sd_s g N = n := by
  intro n
  induction n with
  | zero =>
    intro g _ _ _ h4
    exact sd_s0 (fun k hk => h4 k hk (fun i hi => absurd hi (by omega)))
  | succ n ih =>
    intro g h1 h2 h3 h4
    have a := ih (sd_u g (f n) 0) (fun i j hi hj => h1 i j hi (by omega)) (fun i hi => h2 i (by omega))
      (fun i hi => by rw [sd_un (h1 i n hi (by omega))]; exact h3 i (by omega))
      (fun x hx hi => by
        by_cases e : x = f n
        · rw [e, sd_us]
        · rw [sd_un e]
          refine h4 x hx (fun i hin => ?_)
          by_cases z : i = n
          · rw [z]
            exact fun y => e y.symm
          · exact hi i (by omega))
    have b := sd_sU (f := g) (v := 0) (h2 n (by omega))
    have c := h3 n (by omega)
    omega
/-! residues of powers of two -/
theorem sd_pp (d : Nat) : 0 < 2 ^ d := Nat.pow_pos (by decide)
theorem sd_mm {d d' : Nat} (h : d ≤ d') (k : Nat) : k % 2 ^ d' % 2 ^ d = k % 2 ^ d := Nat.mod_mod_of_dvd k (Nat.pow_dvd_pow 2 h)
theorem sd_md {a b d d' : Nat} (h : d ≤ d') (e : a % 2 ^ d' = b % 2 ^ d') : a % 2 ^ d = b % 2 ^ d := by
  rw [← sd_mm h a, e, sd_mm h]
theorem sd_m1 (k d : Nat) : k % 2 ^ (d + 1) = k % 2 ^ d + 2 ^ d * (k / 2 ^ d % 2) := Nat.mod_pow_succ
theorem sd_mb (a b d : Nat) : a % 2 ^ (d + 1) = b % 2 ^ (d + 1) ↔ a % 2 ^ d = b % 2 ^ d ∧ a / 2 ^ d % 2 = b / 2 ^ d % 2 := by
  constructor
  · intro h
    have e : a % 2 ^ d = b % 2 ^ d := sd_md (Nat.le_succ d) h
    refine ⟨e, ?_⟩
    rw [sd_m1, sd_m1, e] at h
    exact Nat.eq_of_mul_eq_mul_left (sd_pp d) (Nat.add_left_cancel h)
  · intro h
    rw [sd_m1, sd_m1, h.1, h.2]
theorem sd_b2 (a : Nat) : a % 2 = 0 ∨ a % 2 = 1 := by omega
/-- the other bucket of a pair -/
theorem sd_xr : ∀ f, f < 6 → ∀ k, k < 256 → (k ^^^ 2 ^ f) < 256 ∧ (k ^^^ 2 ^ f) % 2 ^ f = k % 2 ^ f ∧ (k ^^^ 2 ^ f) / 2 ^ f % 2 ≠ k / 2 ^ f % 2 := by decide +kernel
/-! how many keys share the last d digits with e -/
def sd_n (K : Nat → Bool) (e d : Nat) : Nat := sd_s (fun k => if K k = true ∧ k % 2 ^ d = e % 2 ^ d then 1 else 0) 256
theorem sd_nC {K : Nat → Bool} {e e' d : Nat} (h : e % 2 ^ d = e' % 2 ^ d) : sd_n K e d = sd_n K e' d := by
  unfold sd_n
  rw [h]
theorem sd_nM {K : Nat → Bool} {e d d' : Nat} (h : d ≤ d') : sd_n K e d' ≤ sd_n K e d := by
  refine sd_sL (fun k _ => ?_)
  try dsimp only
  by_cases c : K k = true ∧ k % 2 ^ d' = e % 2 ^ d'
  · rw [if_pos c, if_pos ⟨c.1, sd_md h c.2⟩]
    exact Nat.le_refl 1
  · rw [if_neg c]
    exact Nat.zero_le _
theorem sd_nS {K : Nat → Bool} {e e' d : Nat} (h : e' % 2 ^ d = e % 2 ^ d) (hb : e' / 2 ^ d % 2 ≠ e / 2 ^ d % 2) : sd_n K e d = sd_n K e (d + 1) + sd_n K e' (d + 1) := by
  unfold sd_n
  rw [← sd_sA]
  refine sd_sC (fun k _ => ?_)
  try dsimp only
  have m1 := sd_mb k e d
  have m2 := sd_mb k e' d
  rw [h] at m2
  have b1 := sd_b2 (k / 2 ^ d)
  have b2 := sd_b2 (e / 2 ^ d)
  have b3 := sd_b2 (e' / 2 ^ d)
  generalize k / 2 ^ d % 2 = x at *
  generalize e / 2 ^ d % 2 = y at *
  generalize e' / 2 ^ d % 2 = z at *
  by_cases c1 : K k = true
  · by_cases c2 : k % 2 ^ d = e % 2 ^ d
    · rw [if_pos ⟨c1, c2⟩]
      by_cases c3 : x = y
      · rw [if_pos ⟨c1, m1.mpr ⟨c2, c3⟩⟩, if_neg (fun w => by have := (m2.mp w.2).2; omega)]
      · rw [if_neg (fun w => c3 (m1.mp w.2).2), if_pos ⟨c1, m2.mpr ⟨c2, by omega⟩⟩]
    · rw [if_neg (fun w => c2 w.2), if_neg (fun w => c2 (m1.mp w.2).1), if_neg (fun w => c2 (m2.mp w.2).1)]
  · rw [if_neg (fun w => c1 w.1), if_neg (fun w => c1 w.1), if_neg (fun w => c1 w.1)]
/-- a key put into, or taken out of, the set -/
def sd_p (K : Nat → Bool) (q : Nat) (v : Bool) : Nat → Bool := fun k => if k = q then v else K k
theorem sd_ps {K : Nat → Bool} {q : Nat} {v : Bool} : sd_p K q v q = v := by
  unfold sd_p
  rw [if_pos rfl]
theorem sd_pn {K : Nat → Bool} {q k : Nat} {v : Bool} (h : k ≠ q) : sd_p K q v k = K k := by
  unfold sd_p
  rw [if_neg h]
theorem sd_nP {K : Nat → Bool} {q e d : Nat} (hq : q < 256) (h : K q = false) : sd_n (sd_p K q true) e d = sd_n K e d + (if q % 2 ^ d = e % 2 ^ d then 1 else 0) := by
  have a := sd_sP (f := fun k => if K k = true ∧ k % 2 ^ d = e % 2 ^ d then 1 else 0) (g := fun k => if sd_p K q true k = true ∧ k % 2 ^ d = e % 2 ^ d then 1 else 0) hq (fun j _ z => by
    try dsimp only
    rw [sd_pn z])
  try dsimp only at a
  rw [sd_ps, h, if_neg (show ¬ (false = true ∧ q % 2 ^ d = e % 2 ^ d) from fun w => absurd w.1 (by decide))] at a
  unfold sd_n
  by_cases c : q % 2 ^ d = e % 2 ^ d
  · rw [if_pos ⟨rfl, c⟩] at a
    rw [if_pos c]
    exact a
  · rw [if_neg (fun w => c w.2)] at a
    rw [if_neg c]
    exact a
theorem sd_pp2 {K : Nat → Bool} {q : Nat} (h : K q = true) : sd_p (sd_p K q false) q true = K := by
  funext k
  by_cases e : k = q
  · rw [e, sd_ps, h]
  · rw [sd_pn e, sd_pn e]
theorem sd_nR {K : Nat → Bool} {q e d : Nat} (hq : q < 256) (h : K q = true) : sd_n K e d = sd_n (sd_p K q false) e d + (if q % 2 ^ d = e % 2 ^ d then 1 else 0) := by
  have a := sd_nP (K := sd_p K q false) (e := e) (d := d) hq sd_ps
  rw [sd_pp2 h] at a
  exact a
theorem sd_64 : ∀ r, r < 64 → sd_s (fun k => if k % 64 = r then 1 else 0) 256 = 4 := by decide +kernel
theorem sd_n6 (K : Nat → Bool) (e : Nat) : sd_n K e 6 ≤ 4 := by
  rw [← sd_64 (e % 64) (by omega)]
  refine sd_sL (fun k _ => ?_)
  try dsimp only
  by_cases c : K k = true ∧ k % 2 ^ 6 = e % 2 ^ 6
  · rw [if_pos c, if_pos c.2]
    exact Nat.le_refl 1
  · rw [if_neg c]
    exact Nat.zero_le _
/-! what a bucket holds: n different keys, the set S -/
def sd_H (ky : Nat → Nat) (b n : Nat) (S : Nat → Prop) : Prop := (∀ i, i < n → S (ky (b * 5 + i))) ∧ (∀ k, S k → ∃ i, i < n ∧ ky (b * 5 + i) = k) ∧ (∀ i j, i < j → j < n → ky (b * 5 + i) ≠ ky (b * 5 + j))
theorem sd_H0 {ky : Nat → Nat} {b : Nat} {S : Nat → Prop} (h : ∀ x, ¬ S x) : sd_H ky b 0 S :=
  ⟨fun i hi => absurd hi (by omega), fun k hk => absurd hk (h k), fun i j _ hj => absurd hj (by omega)⟩
theorem sd_HF {ky ky' : Nat → Nat} {b n : Nat} {S S' : Nat → Prop} (h : sd_H ky b n S) (e : ∀ i, i < n → ky' (b * 5 + i) = ky (b * 5 + i)) (eS : ∀ k, S' k ↔ S k) : sd_H ky' b n S' := by
  obtain ⟨h1, h2, h3⟩ := h
  refine ⟨fun i hi => ?_, fun k hk => ?_, fun i j hij hj => ?_⟩
  · rw [e i hi]
    exact (eS _).mpr (h1 i hi)
  · obtain ⟨i, hi, ei⟩ := h2 k ((eS k).mp hk)
    exact ⟨i, hi, by rw [e i hi, ei]⟩
  · rw [e i (by omega), e j hj]
    exact h3 i j hij hj
theorem sd_HA {ky : Nat → Nat} {b n q : Nat} {S S' : Nat → Prop} (h : sd_H ky b n S) (hq : ¬ S q) (eS : ∀ x, S' x ↔ S x ∨ x = q) : sd_H (sd_u ky (b * 5 + n) q) b (n + 1) S' := by
  obtain ⟨h1, h2, h3⟩ := h
  refine ⟨fun i hi => ?_, fun k hk => ?_, fun i j hij hj => ?_⟩
  · by_cases e : i = n
    · rw [e, sd_us]
      exact (eS q).mpr (Or.inr rfl)
    · rw [sd_un (by omega)]
      exact (eS _).mpr (Or.inl (h1 i (by omega)))
  · rcases (eS k).mp hk with z | z
    · obtain ⟨i, hi, ei⟩ := h2 k z
      exact ⟨i, by omega, by rw [sd_un (by omega), ei]⟩
    · exact ⟨n, by omega, by rw [sd_us, z]⟩
  · rw [sd_un (show b * 5 + i ≠ b * 5 + n by omega)]
    by_cases e : j = n
    · rw [e, sd_us]
      exact fun z => hq (z ▸ h1 i (by omega))
    · rw [sd_un (by omega)]
      exact h3 i j hij (by omega)
theorem sd_HD {ky : Nat → Nat} {b n p q : Nat} {S S' : Nat → Prop} (h : sd_H ky b (n + 1) S) (hp : p < n + 1) (e : ky (b * 5 + p) = q) (eS : ∀ x, S' x ↔ S x ∧ x ≠ q) : sd_H (sd_u ky (b * 5 + p) (ky (b * 5 + n))) b n S' := by
  obtain ⟨h1, h2, h3⟩ := h
  have dis : ∀ i j, i < n + 1 → j < n + 1 → i ≠ j → ky (b * 5 + i) ≠ ky (b * 5 + j) := by
    intro i j hi hj hij
    rcases Nat.lt_or_gt_of_ne hij with z | z
    · exact h3 i j z hj
    · exact fun y => h3 j i z hi y.symm
  refine ⟨fun i hi => ?_, fun k hk => ?_, fun i j hij hj => ?_⟩
  · by_cases z : i = p
    · rw [z, sd_us]
      refine (eS _).mpr ⟨h1 n (by omega), ?_⟩
      rw [← e]
      exact dis n p (by omega) hp (by omega)
    · rw [sd_un (by omega)]
      refine (eS _).mpr ⟨h1 i (by omega), ?_⟩
      rw [← e]
      exact dis i p (by omega) hp z
  · obtain ⟨hk1, hk2⟩ := (eS k).mp hk
    obtain ⟨i, hi, ei⟩ := h2 k hk1
    have hip : i ≠ p := fun z => hk2 (by rw [← ei, z, e])
    by_cases z : i = n
    · exact ⟨p, by omega, by rw [sd_us, ← z, ei]⟩
    · exact ⟨i, by omega, by rw [sd_un (by omega), ei]⟩
  · by_cases z : i = p
    · rw [z, sd_us, sd_un (by omega)]
      exact dis n j (by omega) (by omega) (by omega)
    · rw [sd_un (show b * 5 + i ≠ b * 5 + p by omega)]
      by_cases y : j = p
      · rw [y, sd_us]
        exact dis i n (by omega) (by omega) (by omega)
      · rw [sd_un (by omega)]
        exact dis i j (by omega) (by omega) (by omega)
theorem sd_Hn {ky g : Nat → Nat} {b n : Nat} {S : Nat → Prop} (h : sd_H ky b n S) (hS : ∀ x, S x → x < 256) (g1 : ∀ x, x < 256 → S x → g x = 1) (g0 : ∀ x, x < 256 → ¬ S x → g x = 0) : sd_s g 256 = n := by
  obtain ⟨h1, h2, h3⟩ := h
  refine sd_img (f := fun i => ky (b * 5 + i)) n g h3 (fun i hi => hS _ (h1 i hi)) (fun i hi => g1 _ (hS _ (h1 i hi)) (h1 i hi)) (fun x hx hn => g0 x hx (fun hs => ?_))
  obtain ⟨i, hi, ei⟩ := h2 x hs
  exact hn i hi ei
end
section
/-! ===== 02: the tree of endings. B k: the bucket of the key k ===== -/
/-- the tree: keys share a bucket iff they share as many digits as the bucket is deep -/
def sd_T (B us dp : Nat → Nat) : Prop := (∀ b, us b ≤ 1) ∧ (∀ b, dp b ≤ 6) ∧ (∀ k, B k < 64 ∧ us (B k) = 1) ∧ (∀ k j, B k = B j ↔ k % 2 ^ dp (B k) = j % 2 ^ dp (B k)) ∧ sd_s (fun b => us b * 2 ^ (8 - dp b)) 64 = 256
/-- the directory tells the tree -/
def sd_R (D : Nat) (dir B dp : Nat → Nat) : Prop := D ≤ 6 ∧ (∀ k, dir (k % 2 ^ D) = B k) ∧ (∀ k, dp (B k) ≤ D)
/-- the buckets hold the set K -/
def sd_C (B ld ky : Nat → Nat) (K : Nat → Bool) : Prop := ∀ k, ld (B k) ≤ 5 ∧ sd_H ky (B k) (ld (B k)) (fun x => x < 256 ∧ K x = true ∧ B x = B k)
/-- no pair of buckets fits into one -/
def sd_M (B dp : Nat → Nat) (K : Nat → Bool) : Prop := ∀ k, dp (B k) ≠ 0 → 4 < sd_n K k (dp (B k) - 1)
/-- the same, but for the classes of one key -/
def sd_W (B dp : Nat → Nat) (K : Nat → Bool) (q : Nat) : Prop := ∀ k, dp (B k) ≠ 0 → 4 < sd_n K k (dp (B k) - 1) ∨ k % 2 ^ (dp (B k) - 1) = q % 2 ^ (dp (B k) - 1)
theorem sd_ldn {B us dp ld ky : Nat → Nat} {K : Nat → Bool} (hT : sd_T B us dp) (hC : sd_C B ld ky K) (k : Nat) : sd_n K k (dp (B k)) = ld (B k) := by
  unfold sd_n
  refine sd_Hn (hC k).2 (fun x hx => hx.1) (fun x hx hs => if_pos ⟨hs.2.1, ?_⟩) (fun x hx hs => if_neg (fun w => hs ⟨hx, w.1, ((hT.2.2.2.1 k x).mpr w.2.symm).symm⟩))
  exact ((hT.2.2.2.1 k x).mp hs.2.2.symm).symm
theorem sd_free {B us dp : Nat → Nat} (hT : sd_T B us dp) (k : Nat) (hd : dp (B k) ≤ 5) : ∃ c, c < 64 ∧ us c = 0 := by
  apply Classical.byContradiction
  intro hn
  have h1 : ∀ b, b < 64 → us b = 1 := fun b hb => by
    have := hT.1 b
    by_cases z : us b = 0
    · exact absurd ⟨b, hb, z⟩ hn
    · omega
  have hb := (hT.2.2.1 k).1
  have a : sd_s (sd_u (fun _ => 4) (B k) 8) 64 ≤ sd_s (fun b => us b * 2 ^ (8 - dp b)) 64 := sd_sL (fun b hb => by
    try dsimp only
    rw [h1 b hb, Nat.one_mul]
    by_cases z : b = B k
    · rw [z, sd_us]
      exact Nat.pow_le_pow_right (n := 2) (by decide) (show 3 ≤ 8 - dp (B k) by omega)
    · rw [sd_un z]
      have := hT.2.1 b
      exact Nat.pow_le_pow_right (n := 2) (by decide) (show 2 ≤ 8 - dp b by omega))
  have b := sd_sU (f := fun _ => 4) (v := 8) hb
  rw [sd_sK] at b
  rw [hT.2.2.2.2] at a
  try dsimp only at b
  omega
/-! a bucket split: the keys of q's bucket whose next digit is 1 go to c -/
def sd_sB (B : Nat → Nat) (q c d : Nat) : Nat → Nat := fun k => if B k = B q ∧ k / 2 ^ d % 2 = 1 then c else B k
theorem sd_sB3 (B : Nat → Nat) (q c d k : Nat) : (B k = B q ∧ k / 2 ^ d % 2 = 1 ∧ sd_sB B q c d k = c) ∨ (B k = B q ∧ k / 2 ^ d % 2 = 0 ∧ sd_sB B q c d k = B q) ∨ (B k ≠ B q ∧ sd_sB B q c d k = B k) := by
  unfold sd_sB
  by_cases h : B k = B q
  · rcases sd_b2 (k / 2 ^ d) with z | z
    · refine Or.inr (Or.inl ⟨h, z, ?_⟩)
      rw [if_neg (fun w => by omega), h]
    · exact Or.inl ⟨h, z, if_pos ⟨h, z⟩⟩
  · exact Or.inr (Or.inr ⟨h, if_neg (fun w => h w.1)⟩)
theorem sd_Tne {B us dp : Nat → Nat} (hT : sd_T B us dp) {c : Nat} (hu : us c = 0) (k : Nat) : B k ≠ c := by
  intro e
  have := (hT.2.2.1 k).2
  rw [e] at this
  omega
theorem sd_Tsplit {B us dp : Nat → Nat} (hT : sd_T B us dp) {q c d : Nat} (hd : dp (B q) = d) (hd5 : d ≤ 5) (hc : c < 64) (hu : us c = 0) : sd_T (sd_sB B q c d) (sd_u us c 1) (sd_u (sd_u dp (B q) (d + 1)) c (d + 1)) := by
  have hne := sd_Tne hT hu
  have e : ∀ j, B q = B j ↔ q % 2 ^ d = j % 2 ^ d := by
    intro j
    have := hT.2.2.2.1 q j
    rw [hd] at this
    exact this
  refine ⟨fun b => ?_, fun b => ?_, fun k => ?_, fun k j => ?_, ?_⟩
  · by_cases z : b = c
    · rw [z, sd_us]
      exact Nat.le_refl 1
    · rw [sd_un z]
      exact hT.1 b
  · by_cases z : b = c
    · rw [z, sd_us]
      omega
    · rw [sd_un z]
      by_cases y : b = B q
      · rw [y, sd_us]
        omega
      · rw [sd_un y]
        exact hT.2.1 b
  · rcases sd_sB3 B q c d k with ⟨h1, h2, h3⟩ | ⟨h1, h2, h3⟩ | ⟨h1, h3⟩
    · rw [h3]
      exact ⟨hc, sd_us⟩
    · rw [h3, sd_un (hne q)]
      exact hT.2.2.1 q
    · rw [h3, sd_un (hne k)]
      exact hT.2.2.1 k
  · rcases sd_sB3 B q c d k with ⟨h1, h2, h3⟩ | ⟨h1, h2, h3⟩ | ⟨h1, h3⟩
    · rw [h3, sd_us, sd_mb]
      have hk := (e k).mp h1.symm
      rcases sd_sB3 B q c d j with ⟨g1, g2, g3⟩ | ⟨g1, g2, g3⟩ | ⟨g1, g3⟩
      · rw [g3]
        have hj := (e j).mp g1.symm
        exact ⟨fun _ => ⟨by omega, by omega⟩, fun _ => rfl⟩
      · rw [g3]
        exact ⟨fun z => absurd z.symm (hne q), fun z => absurd z.2 (by omega)⟩
      · rw [g3]
        exact ⟨fun z => absurd z.symm (hne j), fun z => absurd ((e j).mpr (by omega)).symm g1⟩
    · rw [h3, sd_un (hne q), sd_us, sd_mb]
      have hk := (e k).mp h1.symm
      rcases sd_sB3 B q c d j with ⟨g1, g2, g3⟩ | ⟨g1, g2, g3⟩ | ⟨g1, g3⟩
      · rw [g3]
        exact ⟨fun z => absurd z (hne q), fun z => absurd z.2 (by omega)⟩
      · rw [g3]
        have hj := (e j).mp g1.symm
        exact ⟨fun _ => ⟨by omega, by omega⟩, fun _ => rfl⟩
      · rw [g3]
        exact ⟨fun z => absurd z.symm g1, fun z => absurd ((e j).mpr (by omega)).symm g1⟩
    · rw [h3, sd_un (hne k), sd_un h1, ← hT.2.2.2.1 k j]
      rcases sd_sB3 B q c d j with ⟨g1, g2, g3⟩ | ⟨g1, g2, g3⟩ | ⟨g1, g3⟩
      · rw [g3]
        exact ⟨fun z => absurd z (hne k), fun z => absurd (z.trans g1) h1⟩
      · rw [g3, g1]
      · rw [g3]
  · have a := sd_sP2 (f := fun b => us b * 2 ^ (8 - dp b)) (g := fun b => sd_u us c 1 b * 2 ^ (8 - sd_u (sd_u dp (B q) (d + 1)) c (d + 1) b)) (hT.2.2.1 q).1 hc (fun z => hne q z.symm) (fun j _ z1 z2 => by
      try dsimp only
      rw [sd_un z2, sd_un z2, sd_un z1])
    try dsimp only at a
    rw [sd_un (hne q), sd_un (hne q), sd_us, sd_us, sd_us, hu, hd, (hT.2.2.1 q).2, show 8 - d = (8 - (d + 1)) + 1 by omega, Nat.pow_succ] at a
    have b := hT.2.2.2.2
    omega
/-! two buckets joined: the keys of c go to b -/
def sd_jB (B : Nat → Nat) (b c : Nat) : Nat → Nat := fun k => if B k = c then b else B k
theorem sd_jBc {B : Nat → Nat} {b c k : Nat} (h : B k = c) : sd_jB B b c k = b := if_pos h
theorem sd_jBo {B : Nat → Nat} {b c k : Nat} (h : B k ≠ c) : sd_jB B b c k = B k := if_neg h
theorem sd_jne {B us dp : Nat → Nat} (hT : sd_T B us dp) {q e f : Nat} (hd : dp (B q) = f + 1) (h2 : e / 2 ^ f % 2 ≠ q / 2 ^ f % 2) : B q ≠ B e := by
  intro z
  have a := (hT.2.2.2.1 q e).mp z
  rw [hd] at a
  exact h2 ((sd_mb q e f).mp a).2.symm
theorem sd_jcl {B us dp : Nat → Nat} (hT : sd_T B us dp) {q e f : Nat} (hd : dp (B q) = f + 1) (hc : dp (B e) = f + 1) (h1 : e % 2 ^ f = q % 2 ^ f) (h2 : e / 2 ^ f % 2 ≠ q / 2 ^ f % 2) (j : Nat) : (B j = B q ∨ B j = B e) ↔ q % 2 ^ f = j % 2 ^ f := by
  have a := hT.2.2.2.1 q j
  have b := hT.2.2.2.1 e j
  rw [hd, sd_mb] at a
  rw [hc, sd_mb] at b
  constructor
  · intro z
    rcases z with z | z
    · exact (a.mp z.symm).1
    · have := (b.mp z.symm).1
      omega
  · intro z
    have b1 := sd_b2 (j / 2 ^ f)
    have b2 := sd_b2 (q / 2 ^ f)
    have b3 := sd_b2 (e / 2 ^ f)
    by_cases y : q / 2 ^ f % 2 = j / 2 ^ f % 2
    · exact Or.inl (a.mpr ⟨z, y⟩).symm
    · exact Or.inr (b.mpr ⟨by omega, by omega⟩).symm
theorem sd_Tjoin {B us dp : Nat → Nat} (hT : sd_T B us dp) {q e f : Nat} (hd : dp (B q) = f + 1) (hc : dp (B e) = f + 1) (h1 : e % 2 ^ f = q % 2 ^ f) (h2 : e / 2 ^ f % 2 ≠ q / 2 ^ f % 2) : sd_T (sd_jB B (B q) (B e)) (sd_u us (B e) 0) (sd_u dp (B q) f) := by
  have hne := sd_jne hT hd h2
  have key := sd_jcl hT hd hc h1 h2
  have hjq : ∀ j, B j = B q ∨ B j = B e → sd_jB B (B q) (B e) j = B q := by
    intro j hj
    rcases hj with z | z
    · rw [sd_jBo (fun y => hne (z.symm.trans y)), z]
    · exact sd_jBc z
  have hd6 := hT.2.1 (B q)
  refine ⟨fun b => ?_, fun b => ?_, fun k => ?_, fun k j => ?_, ?_⟩
  · by_cases z : b = B e
    · rw [z, sd_us]
      exact Nat.zero_le 1
    · rw [sd_un z]
      exact hT.1 b
  · by_cases z : b = B q
    · rw [z, sd_us]
      omega
    · rw [sd_un z]
      exact hT.2.1 b
  · by_cases z : B k = B e
    · rw [sd_jBc z, sd_un hne]
      exact hT.2.2.1 q
    · rw [sd_jBo z, sd_un z]
      exact hT.2.2.1 k
  · by_cases hk : B k = B q ∨ B k = B e
    · rw [hjq k hk, sd_us]
      have ek := (key k).mp hk
      by_cases hj : B j = B q ∨ B j = B e
      · rw [hjq j hj]
        have ej := (key j).mp hj
        exact ⟨fun _ => by omega, fun _ => rfl⟩
      · rw [sd_jBo (fun y => hj (Or.inr y))]
        exact ⟨fun z => absurd (Or.inl z.symm) hj, fun z => absurd ((key j).mpr (by omega)) hj⟩
    · rw [sd_jBo (k := k) (fun y => hk (Or.inr y)), sd_un (fun y => hk (Or.inl y)), ← hT.2.2.2.1 k j]
      by_cases hj : B j = B e
      · rw [sd_jBc hj, hj]
        exact ⟨fun z => absurd (Or.inl z) hk, fun z => absurd (Or.inr z) hk⟩
      · rw [sd_jBo hj]
  · have a := sd_sP2 (f := fun b => us b * 2 ^ (8 - dp b)) (g := fun b => sd_u us (B e) 0 b * 2 ^ (8 - sd_u dp (B q) f b)) (hT.2.2.1 q).1 (hT.2.2.1 e).1 (fun z => hne z.symm) (fun j _ z1 z2 => by
      try dsimp only
      rw [sd_un z2, sd_un z1])
    try dsimp only at a
    rw [sd_un hne, sd_us, sd_us, hd, hc, (hT.2.2.1 q).2, (hT.2.2.1 e).2, show 8 - f = (8 - (f + 1)) + 1 by omega, Nat.pow_succ] at a
    have b := hT.2.2.2.2
    omega
/-! the directory -/
theorem sd_Rdouble {D : Nat} {dir dir' B dp : Nat → Nat} (hR : sd_R D dir B dp) (hD : D ≤ 5) (h1 : ∀ i, i < 2 ^ D → dir' i = dir i) (h2 : ∀ i, i < 2 ^ D → dir' (i + 2 ^ D) = dir i) : sd_R (D + 1) dir' B dp := by
  refine ⟨by omega, fun k => ?_, fun k => ?_⟩
  · have hk : k % 2 ^ D < 2 ^ D := Nat.mod_lt _ (sd_pp D)
    rw [sd_m1]
    rcases sd_b2 (k / 2 ^ D) with z | z
    · rw [z, Nat.mul_zero, Nat.add_zero, h1 _ hk]
      exact hR.2.1 k
    · rw [z, Nat.mul_one, h2 _ hk]
      exact hR.2.1 k
  · have := hR.2.2 k
    omega
theorem sd_Rhalf {D : Nat} {dir B us dp : Nat → Nat} (hT : sd_T B us dp) (hR : sd_R (D + 1) dir B dp) (h : ∀ k, dp (B k) ≤ D) : sd_R D dir B dp := by
  refine ⟨by have := hR.1; omega, fun k => ?_, h⟩
  have hk : k % 2 ^ D < 2 ^ D := Nat.mod_lt _ (sd_pp D)
  have a := hR.2.1 (k % 2 ^ D)
  rw [Nat.mod_eq_of_lt (show k % 2 ^ D < 2 ^ (D + 1) by rw [Nat.pow_succ]; omega)] at a
  rw [a]
  exact ((hT.2.2.2.1 k (k % 2 ^ D)).mpr (sd_mm (h k) k).symm).symm
theorem sd_Rsplit {D : Nat} {dir dir' B us dp : Nat → Nat} (hT : sd_T B us dp) (hR : sd_R D dir B dp) {q c d : Nat} (hu : us c = 0) (hd : dp (B q) = d) (hdD : d + 1 ≤ D) (h : ∀ i, i < 2 ^ D → dir' i = if i % 2 ^ d = q % 2 ^ d ∧ i / 2 ^ d % 2 = 1 then c else dir i) : sd_R D dir' (sd_sB B q c d) (sd_u (sd_u dp (B q) (d + 1)) c (d + 1)) := by
  have hne := sd_Tne hT hu
  refine ⟨hR.1, fun k => ?_, fun k => ?_⟩
  · have hk : k % 2 ^ D < 2 ^ D := Nat.mod_lt _ (sd_pp D)
    have e1 := (sd_mb (k % 2 ^ D) k d).mp (sd_mm hdD k)
    have e := hT.2.2.2.1 q k
    rw [hd] at e
    rw [h _ hk, e1.1, e1.2, hR.2.1 k]
    rcases sd_sB3 B q c d k with ⟨h1, h2, h3⟩ | ⟨h1, h2, h3⟩ | ⟨h1, h3⟩
    · rw [h3, if_pos ⟨(e.mp h1.symm).symm, h2⟩]
    · rw [h3, if_neg (fun w => by omega), h1]
    · rw [h3, if_neg (fun w => h1 (e.mpr w.1.symm).symm)]
  · rcases sd_sB3 B q c d k with ⟨h1, h2, h3⟩ | ⟨h1, h2, h3⟩ | ⟨h1, h3⟩
    · rw [h3, sd_us]
      exact hdD
    · rw [h3, sd_un (hne q), sd_us]
      exact hdD
    · rw [h3, sd_un (hne k), sd_un h1]
      exact hR.2.2 k
theorem sd_Rjoin {D : Nat} {dir dir' B dp : Nat → Nat} (hR : sd_R D dir B dp) {q e f : Nat} (hd : dp (B q) = f + 1) (h : ∀ i, i < 2 ^ D → dir' i = if dir i = B e then B q else dir i) : sd_R D dir' (sd_jB B (B q) (B e)) (sd_u dp (B q) f) := by
  have hq := hR.2.2 q
  refine ⟨hR.1, fun k => ?_, fun k => ?_⟩
  · rw [h _ (Nat.mod_lt _ (sd_pp D)), hR.2.1 k]
    rfl
  · have hk := hR.2.2 k
    by_cases z : sd_jB B (B q) (B e) k = B q
    · rw [z, sd_us]
      omega
    · rw [sd_un z]
      by_cases y : B k = B e
      · exact absurd (sd_jBc y) z
      · rw [sd_jBo y]
        exact hk
/-! no pair fits into one -/
theorem sd_Msplit {B us dp : Nat → Nat} {K : Nat → Bool} (hT : sd_T B us dp) (hM : sd_M B dp K) {q c d : Nat} (hu : us c = 0) (hd : dp (B q) = d) (hl : 4 < sd_n K q d) : sd_M (sd_sB B q c d) (sd_u (sd_u dp (B q) (d + 1)) c (d + 1)) K := by
  have hne := sd_Tne hT hu
  intro k
  have e := hT.2.2.2.1 q k
  rw [hd] at e
  rcases sd_sB3 B q c d k with ⟨h1, h2, h3⟩ | ⟨h1, h2, h3⟩ | ⟨h1, h3⟩
  · rw [h3, sd_us]
    intro _
    rw [Nat.add_sub_cancel, ← sd_nC (e.mp h1.symm)]
    exact hl
  · rw [h3, sd_un (hne q), sd_us]
    intro _
    rw [Nat.add_sub_cancel, ← sd_nC (e.mp h1.symm)]
    exact hl
  · rw [h3, sd_un (hne k), sd_un h1]
    exact hM k
theorem sd_WM {B us dp : Nat → Nat} {K : Nat → Bool} {q : Nat} (hT : sd_T B us dp) (hW : sd_W B dp K q) (hq : dp (B q) = 0 ∨ 4 < sd_n K q (dp (B q) - 1)) : sd_M B dp K := by
  intro k hk
  rcases hW k hk with z | z
  · exact z
  · have e := hT.2.2.2.1 q k
    rcases hq with y | y
    · rw [y] at e
      have : B q = B k := e.mpr (by rw [Nat.pow_zero, Nat.mod_one, Nat.mod_one])
      rw [this] at y
      exact absurd y hk
    · by_cases c : dp (B k) ≤ dp (B q)
      · rw [sd_nC z]
        have := sd_nM (K := K) (e := q) (show dp (B k) - 1 ≤ dp (B q) - 1 by omega)
        omega
      · have := e.mpr (sd_md (show dp (B q) ≤ dp (B k) - 1 by omega) z).symm
        rw [this] at c
        exact absurd (Nat.le_refl _) c
theorem sd_Wjoin {B us dp : Nat → Nat} {K : Nat → Bool} (hT : sd_T B us dp) {q e f : Nat} (hW : sd_W B dp K q) (hd : dp (B q) = f + 1) (hc : dp (B e) = f + 1) (h1 : e % 2 ^ f = q % 2 ^ f) (h2 : e / 2 ^ f % 2 ≠ q / 2 ^ f % 2) : sd_W (sd_jB B (B q) (B e)) (sd_u dp (B q) f) K q := by
  have hne := sd_jne hT hd h2
  have key := sd_jcl hT hd hc h1 h2
  intro k
  by_cases hk : B k = B q ∨ B k = B e
  · have e1 : sd_jB B (B q) (B e) k = B q := by
      rcases hk with z | z
      · rw [sd_jBo (fun y => hne (z.symm.trans y)), z]
      · exact sd_jBc z
    rw [e1, sd_us]
    intro _
    exact Or.inr (sd_md (show f - 1 ≤ f by omega) ((key k).mp hk).symm)
  · rw [sd_jBo (k := k) (fun y => hk (Or.inr y)), sd_un (fun y => hk (Or.inl y))]
    exact hW k
theorem sd_Wdel {B dp : Nat → Nat} {K : Nat → Bool} {q : Nat} (hq : q < 256) (hK : K q = true) (hM : sd_M B dp K) : sd_W B dp (sd_p K q false) q := by
  intro k hk
  have a := hM k hk
  rw [sd_nR hq hK] at a
  by_cases z : q % 2 ^ (dp (B k) - 1) = k % 2 ^ (dp (B k) - 1)
  · exact Or.inr z.symm
  · rw [if_neg z] at a
    exact Or.inl a
theorem sd_Mput {B dp : Nat → Nat} {K : Nat → Bool} {q : Nat} (hq : q < 256) (hK : K q = false) (hM : sd_M B dp K) : sd_M B dp (sd_p K q true) := by
  intro k hk
  have a := hM k hk
  rw [sd_nP hq hK]
  omega
/-! what the buckets hold -/
theorem sd_Cput {B ld ky : Nat → Nat} {K : Nat → Bool} {q : Nat} (hC : sd_C B ld ky K) (hq : q < 256) (hK : K q = false) (hl : ld (B q) ≤ 4) : sd_C B (sd_u ld (B q) (ld (B q) + 1)) (sd_u ky (B q * 5 + ld (B q)) q) (sd_p K q true) := by
  intro k
  by_cases z : B k = B q
  · rw [z, sd_us]
    refine ⟨by omega, sd_HA (hC q).2 (fun w => ?_) (fun x => ?_)⟩
    · rw [hK] at w
      exact absurd w.2.1 (by decide)
    · try dsimp only
      by_cases e : x = q
      · rw [e, sd_ps]
        exact ⟨fun _ => Or.inr rfl, fun _ => ⟨hq, rfl, rfl⟩⟩
      · rw [sd_pn e]
        exact ⟨fun w => Or.inl w, fun w => w.resolve_right e⟩
  · rw [sd_un z]
    refine ⟨(hC k).1, sd_HF (hC k).2 (fun i hi => sd_un ?_) (fun x => ?_)⟩
    · have := (hC k).1
      omega
    · try dsimp only
      by_cases e : x = q
      · rw [e]
        exact ⟨fun w => absurd w.2.2.symm z, fun w => absurd w.2.2.symm z⟩
      · rw [sd_pn e]
theorem sd_Cdel {B ld ky : Nat → Nat} {K : Nat → Bool} {q n p : Nat} (hC : sd_C B ld ky K) (hn : ld (B q) = n + 1) (hp : p < n + 1) (he : ky (B q * 5 + p) = q) : sd_C B (sd_u ld (B q) n) (sd_u ky (B q * 5 + p) (ky (B q * 5 + n))) (sd_p K q false) := by
  have h5 := (hC q).1
  intro k
  by_cases z : B k = B q
  · rw [z, sd_us]
    have h := (hC q).2
    rw [hn] at h
    refine ⟨by omega, sd_HD h hp he (fun x => ?_)⟩
    try dsimp only
    by_cases e : x = q
    · rw [e, sd_ps]
      exact ⟨fun w => absurd w.2.1 (by decide), fun w => absurd rfl w.2⟩
    · rw [sd_pn e]
      exact ⟨fun w => ⟨w, e⟩, fun w => w.1⟩
  · rw [sd_un z]
    refine ⟨(hC k).1, sd_HF (hC k).2 (fun i hi => sd_un ?_) (fun x => ?_)⟩
    · have := (hC k).1
      omega
    · try dsimp only
      by_cases e : x = q
      · rw [e]
        exact ⟨fun w => absurd w.2.2.symm z, fun w => absurd w.2.2.symm z⟩
      · rw [sd_pn e]
theorem sd_Cin {B ld ky : Nat → Nat} {K : Nat → Bool} (hC : sd_C B ld ky K) (q x : Nat) : (∃ j, j < ld (B q) ∧ ky (B q * 5 + j) = x) ↔ (x < 256 ∧ K x = true ∧ B x = B q) := by
  constructor
  · rintro ⟨j, hj, rfl⟩
    exact (hC q).2.1 j hj
  · exact (hC q).2.2.1 x
theorem sd_Csplit {B us dp ld ld' ky ky' : Nat → Nat} {K : Nat → Bool} (hT : sd_T B us dp) (hC : sd_C B ld ky K) {q c d p r : Nat} (hu : us c = 0) (hp : ld' (B q) = p) (hr : ld' c = r) (hpr : p + r = ld (B q))
    (h0 : sd_H ky' (B q) p (fun x => (∃ j, j < ld (B q) ∧ ky (B q * 5 + j) = x) ∧ x / 2 ^ d % 2 = 0))
    (h1 : sd_H ky' c r (fun x => (∃ j, j < ld (B q) ∧ ky (B q * 5 + j) = x) ∧ x / 2 ^ d % 2 = 1))
    (h2 : ∀ b, b ≠ B q → b ≠ c → ld' b = ld b ∧ ∀ i, i < 5 → ky' (b * 5 + i) = ky (b * 5 + i)) : sd_C (sd_sB B q c d) ld' ky' K := by
  have hne := sd_Tne hT hu
  have h5 := (hC q).1
  intro k
  rcases sd_sB3 B q c d k with ⟨g1, g2, g3⟩ | ⟨g1, g2, g3⟩ | ⟨g1, g3⟩
  · rw [g3, hr]
    refine ⟨by omega, sd_HF h1 (fun _ _ => rfl) (fun x => ?_)⟩
    try dsimp only
    rw [sd_Cin hC]
    rcases sd_sB3 B q c d x with ⟨z1, z2, z3⟩ | ⟨z1, z2, z3⟩ | ⟨z1, z3⟩
    · rw [z3]
      exact ⟨fun w => ⟨⟨w.1, w.2.1, z1⟩, z2⟩, fun w => ⟨w.1.1, w.1.2.1, rfl⟩⟩
    · rw [z3]
      exact ⟨fun w => absurd w.2.2 (hne q), fun w => absurd w.2 (by omega)⟩
    · rw [z3]
      exact ⟨fun w => absurd w.2.2 (hne x), fun w => absurd w.1.2.2 z1⟩
  · rw [g3, hp]
    refine ⟨by omega, sd_HF h0 (fun _ _ => rfl) (fun x => ?_)⟩
    try dsimp only
    rw [sd_Cin hC]
    rcases sd_sB3 B q c d x with ⟨z1, z2, z3⟩ | ⟨z1, z2, z3⟩ | ⟨z1, z3⟩
    · rw [z3]
      exact ⟨fun w => absurd w.2.2.symm (hne q), fun w => absurd w.2 (by omega)⟩
    · rw [z3]
      exact ⟨fun w => ⟨⟨w.1, w.2.1, z1⟩, z2⟩, fun w => ⟨w.1.1, w.1.2.1, rfl⟩⟩
    · rw [z3]
      exact ⟨fun w => absurd w.2.2 z1, fun w => absurd w.1.2.2 z1⟩
  · obtain ⟨f1, f2⟩ := h2 (B k) g1 (hne k)
    rw [g3, f1]
    have hk5 := (hC k).1
    refine ⟨hk5, sd_HF (hC k).2 (fun i hi => f2 i (by omega)) (fun x => ?_)⟩
    try dsimp only
    rcases sd_sB3 B q c d x with ⟨z1, z2, z3⟩ | ⟨z1, z2, z3⟩ | ⟨z1, z3⟩
    · rw [z3]
      exact ⟨fun w => absurd w.2.2.symm (hne k), fun w => absurd (w.2.2.symm.trans z1) g1⟩
    · rw [z3, z1]
    · rw [z3]
theorem sd_Cjoin {B us dp ld ld' ky ky' : Nat → Nat} {K : Nat → Bool} {q e : Nat} (hC : sd_C B ld ky K) (hne : B q ≠ B e) (hl : ld' (B q) = ld (B q) + ld (B e)) (h4 : ld (B q) + ld (B e) ≤ 4)
    (h0 : sd_H ky' (B q) (ld (B q) + ld (B e)) (fun x => (x < 256 ∧ K x = true ∧ B x = B q) ∨ ∃ j, j < ld (B e) ∧ ky (B e * 5 + j) = x))
    (h2 : ∀ b, b ≠ B q → ld' b = ld b ∧ ∀ i, i < 5 → ky' (b * 5 + i) = ky (b * 5 + i)) : sd_C (sd_jB B (B q) (B e)) ld' ky' K := by
  have eq : ∀ k, sd_jB B (B q) (B e) k = B q ↔ B k = B q ∨ B k = B e := by
    intro k
    by_cases z : B k = B e
    · rw [sd_jBc z]
      exact ⟨fun _ => Or.inr z, fun _ => rfl⟩
    · rw [sd_jBo z]
      exact ⟨fun y => Or.inl y, fun y => y.resolve_right z⟩
  intro k
  by_cases hk : sd_jB B (B q) (B e) k = B q
  · rw [hk, hl]
    refine ⟨by omega, sd_HF h0 (fun _ _ => rfl) (fun x => ?_)⟩
    try dsimp only
    rw [sd_Cin hC, eq]
    constructor
    · rintro ⟨w1, w2, w3 | w3⟩
      · exact Or.inl ⟨w1, w2, w3⟩
      · exact Or.inr ⟨w1, w2, w3⟩
    · rintro (⟨w1, w2, w3⟩ | ⟨w1, w2, w3⟩)
      · exact ⟨w1, w2, Or.inl w3⟩
      · exact ⟨w1, w2, Or.inr w3⟩
  · have hk' : ¬ (B k = B q ∨ B k = B e) := fun z => hk ((eq k).mpr z)
    have ek : sd_jB B (B q) (B e) k = B k := sd_jBo (fun z => hk' (Or.inr z))
    obtain ⟨f1, f2⟩ := h2 (B k) (fun z => hk' (Or.inl z))
    rw [ek, f1]
    have hk5 := (hC k).1
    refine ⟨hk5, sd_HF (hC k).2 (fun i hi => f2 i (by omega)) (fun x => ?_)⟩
    try dsimp only
    by_cases z : B x = B e
    · rw [sd_jBc z, z]
      exact ⟨fun w => absurd (Or.inl w.2.2.symm) hk', fun w => absurd (Or.inr w.2.2.symm) hk'⟩
    · rw [sd_jBo z]
end
section
/-! ===== 03: the program's ints as naturals; the methods that only read ===== -/
def sd_l (f : Nat → Nat) : Nat → Int32 := fun i => nI (f i)
theorem sd_at {f : Nat → Nat} {k : Nat} (h : k < 2 ^ 31) : sd_l f (nI k).toNatClampNeg = nI (f k) := by
  rw [nI_clamp h]
  rfl
theorem sd_lu (f : Nat → Nat) (k v : Nat) : upd (sd_l f) k (nI v) = sd_l (sd_u f k v) := by
  funext j
  unfold upd sd_l sd_u
  by_cases h : j = k
  · rw [if_pos h, if_pos h]
  · rw [if_neg h, if_neg h]
theorem sd_up {f : Nat → Nat} {k v : Nat} {y : Int32} (h : k < 2 ^ 31) (hy : y = nI v) : upd (sd_l f) (nI k).toNatClampNeg y = sd_l (sd_u f k v) := by
  rw [hy, nI_clamp h, sd_lu]
theorem sd_b8 : ∀ v, v < 128 → (nI v).toInt8.toInt32 = nI v := by decide +kernel
theorem sd_b16 : ∀ v, v < 256 → (nI v).toInt16.toInt32 = nI v := by decide +kernel
theorem sd_v8 (v : Nat) (h : v < 128) : vp_nar .byte (nI v) = nI v := by rw [vp_nar_byte, sd_b8 v h]
theorem sd_v16 (v : Nat) (h : v < 256) : vp_nar .short (nI v) = nI v := by rw [vp_nar_short, sd_b16 v h]
theorem sd_sh : ∀ d, d < 9 → (1 : Int32) <<< (nI d &&& 31) = nI (2 ^ d) := by decide +kernel
theorem sd_sl : ∀ n, n < 32 → ((nI n &&& 31).toBitVec.smod 32).toNat = n := by decide +kernel
theorem sd_p64 {D : Nat} (h : D ≤ 6) : 2 ^ D ≤ 64 := Nat.pow_le_pow_right (n := 2) (by decide) h
theorem sd_p256 {D : Nat} (h : D ≤ 8) : 2 ^ D ≤ 256 := Nat.pow_le_pow_right (n := 2) (by decide) h
theorem sd_an {k d : Nat} (hk : k < 2 ^ 31) (hd : d ≤ 8) : nI k &&& nI (2 ^ d - 1) = nI (k % 2 ^ d) := by
  have := sd_p256 hd
  exact pk_andN (by omega) d (pk_tn (by omega))
theorem sd_ms {d : Nat} (hd : d ≤ 8) : ((1 : Int32) <<< (nI d &&& 31)) - 1 = nI (2 ^ d - 1) := by
  rw [sd_sh d (by omega)]
  exact pk_sub (b := 1) (sd_pp d)
theorem sd_mk {k d : Nat} (hk : k < 2 ^ 31) (hd : d ≤ 8) : nI k &&& (((1 : Int32) <<< (nI d &&& 31)) - 1) = nI (k % 2 ^ d) := by
  rw [sd_ms hd, sd_an hk hd]
theorem sd_bi {k d : Nat} (hk : k < 2 ^ 31) (hd : d < 32) : (nI k >>> (nI d &&& 31)) &&& 1 = nI (k / 2 ^ d % 2) := by
  have h : k / 2 ^ d ≤ k := Nat.div_le_self _ _
  rw [pk_shrN hk _ d (sd_sl d hd)]
  exact pk_andN (by omega) 1 (by decide)
theorem sd_xo (a b : Nat) : nI a ^^^ nI b = nI (a ^^^ b) := by
  apply Int32.toBitVec_inj.1
  show BitVec.ofNat 32 a ^^^ BitVec.ofNat 32 b = BitVec.ofNat 32 (a ^^^ b)
  apply BitVec.eq_of_getLsbD_eq
  intro i hi
  simp [hi]
theorem sd_ix (b i : Nat) : nI b * 5 + nI i = nI (b * 5 + i) := by
  rw [show (5 : Int32) = nI 5 from rfl, pk_mul, nI_add]
theorem sd_ax {f : Nat → Nat} {b i : Nat} (h : b * 5 + i < 2 ^ 31) : sd_l f (nI b * 5 + nI i).toNatClampNeg = nI (f (b * 5 + i)) := by
  rw [sd_ix, sd_at h]
theorem sd_a0 (a : Nat) : nI a + 0 = nI a := by
  show nI a + nI 0 = nI a
  rw [nI_add, Nat.add_zero]
theorem sd_xz {a b d : Nat} : (a ^^^ b) % 2 ^ d = 0 ↔ a % 2 ^ d = b % 2 ^ d := by
  rw [Nat.xor_mod_two_pow]
  generalize a % 2 ^ d = x
  generalize b % 2 ^ d = y
  constructor
  · intro h
    have e : x ^^^ y ^^^ y = 0 ^^^ y := by rw [h]
    rw [Nat.xor_assoc, Nat.xor_self, Nat.xor_zero, Nat.zero_xor] at e
    exact e
  · intro h
    rw [h, Nat.xor_self]
theorem sd_isKey {post : Int32 → Prop} {k : Nat} (hk : k < 256) (H : post 1) : wpX_isKey post () (nI k) :=
  br_f (nI_pos (by omega)) (br_f (nI_ge (b := 256) hk (by decide)) H)
theorem sd_isKeyC {post : Int32 → Prop} (x : Int32) (H1 : ∀ k, k < 256 → x = nI k → post 1) (H0 : (∀ k, k < 256 → x ≠ nI k) → post 0) : wpX_isKey post () x := by
  rcases pk_ix x (n := 256) (by decide) with h | h | ⟨j, hj, e⟩
  · exact br_t h (H0 (fun k hk e => nI_pos (by omega) (e ▸ h)))
  · have n : ∀ k, k < 256 → x ≠ nI k := fun k hk e => nI_ge (b := 256) hk (by decide) (e ▸ h)
    exact br_c (fun _ => H0 n) (fun _ => br_t h (H0 n))
  · rw [e]
    exact sd_isKey hj (H1 j hj e)
theorem sd_bucketOf {D bc kc : Nat} {dir us dp ld ky : Nat → Nat} {a6 : Nat → Int32} {B : Nat → Nat} {post : Int32 → Prop} {k : Nat} (hR : sd_R D dir B dp) (hk : k < 2 ^ 31) (H : post (nI (B k))) : wpX_bucketOf post (nI D, nI bc, nI kc, sd_l dir, sd_l us, sd_l dp, sd_l ld, sd_l ky, a6) (nI k) := by
  unfold wpX_bucketOf
  dsimp only
  have h1 := Nat.mod_lt k (sd_pp D)
  have h2 := sd_p64 hR.1
  have h3 := hR.1
  rw [sd_mk hk (by omega)]
  refine ⟨pk_in (k % 2 ^ D) 64 (by omega), ?_⟩
  rw [sd_at (by omega), hR.2.1 k]
  exact H
theorem sd_find {D bc kc : Nat} {dir us dp ld ky : Nat → Nat} {a6 : Nat → Int32} {post : Int32 → Prop} {b q : Nat} (hb : b < 65) (hl : ld b ≤ 5) (hv : ∀ i, i < ld b → ky (b * 5 + i) < 256) (hq : q < 256) (H1 : ∀ i, i < ld b → ky (b * 5 + i) = q → post (nI i)) (H0 : (∀ i, i < ld b → ky (b * 5 + i) ≠ q) → post (-1)) : wpX_find post (nI D, nI bc, nI kc, sd_l dir, sd_l us, sd_l dp, sd_l ld, sd_l ky, a6) (nI b) (nI q) :=
  pk_loop (σ := Unit) (fun n i _ => wX_find_2 post (nI b) (nI q) (nI D) (nI bc) (nI kc) (sd_l dir) (sd_l us) (sd_l dp) (sd_l ld) (sd_l ky) a6 n (nI i)) (fun i _ => ∀ j, j < i → ky (b * 5 + j) ≠ q) (ld b) 0 () (by omega) (fun j hj => absurd hj (by omega))
    (fun n _ h => ⟨pk_in b 65 hb, pk_le (ld b) (ld b) (fun _ => H0 h) (fun z => absurd z (by omega)) (sd_at (by omega))⟩)
    (fun n i _ hi h hw => ⟨pk_in b 65 hb, pk_le (ld b) i (fun z => absurd z (by omega)) (fun _ => ⟨pk_in (b * 5 + i) 325 (by omega) (sd_ix b i), pk_eq (ky (b * 5 + i)) q (fun e => H1 i hi e) (fun e => nm_r (nI_1 i) (hw () (lt_s h e))) (sd_ax (by omega)) rfl (by have := hv i hi; omega)⟩) (sd_at (by omega))⟩)
theorem sd_has {D bc kc : Nat} {dir us dp ld ky : Nat → Nat} {a6 : Nat → Int32} {B : Nat → Nat} {K : Nat → Bool} {post : Int32 → Prop} {q : Nat} (hR : sd_R D dir B dp) (hT : sd_T B us dp) (hC : sd_C B ld ky K) (hq : q < 256) (H1 : K q = true → post 1) (H0 : K q = false → post 0) : wpX_has post (nI D, nI bc, nI kc, sd_l dir, sd_l us, sd_l dp, sd_l ld, sd_l ky, a6) (nI q) := by
  unfold wpX_has
  dsimp only
  have hb := (hT.2.2.1 q).1
  have hl := (hC q).1
  refine sd_isKey hq (br_f (by decide) (sd_bucketOf hR (by omega) (sd_find (by omega) hl (fun i hi => ((hC q).2.1 i hi).1) hq (fun i hi e => ?_) (fun h => ?_))))
  · have := ((hC q).2.1 i hi).2.1
    rw [e] at this
    exact br_f (nI_pos (by omega)) (H1 this)
  · refine br_t (by decide) (H0 ?_)
    cases h' : K q
    · rfl
    · obtain ⟨i, hi, e⟩ := (hC q).2.2.1 q ⟨hq, h', rfl⟩
      exact absurd e (h i hi)
theorem sd_deepest {D bc kc : Nat} {dir us dp ld ky : Nat → Nat} {a6 : Nat → Int32} {post : Int32 → Prop} (hu : ∀ b, us b ≤ 1) (hd : ∀ b, dp b ≤ 6) (H : ∀ m, m ≤ 6 → (∀ b, b < 64 → us b = 1 → dp b ≤ m) → (m = 0 ∨ ∃ b, b < 64 ∧ us b = 1 ∧ dp b = m) → post (nI m)) : wpX_deepest post (nI D, nI bc, nI kc, sd_l dir, sd_l us, sd_l dp, sd_l ld, sd_l ky, a6) := by
  refine pk_loop (σ := Nat) (fun n i m => wX_deepest_4 post (nI D) (nI bc) (nI kc) (sd_l dir) (sd_l us) (sd_l dp) (sd_l ld) (sd_l ky) a6 n (nI m) (nI i)) (fun i m => m ≤ 6 ∧ (∀ b, b < i → us b = 1 → dp b ≤ m) ∧ (m = 0 ∨ ∃ b, b < i ∧ us b = 1 ∧ dp b = m)) 64 0 0 (by omega) ⟨by omega, fun b hb => absurd hb (by omega), Or.inl rfl⟩ ?_ ?_
  · intro n m h
    exact pk_le 64 64 (fun _ => H m h.1 h.2.1 h.2.2) (fun z => absurd z (by omega))
  · intro n i m hi h hw
    have hui := hu i
    have hdi := hd i
    have hm := h.1
    have up : (m = 0 ∨ ∃ b, b < i + 1 ∧ us b = 1 ∧ dp b = m) := by
      rcases h.2.2 with z | ⟨b, z1, z2⟩
      · exact Or.inl z
      · exact Or.inr ⟨b, by omega, z2⟩
    refine pk_le 64 i (fun z => absurd z (by omega)) (fun _ => ⟨pk_in i 65 (by omega), pk_eq (us i) 0 (fun e => nm_r (nI_1 i) (hw m ⟨hm, lt_s h.2.1 (fun z => by omega), up⟩)) (fun e => ⟨pk_in i 65 (by omega), pk_le (dp i) m (fun z => nm_r (nI_1 i) (hw m ⟨hm, lt_s h.2.1 (fun _ => z), up⟩)) (fun z => ⟨pk_in i 65 (by omega), nm_r (sd_at (by omega)) (nm_r (nI_1 i) (hw (dp i) ⟨hdi, ?_, Or.inr ⟨i, by omega, by omega, rfl⟩⟩))⟩) (sd_at (by omega))⟩) (sd_at (by omega))⟩)
    exact lt_s (fun b hb hub => by have := h.2.1 b hb hub; omega) (fun _ => Nat.le_refl _)
/-- how many buckets of a depth -/
def sd_od (us dp : Nat → Nat) (d : Nat) : Nat → Nat := fun b => if us b = 1 ∧ dp b = d then 1 else 0
theorem sd_od1 (us dp : Nat → Nat) (d : Nat) : ∀ n, sd_s (sd_od us dp d) n ≤ n := by
  intro n
  have := sd_sL (f := sd_od us dp d) (g := fun _ => 1) (n := n) (fun k _ => by
    unfold sd_od
    split <;> omega)
  rw [sd_sK] at this
  omega
theorem sd_ofDepth {D bc kc : Nat} {dir us dp ld ky : Nat → Nat} {a6 : Nat → Int32} {post : Int32 → Prop} {d : Nat} (hu : ∀ b, us b ≤ 1) (hd : ∀ b, dp b ≤ 6) (hd9 : d < 9) (H : post (nI (sd_s (sd_od us dp d) 64))) : wpX_ofDepth post (nI D, nI bc, nI kc, sd_l dir, sd_l us, sd_l dp, sd_l ld, sd_l ky, a6) (nI d) := by
  refine pk_loop (σ := Unit) (fun n i _ => wX_ofDepth_4 post (nI d) (nI D) (nI bc) (nI kc) (sd_l dir) (sd_l us) (sd_l dp) (sd_l ld) (sd_l ky) a6 n (nI (sd_s (sd_od us dp d) i)) (nI i)) (fun _ _ => True) 64 0 () (by omega) trivial ?_ ?_
  · intro n _ _
    exact pk_le 64 64 (fun _ => H) (fun z => absurd z (by omega))
  · intro n i _ hi _ hw
    have hui := hu i
    have hdi := hd i
    have h0 : ¬ (us i = 1 ∧ dp i = d) → nI (sd_s (sd_od us dp d) i) + 0 = nI (sd_s (sd_od us dp d) (i + 1)) := by
      intro z
      rw [sd_a0]
      show _ = nI (sd_s (sd_od us dp d) i + (if us i = 1 ∧ dp i = d then 1 else 0))
      rw [if_neg z, Nat.add_zero]
    have h1 : (us i = 1 ∧ dp i = d) → nI (sd_s (sd_od us dp d) i) + 1 = nI (sd_s (sd_od us dp d) (i + 1)) := by
      intro z
      rw [nI_1]
      show _ = nI (sd_s (sd_od us dp d) i + (if us i = 1 ∧ dp i = d then 1 else 0))
      rw [if_pos z]
    exact pk_le 64 i (fun z => absurd z (by omega)) (fun _ => ⟨pk_in i 65 (by omega), pk_eq (us i) 0 (fun e => nm_r (h0 (by omega)) (nm_r (nI_1 i) (hw () trivial))) (fun e => ⟨pk_in i 65 (by omega), pk_eq (dp i) d (fun z => nm_r (h1 ⟨by omega, z⟩) (nm_r (nI_1 i) (hw () trivial))) (fun z => nm_r (h0 (fun w => z w.2)) (nm_r (nI_1 i) (hw () trivial))) (sd_at (by omega))⟩) (sd_at (by omega))⟩)
theorem sd_neg1 {n : Nat} (h : n < 2 ^ 31) : ¬ nI n = -1 := by
  intro e
  have a := nI_pos h
  rw [e] at a
  exact a (by decide)
theorem sd_ofDepthN {D bc kc : Nat} {dir us dp ld ky : Nat → Nat} {a6 : Nat → Int32} {post : Int32 → Prop} (hu : ∀ b, us b ≤ 1) (hd : ∀ b, dp b ≤ 6) (H : post 0) : wpX_ofDepth post (nI D, nI bc, nI kc, sd_l dir, sd_l us, sd_l dp, sd_l ld, sd_l ky, a6) (-1) := by
  refine pk_loop (σ := Unit) (fun n i _ => wX_ofDepth_4 post (-1) (nI D) (nI bc) (nI kc) (sd_l dir) (sd_l us) (sd_l dp) (sd_l ld) (sd_l ky) a6 n 0 (nI i)) (fun _ _ => True) 64 0 () (by omega) trivial ?_ ?_
  · intro n _ _
    exact pk_le 64 64 (fun _ => H) (fun z => absurd z (by omega))
  · intro n i _ hi _ hw
    have hui := hu i
    have hdi := hd i
    have e0 : (0 : Int32) + 0 = 0 := by decide
    exact pk_le 64 i (fun z => absurd z (by omega)) (fun _ => ⟨pk_in i 65 (by omega), pk_eq (us i) 0 (fun e => nm_r e0 (nm_r (nI_1 i) (hw () trivial))) (fun e => ⟨pk_in i 65 (by omega), br_f (by rw [sd_at (by omega)]; exact sd_neg1 (by omega)) (nm_r e0 (nm_r (nI_1 i) (hw () trivial)))⟩) (sd_at (by omega))⟩)
theorem sd_next10 {D bc kc : Nat} {dir us dp ld ky : Nat → Nat} {a6 : Nat → Int32} {B : Nat → Nat} {K : Nat → Bool} {post : Int32 → Prop} {j : Nat} (hR : sd_R D dir B dp) (hT : sd_T B us dp) (hC : sd_C B ld ky K) (hj : j ≤ 256) (H1 : ∀ k, j ≤ k → k < 256 → K k = true → (∀ i, j ≤ i → i < k → K i = false) → post (nI k)) (H0 : (∀ i, j ≤ i → i < 256 → K i = false) → post (-1)) : ∃ n, wX_next_10 post (nI D) (nI bc) (nI kc) (sd_l dir) (sd_l us) (sd_l dp) (sd_l ld) (sd_l ky) a6 n (nI j) :=
  pk_loop (σ := Unit) (fun n i _ => wX_next_10 post (nI D) (nI bc) (nI kc) (sd_l dir) (sd_l us) (sd_l dp) (sd_l ld) (sd_l ky) a6 n (nI i)) (fun k _ => j ≤ k ∧ ∀ i, j ≤ i → i < k → K i = false) 256 j () hj ⟨Nat.le_refl j, fun i h1 h2 => absurd h1 (by omega)⟩
    (fun n _ h => pk_le 256 256 (fun _ => H0 h.2) (fun z => absurd z (by omega)))
    (fun n i _ hi h hw => pk_le 256 i (fun z => absurd z (by omega)) (fun _ => sd_has hR hT hC hi (fun e => br_f (by decide) (H1 i h.1 hi e h.2)) (fun e => br_t rfl (nm_r (nI_1 i) (hw () ⟨by omega, fun a h1 h2 => by
      by_cases z : a = i
      · rw [z, e]
      · exact h.2 a h1 (by omega)⟩)))))
theorem sd_next {D bc kc : Nat} {dir us dp ld ky : Nat → Nat} {a6 : Nat → Int32} {B : Nat → Nat} {K : Nat → Bool} {post : Int32 → Prop} {j : Nat} (hR : sd_R D dir B dp) (hT : sd_T B us dp) (hC : sd_C B ld ky K) (hj : j ≤ 256) (H1 : ∀ k, j ≤ k → k < 256 → K k = true → (∀ i, j ≤ i → i < k → K i = false) → post (nI k)) (H0 : (∀ i, j ≤ i → i < 256 → K i = false) → post (-1)) : wpX_next post (nI D, nI bc, nI kc, sd_l dir, sd_l us, sd_l dp, sd_l ld, sd_l ky, a6) (nI j) :=
  br_t (nI_pos' (by omega)) (sd_next10 hR hT hC hj H1 H0)
theorem sd_nextN {D bc kc : Nat} {dir us dp ld ky : Nat → Nat} {a6 : Nat → Int32} {B : Nat → Nat} {K : Nat → Bool} {post : Int32 → Prop} (hR : sd_R D dir B dp) (hT : sd_T B us dp) (hC : sd_C B ld ky K) (H1 : ∀ k, k < 256 → K k = true → (∀ i, i < k → K i = false) → post (nI k)) (H0 : (∀ i, i < 256 → K i = false) → post (-1)) : wpX_next post (nI D, nI bc, nI kc, sd_l dir, sd_l us, sd_l dp, sd_l ld, sd_l ky, a6) (-1000) :=
  br_f (by decide) (sd_next10 (j := 0) hR hT hC (by omega) (fun k _ h2 h3 h4 => H1 k h2 h3 (fun i hi => h4 i (by omega) hi)) (fun h => H0 (fun i hi => h i (by omega) hi)))
theorem sd_depthOf {D bc kc : Nat} {dir us dp ld ky : Nat → Nat} {a6 : Nat → Int32} {B : Nat → Nat} {K : Nat → Bool} {post : Int32 → Prop} {k : Nat} (hR : sd_R D dir B dp) (hT : sd_T B us dp) (hk : k < 256) (H : post (nI (dp (B k)))) : wpX_depthOf post (nI D, nI bc, nI kc, sd_l dir, sd_l us, sd_l dp, sd_l ld, sd_l ky, a6) (nI k) := by
  unfold wpX_depthOf
  dsimp only
  have hb := (hT.2.2.1 k).1
  refine sd_isKey hk (br_f (by decide) (sd_bucketOf hR (by omega) ⟨pk_in (B k) 65 (by omega), ?_⟩))
  rw [sd_at (by omega)]
  exact H
theorem sd_load {D bc kc : Nat} {dir us dp ld ky : Nat → Nat} {a6 : Nat → Int32} {B : Nat → Nat} {K : Nat → Bool} {post : Int32 → Prop} {k : Nat} (hR : sd_R D dir B dp) (hT : sd_T B us dp) (hk : k < 256) (H : post (nI (ld (B k)))) : wpX_load post (nI D, nI bc, nI kc, sd_l dir, sd_l us, sd_l dp, sd_l ld, sd_l ky, a6) (nI k) := by
  unfold wpX_load
  dsimp only
  have hb := (hT.2.2.1 k).1
  refine sd_isKey hk (br_f (by decide) (sd_bucketOf hR (by omega) ⟨pk_in (B k) 65 (by omega), ?_⟩))
  rw [sd_at (by omega)]
  exact H
theorem sd_together {D bc kc : Nat} {dir us dp ld ky : Nat → Nat} {a6 : Nat → Int32} {B : Nat → Nat} {K : Nat → Bool} {post : Int32 → Prop} {k j : Nat} (hR : sd_R D dir B dp) (hT : sd_T B us dp) (hk : k < 256) (hj : j < 256) (e : B k = B j) (H : post 1) : wpX_together post (nI D, nI bc, nI kc, sd_l dir, sd_l us, sd_l dp, sd_l ld, sd_l ky, a6) (nI k) (nI j) := by
  unfold wpX_together
  dsimp only
  refine sd_isKey hk (br_f (by decide) (sd_isKey hj (br_f (by decide) (sd_bucketOf hR (by omega) (sd_bucketOf hR (by omega) (br_t ?_ H))))))
  rw [e]
def sd_nf (K : Nat → Bool) (e d : Nat) : Nat → Nat := fun k => if K k = true ∧ k % 2 ^ d = e % 2 ^ d then 1 else 0
theorem sd_having {D bc kc : Nat} {dir us dp ld ky : Nat → Nat} {a6 : Nat → Int32} {B : Nat → Nat} {K : Nat → Bool} {post : Int32 → Prop} {q d : Nat} (hR : sd_R D dir B dp) (hT : sd_T B us dp) (hC : sd_C B ld ky K) (hq : q < 256) (hd : d ≤ 8) (H : post (nI (sd_n K q d))) : wpL_having post (nI D, nI bc, nI kc, sd_l dir, sd_l us, sd_l dp, sd_l ld, sd_l ky, a6) (nI q) (nI d) := by
  refine pk_loop (σ := Unit) (fun n i _ => wL_having_5 post (nI q) (nI d) (nI D) (nI bc) (nI kc) (sd_l dir) (sd_l us) (sd_l dp) (sd_l ld) (sd_l ky) a6 n (nI (sd_s (sd_nf K q d) i)) (nI i)) (fun _ _ => True) 256 0 () (by omega) trivial ?_ ?_
  · intro n _ _
    exact pk_le 256 256 (fun _ => H) (fun z => absurd z (by omega))
  · intro n i _ hi _ hw
    have t : wL_having_5 post (nI q) (nI d) (nI D) (nI bc) (nI kc) (sd_l dir) (sd_l us) (sd_l dp) (sd_l ld) (sd_l ky) a6 n (nI (sd_s (sd_nf K q d) i + (if K i = true ∧ i % 2 ^ d = q % 2 ^ d then 1 else 0))) (nI (i + 1)) := hw () trivial
    refine pk_le 256 i (fun z => absurd z (by omega)) (fun _ => sd_has hR hT hC hi (fun e => br_f (by decide) ?_) (fun e => br_t rfl ?_))
    · have hx : (nI i ^^^ nI q) &&& (((1 : Int32) <<< (nI d &&& 31)) - 1) = nI ((i ^^^ q) % 2 ^ d) := by
        have hx8 : i ^^^ q < 2 ^ 8 := Nat.xor_lt_two_pow (by omega) (by omega)
        rw [sd_xo, sd_mk (by omega) hd]
      have hm := Nat.mod_lt (i ^^^ q) (sd_pp d)
      have hp := sd_p256 hd
      refine pk_eq ((i ^^^ q) % 2 ^ d) 0 (fun z => ?_) (fun z => ?_) hx rfl (by omega)
      · rw [if_pos ⟨e, sd_xz.mp z⟩] at t
        exact nm_r (nI_1 _) (nm_r (nI_1 i) t)
      · rw [if_neg (fun w => z (sd_xz.mpr w.2)), Nat.add_zero] at t
        exact nm_r (nI_1 i) t
    · rw [if_neg (fun w => by rw [e] at w; exact absurd w.1 (by decide)), Nat.add_zero] at t
      exact nm_r (nI_1 i) t
/-! inBucket: the place of a key among its bucket's keys -/
def sd_lf (ky : Nat → Nat) (b x : Nat) : Nat → Nat := fun j => if ky (b * 5 + j) < x then 1 else 0
def sd_rk (ky : Nat → Nat) (b n x : Nat) : Nat := sd_s (sd_lf ky b x) n
theorem sd_in35 {D bc kc : Nat} {dir us dp ld ky : Nat → Nat} {a6 : Nat → Int32} {post J : Int32 → Prop} {p : Int32} {b i : Nat} (hb : b < 65) (hl : ld b ≤ 5) (hi : i < ld b) (hv : ∀ i, i < ld b → ky (b * 5 + i) < 256)
    (H1 : nI (sd_rk ky b (ld b) (ky (b * 5 + i))) = p → post (nI (ky (b * 5 + i)))) (H0 : ¬ nI (sd_rk ky b (ld b) (ky (b * 5 + i))) = p → J (nI (i + 1))) : ∃ n, wX_inBucket_35 post J p (nI b) (nI i) (nI D) (nI bc) (nI kc) (sd_l dir) (sd_l us) (sd_l dp) (sd_l ld) (sd_l ky) a6 n 0 0 := by
  refine pk_loop (σ := Unit) (fun n j _ => wX_inBucket_35 post J p (nI b) (nI i) (nI D) (nI bc) (nI kc) (sd_l dir) (sd_l us) (sd_l dp) (sd_l ld) (sd_l ky) a6 n (nI (sd_s (sd_lf ky b (ky (b * 5 + i))) j)) (nI j)) (fun _ _ => True) (ld b) 0 () (by omega) trivial ?_ ?_
  · intro n _ _
    refine ⟨pk_in b 65 hb, pk_le (ld b) (ld b) (fun _ => br_c (fun z => ⟨pk_in (b * 5 + i) 325 (by omega) (sd_ix b i), ?_⟩) (fun z => nm_r (nI_1 i) (H0 z))) (fun z => absurd z (by omega)) (sd_at (by omega))⟩
    rw [sd_ax (by omega)]
    exact H1 z
  · intro n j _ hj _ hw
    have t : wX_inBucket_35 post J p (nI b) (nI i) (nI D) (nI bc) (nI kc) (sd_l dir) (sd_l us) (sd_l dp) (sd_l ld) (sd_l ky) a6 n (nI (sd_s (sd_lf ky b (ky (b * 5 + i))) j + (if ky (b * 5 + j) < ky (b * 5 + i) then 1 else 0))) (nI (j + 1)) := hw () trivial
    have v1 := hv i hi
    have v2 := hv j hj
    refine ⟨pk_in b 65 hb, pk_le (ld b) j (fun z => absurd z (by omega)) (fun _ => ⟨pk_in (b * 5 + j) 325 (by omega) (sd_ix b j), pk_in (b * 5 + i) 325 (by omega) (sd_ix b i), pk_le (ky (b * 5 + i)) (ky (b * 5 + j)) (fun z => ?_) (fun z => ?_) (sd_ax (by omega)) (sd_ax (by omega))⟩) (sd_at (by omega))⟩
    · rw [if_neg (by omega), Nat.add_zero] at t
      exact nm_r (sd_a0 _) (nm_r (nI_1 j) t)
    · rw [if_pos z] at t
      exact nm_r (nI_1 _) (nm_r (nI_1 j) t)
theorem sd_inBucket {D bc kc : Nat} {dir us dp ld ky : Nat → Nat} {a6 : Nat → Int32} {B : Nat → Nat} {K : Nat → Bool} {post : Int32 → Prop} {p : Int32} {q : Nat} (hR : sd_R D dir B dp) (hT : sd_T B us dp) (hC : sd_C B ld ky K) (hq : q < 256)
    (H1 : ∀ i, i < ld (B q) → nI (sd_rk ky (B q) (ld (B q)) (ky (B q * 5 + i))) = p → post (nI (ky (B q * 5 + i)))) (H0 : (∀ i, i < ld (B q) → ¬ nI (sd_rk ky (B q) (ld (B q)) (ky (B q * 5 + i))) = p) → post (-1)) : wpX_inBucket post (nI D, nI bc, nI kc, sd_l dir, sd_l us, sd_l dp, sd_l ld, sd_l ky, a6) (nI q) p := by
  unfold wpX_inBucket
  dsimp only
  have hb := (hT.2.2.1 q).1
  have hl := (hC q).1
  have hv : ∀ i, i < ld (B q) → ky (B q * 5 + i) < 256 := fun i hi => ((hC q).2.1 i hi).1
  refine sd_isKey hq (br_f (by decide) (sd_bucketOf hR (by omega) ?_))
  exact pk_loop (σ := Unit) (fun n i _ => wX_inBucket_18 post p (nI (B q)) (nI D) (nI bc) (nI kc) (sd_l dir) (sd_l us) (sd_l dp) (sd_l ld) (sd_l ky) a6 n (nI i)) (fun i _ => ∀ j, j < i → ¬ nI (sd_rk ky (B q) (ld (B q)) (ky (B q * 5 + j))) = p) (ld (B q)) 0 () (by omega) (fun j hj => absurd hj (by omega))
    (fun n _ h => ⟨pk_in (B q) 65 (by omega), pk_le (ld (B q)) (ld (B q)) (fun _ => H0 h) (fun z => absurd z (by omega)) (sd_at (by omega))⟩)
    (fun n i _ hi h hw => ⟨pk_in (B q) 65 (by omega), pk_le (ld (B q)) i (fun z => absurd z (by omega)) (fun _ => sd_in35 (by omega) hl hi hv (H1 i hi) (fun z => hw () (lt_s h z))) (sd_at (by omega))⟩)
end
section
/-! ===== 04: append, newBucket, split, insert, put ===== -/
theorem sd_append {D bc kc : Nat} {dir us dp ld ky : Nat → Nat} {a6 : Nat → Int32} {post : St1 → Prop} {b q : Nat} {v : Int32} (hb : b < 65) (hl : ld b ≤ 4) (hq : q < 256) (H : ∀ a6', post (nI D, nI bc, nI kc, sd_l dir, sd_l us, sd_l dp, sd_l (sd_u ld b (ld b + 1)), sd_l (sd_u ky (b * 5 + ld b) q), a6')) : wpX_append post (nI D, nI bc, nI kc, sd_l dir, sd_l us, sd_l dp, sd_l ld, sd_l ky, a6) (nI b) (nI q) v := by
  unfold wpX_append
  dsimp only
  have hx : nI b * 5 + sd_l ld (nI b).toNatClampNeg = nI (b * 5 + ld b) := by rw [sd_at (by omega), sd_ix]
  have hky : upd (sd_l ky) (nI b * 5 + sd_l ld (nI b).toNatClampNeg).toNatClampNeg (nI q).toInt16.toInt32 = sd_l (sd_u ky (b * 5 + ld b) q) := by
    rw [hx]
    exact sd_up (by omega) (sd_b16 q hq)
  have hld : upd (sd_l ld) (nI b).toNatClampNeg ((sd_l ld (nI b).toNatClampNeg + 1).toInt8.toInt32) = sd_l (sd_u ld b (ld b + 1)) :=
    sd_up (by omega) (by rw [sd_at (by omega), nI_1, sd_b8 _ (by omega)])
  exact ⟨pk_in b 65 hb, pk_in (b * 5 + ld b) 325 (by omega) hx, nm_r hky ⟨pk_in b 65 hb, pk_in (b * 5 + ld b) 325 (by omega) hx, nm_e ⟨pk_in b 65 hb, pk_in b 65 hb, nm_r hld (H _)⟩⟩⟩
theorem sd_newBucket {D bc kc : Nat} {dir us dp ld ky : Nat → Nat} {a6 : Nat → Int32} {post : Int32 → St1 → Prop} (hu : ∀ b, us b ≤ 1) (h : ∃ c, c < 64 ∧ us c = 0) (H : ∀ c, c < 64 → us c = 0 → post (nI c) (nI D, nI (bc + 1), nI kc, sd_l dir, sd_l (sd_u us c 1), sd_l dp, sd_l (sd_u ld c 0), sd_l ky, a6)) : wpX_newBucket post (nI D, nI bc, nI kc, sd_l dir, sd_l us, sd_l dp, sd_l ld, sd_l ky, a6) := by
  obtain ⟨c, ⟨hc, hc0⟩, hm⟩ := pk_least (fun c => c < 64 ∧ us c = 0) h
  exact pk_loop (σ := Unit) (fun n i _ => wX_newBucket_2 post (nI D) (nI bc) (nI kc) (sd_l dir) (sd_l us) (sd_l dp) (sd_l ld) (sd_l ky) a6 n (nI i)) (fun _ _ => True) c 0 () (by omega) trivial
    (fun n _ _ => ⟨pk_in c 65 (by omega), pk_eq (us c) 0 (fun _ => ⟨pk_in c 65 (by omega), nm_r (sd_up (by omega) rfl) ⟨pk_in c 65 (by omega), nm_r (sd_up (by omega) rfl) (nm_r (nI_1 bc) (H c hc hc0))⟩⟩) (fun z => absurd hc0 z) (sd_at (by omega))⟩)
    (fun n i _ hi _ hw => ⟨pk_in i 65 (by omega), pk_eq (us i) 0 (fun z => absurd ⟨by omega, z⟩ (hm i hi)) (fun z => nm_r (nI_1 i) (hw () trivial)) (sd_at (by omega)) rfl (by have := hu i; omega)⟩)
/-- the directory's places of the new bucket -/
theorem sd_183 {post : St1 → Prop} {D q c d : Nat} {bc kc : Int32} {dir : Nat → Nat} {a2 a3 a4 a5 a6 : Nat → Int32} (hD : D ≤ 6) (hd : d ≤ 6) (hc : c < 64) (hq : q < 256) (H : ∀ dir', (∀ i, i < 2 ^ D → dir' i = if i % 2 ^ d = q % 2 ^ d ∧ i / 2 ^ d % 2 = 1 then c else dir i) → post (nI D, bc, kc, sd_l dir', a2, a3, a4, a5, a6)) :
    ∃ n, wX_split_183 post (nI q) (nI d) (nI c) (nI (2 ^ d - 1)) (nI D) bc kc n 0 (sd_l dir) a2 a3 a4 a5 a6 := by
  have h64 := sd_p64 hD
  refine pk_loop (σ := Nat → Nat) (fun n i s => wX_split_183 post (nI q) (nI d) (nI c) (nI (2 ^ d - 1)) (nI D) bc kc n (nI i) (sd_l s) a2 a3 a4 a5 a6) (fun i s => (∀ j, j < i → s j = if j % 2 ^ d = q % 2 ^ d ∧ j / 2 ^ d % 2 = 1 then c else dir j) ∧ (∀ j, i ≤ j → s j = dir j)) (2 ^ D) 0 dir (Nat.zero_le _) ⟨fun j hj => absurd hj (by omega), fun j _ => rfl⟩ ?_ ?_
  · intro n s h
    exact pk_le (2 ^ D) (2 ^ D) (fun _ => H s h.1) (fun z => absurd z (by omega)) (sd_sh D (by omega))
  · intro n i s hi h hw
    have hm1 := Nat.mod_lt i (sd_pp d)
    have hm2 := Nat.mod_lt q (sd_pp d)
    have hm3 := sd_p64 hd
    have keep : ¬ (i % 2 ^ d = q % 2 ^ d ∧ i / 2 ^ d % 2 = 1) → ((∀ j, j < i + 1 → s j = if j % 2 ^ d = q % 2 ^ d ∧ j / 2 ^ d % 2 = 1 then c else dir j) ∧ (∀ j, i + 1 ≤ j → s j = dir j)) := by
      intro z
      exact ⟨lt_s h.1 (by rw [if_neg z]; exact h.2 i (Nat.le_refl i)), fun j hj => h.2 j (by omega)⟩
    refine pk_le (2 ^ D) i (fun z => absurd z (by omega)) (fun _ => pk_eq (i % 2 ^ d) (q % 2 ^ d) (fun e1 => pk_eq (i / 2 ^ d % 2) 1 (fun e2 => ⟨pk_in i 64 (by omega), nm_r (sd_up (by omega) (sd_b8 c (by omega))) (nm_r (nI_1 i) (hw _ ⟨lt_s (fun j hj => ?_) ?_, fun j hj => ?_⟩))⟩) (fun e2 => nm_r (nI_1 i) (hw s (keep (fun w => e2 w.2)))) (sd_bi (by omega) (by omega))) (fun e1 => nm_r (nI_1 i) (hw s (keep (fun w => e1 w.1)))) (sd_an (by omega) (by omega)) (sd_an (by omega) (by omega))) (sd_sh D (by omega))
    · rw [sd_un (by omega)]
      exact h.1 j hj
    · rw [sd_us, if_pos ⟨e1, e2⟩]
    · rw [sd_un (by omega)]
      exact h.2 j (by omega)
theorem sd_ex1 {f bt : Nat → Nat} {i v : Nat} (hv : bt (f i) = v) (x : Nat) : ((∃ j, j < i + 1 ∧ f j = x) ∧ bt x = v) ↔ (((∃ j, j < i ∧ f j = x) ∧ bt x = v) ∨ x = f i) := by
  constructor
  · rintro ⟨⟨j, hj, e⟩, hb⟩
    by_cases z : j = i
    · exact Or.inr (by rw [← e, z])
    · exact Or.inl ⟨⟨j, by omega, e⟩, hb⟩
  · rintro (⟨⟨j, hj, e⟩, hb⟩ | e)
    · exact ⟨⟨j, by omega, e⟩, hb⟩
    · rw [e]
      exact ⟨⟨i, by omega, rfl⟩, hv⟩
theorem sd_ex0 {f bt : Nat → Nat} {i v : Nat} (hv : bt (f i) ≠ v) (x : Nat) : ((∃ j, j < i + 1 ∧ f j = x) ∧ bt x = v) ↔ ((∃ j, j < i ∧ f j = x) ∧ bt x = v) := by
  constructor
  · rintro ⟨⟨j, hj, e⟩, hb⟩
    by_cases z : j = i
    · rw [← e, z] at hb
      exact absurd hb hv
    · exact ⟨⟨j, by omega, e⟩, hb⟩
  · rintro ⟨⟨j, hj, e⟩, hb⟩
    exact ⟨⟨j, by omega, e⟩, hb⟩
/-- the loop's picture: the first i keys of b are told apart -/
def sd_SI (ky ld : Nat → Nat) (b c d i : Nat) (ld' ky' : Nat → Nat) : Prop :=
  ld' b + ld' c = i ∧ sd_H ky' b (ld' b) (fun x => (∃ j, j < i ∧ ky (b * 5 + j) = x) ∧ x / 2 ^ d % 2 = 0) ∧ sd_H ky' c (ld' c) (fun x => (∃ j, j < i ∧ ky (b * 5 + j) = x) ∧ x / 2 ^ d % 2 = 1)
  ∧ (∀ j, i ≤ j → j < 5 → ky' (b * 5 + j) = ky (b * 5 + j)) ∧ (∀ x, x ≠ b → x ≠ c → ld' x = ld x ∧ ∀ i, i < 5 → ky' (x * 5 + i) = ky (x * 5 + i))
theorem sd_SIb {ky ld ld' ky' : Nat → Nat} {b c d i n : Nat} (hbc : b ≠ c) (hn : n ≤ 5) (hi : i < n) (hk : ∀ i j, i < j → j < n → ky (b * 5 + i) ≠ ky (b * 5 + j)) (h : sd_SI ky ld b c d i ld' ky') (hb : ky (b * 5 + i) / 2 ^ d % 2 = 0) :
    sd_SI ky ld b c d (i + 1) (sd_u ld' b (ld' b + 1)) (sd_u ky' (b * 5 + ld' b) (ky (b * 5 + i))) := by
  obtain ⟨h1, h2, h3, h4, h5⟩ := h
  refine ⟨?_, ?_, ?_, fun j hj hj5 => ?_, fun x hx hxc => ⟨?_, fun i' hi' => ?_⟩⟩
  · rw [sd_us, sd_un (fun z => hbc z.symm)]
    omega
  · rw [sd_us]
    refine sd_HA h2 (fun w => ?_) (fun x => sd_ex1 (f := fun j => ky (b * 5 + j)) (bt := fun x => x / 2 ^ d % 2) hb x)
    obtain ⟨⟨j, hj, e⟩, _⟩ := w
    exact hk j i hj hi e
  · rw [sd_un (fun z => hbc z.symm)]
    exact sd_HF h3 (fun j hj => sd_un (by omega)) (fun x => sd_ex0 (f := fun j => ky (b * 5 + j)) (bt := fun x => x / 2 ^ d % 2) (show ky (b * 5 + i) / 2 ^ d % 2 ≠ _ by omega) x)
  · rw [sd_un (by omega)]
    exact h4 j (by omega) hj5
  · rw [sd_un hx]
    exact (h5 x hx hxc).1
  · rw [sd_un (by omega)]
    exact (h5 x hx hxc).2 i' hi'
theorem sd_SIc {ky ld ld' ky' : Nat → Nat} {b c d i n : Nat} (hbc : b ≠ c) (hn : n ≤ 5) (hi : i < n) (hk : ∀ i j, i < j → j < n → ky (b * 5 + i) ≠ ky (b * 5 + j)) (h : sd_SI ky ld b c d i ld' ky') (hb : ky (b * 5 + i) / 2 ^ d % 2 = 1) :
    sd_SI ky ld b c d (i + 1) (sd_u ld' c (ld' c + 1)) (sd_u ky' (c * 5 + ld' c) (ky (b * 5 + i))) := by
  obtain ⟨h1, h2, h3, h4, h5⟩ := h
  refine ⟨?_, ?_, ?_, fun j hj hj5 => ?_, fun x hx hxc => ⟨?_, fun i' hi' => ?_⟩⟩
  · rw [sd_us, sd_un hbc]
    omega
  · rw [sd_un hbc]
    exact sd_HF h2 (fun j hj => sd_un (by omega)) (fun x => sd_ex0 (f := fun j => ky (b * 5 + j)) (bt := fun x => x / 2 ^ d % 2) (show ky (b * 5 + i) / 2 ^ d % 2 ≠ _ by omega) x)
  · rw [sd_us]
    refine sd_HA h3 (fun w => ?_) (fun x => sd_ex1 (f := fun j => ky (b * 5 + j)) (bt := fun x => x / 2 ^ d % 2) hb x)
    obtain ⟨⟨j, hj, e⟩, _⟩ := w
    exact hk j i hj hi e
  · rw [sd_un (by omega)]
    exact h4 j (by omega) hj5
  · rw [sd_un hxc]
    exact (h5 x hx hxc).1
  · rw [sd_un (by omega)]
    exact (h5 x hx hxc).2 i' hi'
theorem sd_111 {D bc kc : Nat} {dir us dp ld ky : Nat → Nat} {a6 : Nat → Int32} {post : St1 → Prop} {b q c d n : Nat} (hD : D ≤ 6) (hd : d ≤ 6) (hb : b < 64) (hc : c < 64) (hbc : b ≠ c) (hq : q < 256) (hn : n ≤ 5) (hl1 : ld b = 0) (hl2 : ld c = 0) (hv : ∀ i, i < n → ky (b * 5 + i) < 256) (hk : ∀ i j, i < j → j < n → ky (b * 5 + i) ≠ ky (b * 5 + j))
    (H : ∀ dir' ld' ky' a6', (∀ i, i < 2 ^ D → dir' i = if i % 2 ^ d = q % 2 ^ d ∧ i / 2 ^ d % 2 = 1 then c else dir i) → sd_SI ky ld b c d n ld' ky' → post (nI D, nI bc, nI kc, sd_l dir', sd_l us, sd_l dp, sd_l ld', sd_l ky', a6')) :
    ∃ fu, wX_split_111 post (nI b) (nI q) (nI d) (nI c) (nI n) fu 0 (nI D) (nI bc) (nI kc) (sd_l dir) (sd_l us) (sd_l dp) (sd_l ld) (sd_l ky) a6 := by
  refine pk_loop (σ := (Nat → Nat) × (Nat → Nat) × (Nat → Int32)) (fun fu i s => wX_split_111 post (nI b) (nI q) (nI d) (nI c) (nI n) fu (nI i) (nI D) (nI bc) (nI kc) (sd_l dir) (sd_l us) (sd_l dp) (sd_l s.1) (sd_l s.2.1) s.2.2) (fun i s => sd_SI ky ld b c d i s.1 s.2.1) n 0 (ld, ky, a6) (by omega) ?_ ?_ ?_
  · refine ⟨by dsimp only; omega, ?_, ?_, fun _ _ _ => rfl, fun x _ _ => ⟨rfl, fun _ _ => rfl⟩⟩
    · dsimp only
      rw [hl1]
      exact sd_H0 (fun x w => by obtain ⟨⟨j, hj, _⟩, _⟩ := w; omega)
    · dsimp only
      rw [hl2]
      exact sd_H0 (fun x w => by obtain ⟨⟨j, hj, _⟩, _⟩ := w; omega)
  · rintro fu ⟨ld', ky', a6'⟩ h
    exact pk_le n n (fun _ => nm_r (sd_ms (by omega)) (sd_183 hD hd hc hq (fun dir' hdir => H dir' ld' ky' a6' hdir h))) (fun z => absurd z (by omega))
  · rintro fu i ⟨ld', ky', a6'⟩ hi h hw
    dsimp only at h hw ⊢
    have hki := hv i hi
    have hsum := h.1
    have e : sd_l ky' (nI b * 5 + nI i).toNatClampNeg = nI (ky (b * 5 + i)) := by
      rw [sd_ax (by omega), h.2.2.2.1 i (Nat.le_refl i) (by omega)]
    have b2 := sd_b2 (ky (b * 5 + i) / 2 ^ d)
    refine pk_le n i (fun z => absurd z (by omega)) (fun _ => ⟨pk_in (b * 5 + i) 325 (by omega) (sd_ix b i), nm_r e (pk_eq (ky (b * 5 + i) / 2 ^ d % 2) 0 (fun z => ⟨pk_in (b * 5 + i) 325 (by omega) (sd_ix b i), sd_append (by omega) (by omega) hki (fun a => nm_r (nI_1 i) (hw (_, _, a) (sd_SIb hbc hn hi hk h z)))⟩) (fun z => ⟨pk_in (b * 5 + i) 325 (by omega) (sd_ix b i), sd_append (by omega) (by omega) hki (fun a => nm_r (nI_1 i) (hw (_, _, a) (sd_SIc hbc hn hi hk h (by omega))))⟩) (sd_bi (by omega) (by omega)))⟩)
theorem sd_66 {D bc kc : Nat} {dir us dp ld ky : Nat → Nat} {a6 : Nat → Int32} {B : Nat → Nat} {K : Nat → Bool} {post : St1 → Prop} {q d : Nat} (hR : sd_R D dir B dp) (hT : sd_T B us dp) (hC : sd_C B ld ky K) (hM : sd_M B dp K) (hq : q < 256) (hK : K q = true) (hd : dp (B q) = d) (hdD : d + 1 ≤ D) (h4 : 4 < ld (B q)) (hF : ∀ k, B k = B q ∨ ld (B k) ≤ 4) (hbc : bc = sd_s us 64)
    (H : ∀ (dir' us' dp' ld' ky' B' : Nat → Nat) (a6' : Nat → Int32), sd_R D dir' B' dp' → sd_T B' us' dp' → sd_C B' ld' ky' K → sd_M B' dp' K → (∀ k, B' k = B' q ∨ ld' (B' k) ≤ 4) → dp' (B' q) = d + 1 → bc + 1 = sd_s us' 64 → post (nI D, nI (bc + 1), nI kc, sd_l dir', sd_l us', sd_l dp', sd_l ld', sd_l ky', a6')) :
    wX_split_66 post (nI (B q)) (nI q) (nI d) (nI D) (nI bc) (nI kc) (sd_l dir) (sd_l us) (sd_l dp) (sd_l ld) (sd_l ky) a6 := by
  have hD := hR.1
  have hb := (hT.2.2.1 q).1
  have hl5 := (hC q).1
  unfold wX_split_66
  refine sd_newBucket hT.1 (sd_free hT q (by omega)) (fun c hc hu => ?_)
  have hne := sd_Tne hT hu
  have e3 : ∀ (g : Nat → Nat) (x : Nat), x < 64 → upd (sd_l g) (nI x).toNatClampNeg ((nI d + 1).toInt8.toInt32) = sd_l (sd_u g x (d + 1)) := fun g x hx => sd_up (by omega) (by rw [nI_1, sd_b8 _ (by omega)])
  have e5 : sd_l (sd_u ld c 0) (nI (B q)).toNatClampNeg = nI (ld (B q)) := by rw [sd_at (by omega), sd_un (hne q)]
  refine ⟨pk_in (B q) 65 (by omega), nm_r (e3 _ _ hb) ⟨pk_in c 65 (by omega), nm_r (e3 _ _ hc) ⟨pk_in (B q) 65 (by omega), nm_r e5 ⟨pk_in (B q) 65 (by omega), nm_r (sd_up (v := 0) (by omega) rfl) (sd_111 hD (by omega) hb hc (hne q) hq hl5 sd_us (by rw [sd_un (fun z => hne q z.symm), sd_us]) (fun i hi => ((hC q).2.1 i hi).1) (hC q).2.2.2 (fun dir' ld' ky' a6' hdir hS => ?_))⟩⟩⟩⟩
  obtain ⟨s1, s2, s3, s4, s5⟩ := hS
  have hC' : sd_C (sd_sB B q c d) ld' ky' K := sd_Csplit hT hC hu rfl rfl s1 s2 s3 (fun x hx hxc => by
    have := s5 x hx hxc
    rw [sd_un hx, sd_un hxc] at this
    exact this)
  have hq1 : 0 < ld' (sd_sB B q c d q) := by
    obtain ⟨i, hi, _⟩ := (hC' q).2.2.1 q ⟨hq, hK, rfl⟩
    omega
  refine H dir' _ _ ld' ky' (sd_sB B q c d) a6' (sd_Rsplit hT hR hu hd hdD hdir) (sd_Tsplit hT hd (by omega) hc hu) hC' (sd_Msplit hT hM hu hd ?_) (fun k => ?_) ?_ ?_
  · have := sd_ldn hT hC q
    rw [hd] at this
    omega
  · rcases sd_sB3 B q c d k with ⟨g1, g2, g3⟩ | ⟨g1, g2, g3⟩ | ⟨g1, g3⟩
    · rcases sd_sB3 B q c d q with ⟨z1, z2, z3⟩ | ⟨z1, z2, z3⟩ | ⟨z1, z3⟩
      · exact Or.inl (g3.trans z3.symm)
      · rw [z3] at hq1
        rw [g3]
        exact Or.inr (by omega)
      · exact absurd rfl z1
    · rcases sd_sB3 B q c d q with ⟨z1, z2, z3⟩ | ⟨z1, z2, z3⟩ | ⟨z1, z3⟩
      · rw [z3] at hq1
        rw [g3]
        exact Or.inr (by omega)
      · exact Or.inl (g3.trans z3.symm)
      · exact absurd rfl z1
    · have := (s5 (B k) g1 (hne k)).1
      rw [sd_un g1, sd_un (hne k)] at this
      rw [g3, this]
      exact Or.inr ((hF k).resolve_left g1)
  · rcases sd_sB3 B q c d q with ⟨z1, z2, z3⟩ | ⟨z1, z2, z3⟩ | ⟨z1, z3⟩
    · rw [z3, sd_us]
    · rw [z3, sd_un (hne q), sd_us]
    · exact absurd rfl z1
  · have := sd_sU (f := us) (v := 1) hc
    omega
theorem sd_split {D bc kc : Nat} {dir us dp ld ky : Nat → Nat} {a6 : Nat → Int32} {B : Nat → Nat} {K : Nat → Bool} {post : St1 → Prop} {q : Nat} (hR : sd_R D dir B dp) (hT : sd_T B us dp) (hC : sd_C B ld ky K) (hM : sd_M B dp K) (hq : q < 256) (hK : K q = true) (h4 : 4 < ld (B q)) (hF : ∀ k, B k = B q ∨ ld (B k) ≤ 4) (hbc : bc = sd_s us 64)
    (H : ∀ (D' : Nat) (dir' us' dp' ld' ky' B' : Nat → Nat) (a6' : Nat → Int32), sd_R D' dir' B' dp' → sd_T B' us' dp' → sd_C B' ld' ky' K → sd_M B' dp' K → (∀ k, B' k = B' q ∨ ld' (B' k) ≤ 4) → dp' (B' q) = dp (B q) + 1 → bc + 1 = sd_s us' 64 → post (nI D', nI (bc + 1), nI kc, sd_l dir', sd_l us', sd_l dp', sd_l ld', sd_l ky', a6')) :
    wpX_split post (nI D, nI bc, nI kc, sd_l dir, sd_l us, sd_l dp, sd_l ld, sd_l ky, a6) (nI (B q)) (nI q) := by
  have hD := hR.1
  have hb := (hT.2.2.1 q).1
  have hd6 := hT.2.1 (B q)
  have hdD := hR.2.2 q
  have hd5 : dp (B q) ≤ 5 := by
    rcases Nat.lt_or_ge (dp (B q)) 6 with z | z
    · omega
    · have a := sd_ldn hT hC q
      rw [show dp (B q) = 6 by omega] at a
      have := sd_n6 K q
      omega
  unfold wpX_split
  dsimp only
  refine ⟨pk_in (B q) 65 (by omega), nm_r (sd_at (by omega)) (pk_eq (dp (B q)) D (fun e => ?_) (fun e => sd_66 hR hT hC hM hq hK rfl (by omega) h4 hF hbc (H D)))⟩
  have h64 := sd_p64 (show D ≤ 6 by omega)
  have h32 : 2 ^ D ≤ 32 := Nat.pow_le_pow_right (n := 2) (by decide) (show D ≤ 5 by omega)
  have hdir : ∀ i, i < 2 ^ D → dir i < 64 := fun i hi => by
    have := hR.2.1 i
    rw [Nat.mod_eq_of_lt hi] at this
    rw [this]
    exact (hT.2.2.1 i).1
  refine pk_loop (σ := Nat → Nat) (fun n i s => wX_split_18 post (nI (B q)) (nI q) (nI (dp (B q))) (nI D) (nI bc) (nI kc) n (nI i) (sd_l s) (sd_l us) (sd_l dp) (sd_l ld) (sd_l ky) a6) (fun i s => (∀ j, j < 2 ^ D → s j = dir j) ∧ (∀ j, j < i → s (j + 2 ^ D) = dir j)) (2 ^ D) 0 dir (Nat.zero_le _) ⟨fun j _ => rfl, fun j hj => absurd hj (by omega)⟩ ?_ ?_
  · intro n s h
    refine pk_le (2 ^ D) (2 ^ D) (fun _ => nm_r (nI_1 D) ?_) (fun z => absurd z (by omega)) (sd_sh D (by omega))
    exact sd_66 (sd_Rdouble hR (by omega) h.1 h.2) hT hC hM hq hK rfl (by omega) h4 hF hbc (H (D + 1))
  · intro n i s hi h hw
    have hx : nI i + (1 : Int32) <<< (nI D &&& 31) = nI (i + 2 ^ D) := by rw [sd_sh D (by omega), nI_add]
    have hy : upd (sd_l s) (nI i + (1 : Int32) <<< (nI D &&& 31)).toNatClampNeg (vp_nar .byte (sd_l s (nI i).toNatClampNeg)) = sd_l (sd_u s (i + 2 ^ D) (dir i)) := by
      rw [hx]
      refine sd_up (by omega) ?_
      rw [sd_at (by omega), h.1 i hi, sd_v8 _ (by have := hdir i hi; omega)]
    refine pk_le (2 ^ D) i (fun z => absurd z (by omega)) (fun _ => ⟨pk_in i 64 (by omega), pk_in (i + 2 ^ D) 64 (by omega) hx, nm_r hy (nm_r (nI_1 i) (hw _ ⟨fun j hj => ?_, lt_s (fun j hj => ?_) ?_⟩))⟩) (sd_sh D (by omega))
    · rw [sd_un (by omega)]
      exact h.1 j hj
    · rw [sd_un (by omega)]
      exact h.2 j hj
    · rw [sd_us]
theorem sd_ins26 {post : St1 → Prop} {K : Nat → Bool} {q kc bc0 : Nat} (hq : q < 256) (hK : K q = true)
    (H : ∀ (D' bc' : Nat) (dir' us' dp' ld' ky' B' : Nat → Nat) (a6' : Nat → Int32), sd_R D' dir' B' dp' → sd_T B' us' dp' → sd_C B' ld' ky' K → sd_M B' dp' K → (∀ k, ld' (B' k) ≤ 4) → bc' = sd_s us' 64 → bc0 ≤ bc' → post (nI D', nI bc', nI kc, sd_l dir', sd_l us', sd_l dp', sd_l ld', sd_l ky', a6')) :
    ∀ (m i D bc : Nat) (dir us dp ld ky B : Nat → Nat) (a6 : Nat → Int32), i + m = 6 → sd_R D dir B dp → sd_T B us dp → sd_C B ld ky K → sd_M B dp K → (∀ k, B k = B q ∨ ld (B k) ≤ 4) → i ≤ dp (B q) → bc = sd_s us 64 → bc0 ≤ bc → wX_insert_26 post (nI q) (m + 1) (nI (B q)) (nI i) (nI D) (nI bc) (nI kc) (sd_l dir) (sd_l us) (sd_l dp) (sd_l ld) (sd_l ky) a6 := by
  have fin : ∀ (B ld : Nat → Nat), (∀ k, B k = B q ∨ ld (B k) ≤ 4) → ld (B q) ≤ 4 → ∀ k, ld (B k) ≤ 4 := by
    intro B ld h1 h2 k
    rcases h1 k with z | z
    · rw [z]
      exact h2
    · exact z
  intro m
  induction m with
  | zero =>
    intro i D bc dir us dp ld ky B a6 hi hR hT hC hM hF hdp hbc h0
    have hd6 := hT.2.1 (B q)
    have a := sd_ldn hT hC q
    rw [show dp (B q) = 6 by omega] at a
    have b := sd_n6 K q
    exact pk_le 6 i (fun _ => H D bc dir us dp ld ky B a6 hR hT hC hM (fin B ld hF (by omega)) hbc h0) (fun z => absurd z (by omega))
  | succ m ih =>
    intro i D bc dir us dp ld ky B a6 hi hR hT hC hM hF hdp hbc h0
    have hb := (hT.2.2.1 q).1
    have hl := (hC q).1
    refine pk_le 6 i (fun z => absurd z (by omega)) (fun _ => ⟨pk_in (B q) 65 (by omega), pk_le (ld (B q)) 4 (fun z => H D bc dir us dp ld ky B a6 hR hT hC hM (fin B ld hF z) hbc h0) (fun z => ?_) (sd_at (by omega))⟩)
    refine sd_split hR hT hC hM hq hK z hF hbc (fun D' dir' us' dp' ld' ky' B' a6' hR' hT' hC' hM' hF' hdp' hbc' => ?_)
    exact sd_bucketOf hR' (by omega) (nm_r (nI_1 i) (ih (i + 1) D' (bc + 1) dir' us' dp' ld' ky' B' a6' (by omega) hR' hT' hC' hM' hF' (by omega) hbc' (by omega)))
theorem sd_insert {D bc kc : Nat} {dir us dp ld ky : Nat → Nat} {a6 : Nat → Int32} {B : Nat → Nat} {K : Nat → Bool} {post : St1 → Prop} {q : Nat} {v : Int32} (hR : sd_R D dir B dp) (hT : sd_T B us dp) (hC : sd_C B ld ky K) (hM : sd_M B dp K) (hF : ∀ k, ld (B k) ≤ 4) (hq : q < 256) (hK : K q = false) (hbc : bc = sd_s us 64)
    (H : ∀ (D' bc' : Nat) (dir' us' dp' ld' ky' B' : Nat → Nat) (a6' : Nat → Int32), sd_R D' dir' B' dp' → sd_T B' us' dp' → sd_C B' ld' ky' (sd_p K q true) → sd_M B' dp' (sd_p K q true) → (∀ k, ld' (B' k) ≤ 4) → bc' = sd_s us' 64 → bc ≤ bc' → post (nI D', nI bc', nI (kc + 1), sd_l dir', sd_l us', sd_l dp', sd_l ld', sd_l ky', a6')) :
    wpX_insert post (nI D, nI bc, nI kc, sd_l dir, sd_l us, sd_l dp, sd_l ld, sd_l ky, a6) (nI q) v := by
  have hb := (hT.2.2.1 q).1
  unfold wpX_insert
  dsimp only
  refine sd_bucketOf hR (by omega) (sd_append (by omega) (hF q) hq (fun a => nm_r (nI_1 kc) ⟨7, ?_⟩))
  refine sd_ins26 (bc0 := bc) hq sd_ps H 6 0 D bc dir us dp _ _ B a (by omega) hR hT (sd_Cput hC hq hK (hF q)) (sd_Mput hq hK hM) (fun k => ?_) (by omega) hbc (Nat.le_refl bc)
  by_cases z : B k = B q
  · exact Or.inl z
  · rw [sd_un z]
    exact Or.inr (hF k)
theorem sd_put {D bc kc : Nat} {dir us dp ld ky : Nat → Nat} {a6 : Nat → Int32} {B : Nat → Nat} {K : Nat → Bool} {post : Int32 → St1 → Prop} {x v : Int32} (hR : sd_R D dir B dp) (hT : sd_T B us dp) (hC : sd_C B ld ky K) (hM : sd_M B dp K) (hF : ∀ k, ld (B k) ≤ 4) (hbc : bc = sd_s us 64) (hkc : kc ≤ 40)
    (H0 : ∀ r a6', post r (nI D, nI bc, nI kc, sd_l dir, sd_l us, sd_l dp, sd_l ld, sd_l ky, a6'))
    (H1 : ∀ q, q < 256 → K q = false → kc < 40 → ∀ (r : Int32) (D' bc' : Nat) (dir' us' dp' ld' ky' B' : Nat → Nat) (a6' : Nat → Int32), sd_R D' dir' B' dp' → sd_T B' us' dp' → sd_C B' ld' ky' (sd_p K q true) → sd_M B' dp' (sd_p K q true) → (∀ k, ld' (B' k) ≤ 4) → bc' = sd_s us' 64 → bc ≤ bc' → post r (nI D', nI bc', nI (kc + 1), sd_l dir', sd_l us', sd_l dp', sd_l ld', sd_l ky', a6')) :
    wpX_put post (nI D, nI bc, nI kc, sd_l dir, sd_l us, sd_l dp, sd_l ld, sd_l ky, a6) x v := by
  unfold wpX_put
  dsimp only
  refine sd_isKeyC x (fun q hq e => br_f (by decide) ?_) (fun _ => br_t rfl (H0 _ _))
  subst e
  have hb := (hT.2.2.1 q).1
  have hl := (hC q).1
  refine sd_bucketOf hR (by omega) (sd_find (by omega) hl (fun i hi => ((hC q).2.1 i hi).1) hq (fun i hi e => br_f (nI_pos (by omega)) ⟨pk_in (B q * 5 + i) 325 (by omega) (sd_ix (B q) i), nm_e (H0 _ _)⟩) (fun h => br_t (by decide) (pk_lt kc 40 (fun z => ?_) (fun _ => H0 _ _))))
  have hK : K q = false := by
    cases h' : K q
    · rfl
    · obtain ⟨i, hi, e⟩ := (hC q).2.2.1 q ⟨hq, h', rfl⟩
      exact absurd e (h i hi)
  exact sd_insert hR hT hC hM hF hq hK hbc (fun D' bc' dir' us' dp' ld' ky' B' a6' h1 h2 h3 h4 h5 h6 h7 => H1 q hq hK z _ D' bc' dir' us' dp' ld' ky' B' a6' h1 h2 h3 h4 h5 h6 h7)
end
section
/-! ===== 05: joinAt, delete, remove ===== -/
theorem sd_154 {post : Int32 → St1 → Prop} {D b c : Nat} {bc kc : Int32} {dir : Nat → Nat} {a2 a3 a4 a5 a6 : Nat → Int32} (hD : D ≤ 6) (hb : b < 64) (hc : c < 64) (hdir : ∀ i, i < 2 ^ D → dir i < 64) (H : ∀ dir', (∀ i, i < 2 ^ D → dir' i = if dir i = c then b else dir i) → post 1 (nI D, bc, kc, sd_l dir', a2, a3, a4, a5, a6)) :
    ∃ n, wX_joinAt_154 post (nI b) (nI c) (nI D) bc kc n 0 (sd_l dir) a2 a3 a4 a5 a6 := by
  have h64 := sd_p64 hD
  refine pk_loop (σ := Nat → Nat) (fun n i s => wX_joinAt_154 post (nI b) (nI c) (nI D) bc kc n (nI i) (sd_l s) a2 a3 a4 a5 a6) (fun i s => (∀ j, j < i → s j = if dir j = c then b else dir j) ∧ (∀ j, i ≤ j → s j = dir j)) (2 ^ D) 0 dir (Nat.zero_le _) ⟨fun j hj => absurd hj (by omega), fun j _ => rfl⟩ ?_ ?_
  · intro n s h
    exact pk_le (2 ^ D) (2 ^ D) (fun _ => H s h.1) (fun z => absurd z (by omega)) (sd_sh D (by omega))
  · intro n i s hi h hw
    have hdi := hdir i hi
    have hs : sd_l s (nI i).toNatClampNeg = nI (dir i) := by rw [sd_at (by omega), h.2 i (Nat.le_refl i)]
    have go : ∀ v, (if dir i = c then b else dir i) = v → wX_joinAt_154 post (nI b) (nI c) (nI D) bc kc n (nI (i + 1)) (sd_l (sd_u s i v)) a2 a3 a4 a5 a6 := by
      intro v hv
      refine hw _ ⟨lt_s (fun j hj => ?_) ?_, fun j hj => ?_⟩
      · rw [sd_un (by omega)]
        exact h.1 j hj
      · rw [sd_us, hv]
      · rw [sd_un (by omega)]
        exact h.2 j (by omega)
    exact pk_le (2 ^ D) i (fun z => absurd z (by omega)) (fun _ => ⟨pk_in i 64 (by omega), pk_eq (dir i) c (fun e => ⟨pk_in i 64 (by omega), nm_r (sd_up (by omega) (sd_b8 b (by omega))) (nm_r (nI_1 i) (go b (if_pos e)))⟩) (fun e => ⟨pk_in i 64 (by omega), pk_in i 64 (by omega), nm_r (sd_up (by omega) (by rw [hs, sd_v8 _ (by omega)])) (nm_r (nI_1 i) (go (dir i) (if_neg e)))⟩) hs⟩) (sd_sh D (by omega))
theorem sd_76 {D bc kc : Nat} {dir us dp ld ky : Nat → Nat} {a6 : Nat → Int32} {post : Int32 → St1 → Prop} {b c f : Nat} {S : Nat → Prop} (hD : D ≤ 6) (hb : b < 64) (hc : c < 64) (hbc : b ≠ c) (hf : f < 6) (hdir : ∀ i, i < 2 ^ D → dir i < 64) (h4 : ld b + ld c ≤ 4) (hS : sd_H ky b (ld b) S) (hv : ∀ i, i < ld c → ky (c * 5 + i) < 256 ∧ ¬ S (ky (c * 5 + i))) (hk : ∀ i j, i < j → j < ld c → ky (c * 5 + i) ≠ ky (c * 5 + j)) (hb1 : 1 ≤ bc)
    (H : ∀ dir' ld' ky' a6', (∀ i, i < 2 ^ D → dir' i = if dir i = c then b else dir i) → ld' b = ld b + ld c → sd_H ky' b (ld b + ld c) (fun x => S x ∨ ∃ j, j < ld c ∧ ky (c * 5 + j) = x) → (∀ x, x ≠ b → ld' x = ld x ∧ ∀ i, i < 5 → ky' (x * 5 + i) = ky (x * 5 + i)) → post 1 (nI D, nI (bc - 1), nI kc, sd_l dir', sd_l (sd_u us c 0), sd_l (sd_u dp b f), sd_l ld', sd_l ky', a6')) :
    ∃ n, wX_joinAt_76 post (nI b) (nI (f + 1)) (nI c) n 0 (nI D) (nI bc) (nI kc) (sd_l dir) (sd_l us) (sd_l dp) (sd_l ld) (sd_l ky) a6 := by
  refine pk_loop (σ := (Nat → Nat) × (Nat → Nat) × (Nat → Int32)) (fun n i s => wX_joinAt_76 post (nI b) (nI (f + 1)) (nI c) n (nI i) (nI D) (nI bc) (nI kc) (sd_l dir) (sd_l us) (sd_l dp) (sd_l s.1) (sd_l s.2.1) s.2.2) (fun i s => s.1 b = ld b + i ∧ sd_H s.2.1 b (ld b + i) (fun x => S x ∨ ∃ j, j < i ∧ ky (c * 5 + j) = x) ∧ (∀ x, x ≠ b → s.1 x = ld x ∧ ∀ i, i < 5 → s.2.1 (x * 5 + i) = ky (x * 5 + i))) (ld c) 0 (ld, ky, a6) (by omega) ?_ ?_ ?_
  · refine ⟨rfl, sd_HF hS (fun _ _ => rfl) (fun x => ⟨fun w => ?_, fun w => Or.inl w⟩), fun x _ => ⟨rfl, fun _ _ => rfl⟩⟩
    rcases w with w | ⟨j, hj, _⟩
    · exact w
    · omega
  · rintro n ⟨ld', ky', a6'⟩ ⟨h1, h2, h3⟩
    dsimp only at h1 h2 h3 ⊢
    have hlc := (h3 c (fun z => hbc z.symm)).1
    exact ⟨pk_in c 65 (by omega), pk_le (ld c) (ld c) (fun _ => ⟨pk_in c 65 (by omega), nm_r (sd_up (v := 0) (by omega) rfl) (nm_r (pk_sub (b := 1) hb1) ⟨pk_in b 65 (by omega), nm_r (sd_up (v := f) (by omega) (by rw [nI_pred, sd_b8 _ (by omega)])) (sd_154 hD hb hc hdir (fun dir' hdir' => H dir' ld' ky' a6' hdir' h1 h2 h3))⟩)⟩) (fun z => absurd z (by omega)) (by rw [sd_at (by omega), hlc])⟩
  · rintro n i ⟨ld', ky', a6'⟩ hi ⟨h1, h2, h3⟩ hw
    dsimp only at h1 h2 h3 hw ⊢
    have hlc := h3 c (fun z => hbc z.symm)
    have hki := hv i hi
    have ek : sd_l ky' (nI c * 5 + nI i).toNatClampNeg = nI (ky (c * 5 + i)) := by rw [sd_ax (by omega), hlc.2 i (by omega)]
    refine ⟨pk_in c 65 (by omega), pk_le (ld c) i (fun z => absurd z (by omega)) (fun _ => ⟨pk_in (c * 5 + i) 325 (by omega) (sd_ix c i), pk_in (c * 5 + i) 325 (by omega) (sd_ix c i), ?_⟩) (by rw [sd_at (by omega), hlc.1])⟩
    rw [ek]
    refine sd_append (by omega) (by omega) hki.1 (fun a => nm_r (nI_1 i) (hw (sd_u ld' b (ld' b + 1), sd_u ky' (b * 5 + ld' b) (ky (c * 5 + i)), a) ⟨?_, ?_, fun x hx => ⟨?_, fun i' hi' => ?_⟩⟩))
    · dsimp only
      rw [sd_us]
      omega
    · dsimp only
      rw [h1]
      refine sd_HA h2 (fun w => ?_) (fun x => ⟨fun w => ?_, fun w => ?_⟩)
      · rcases w with w | ⟨j, hj, e⟩
        · exact hki.2 w
        · exact hk j i hj hi e
      · rcases w with w | ⟨j, hj, e⟩
        · exact Or.inl (Or.inl w)
        · by_cases z : j = i
          · exact Or.inr (by rw [← e, z])
          · exact Or.inl (Or.inr ⟨j, by omega, e⟩)
      · rcases w with (w | ⟨j, hj, e⟩) | e
        · exact Or.inl w
        · exact Or.inr ⟨j, by omega, e⟩
        · exact Or.inr ⟨i, by omega, e.symm⟩
    · dsimp only
      rw [sd_un hx]
      exact (h3 x hx).1
    · dsimp only
      rw [sd_un (by omega)]
      exact (h3 x hx).2 i' hi'
theorem sd_joinAt {D bc kc : Nat} {dir us dp ld ky : Nat → Nat} {a6 : Nat → Int32} {B : Nat → Nat} {K : Nat → Bool} {post : Int32 → St1 → Prop} {q : Nat} (hR : sd_R D dir B dp) (hT : sd_T B us dp) (hC : sd_C B ld ky K) (hW : sd_W B dp K q) (hF : ∀ k, ld (B k) ≤ 4) (hq : q < 256) (hbc : bc = sd_s us 64)
    (H0 : sd_M B dp K → post 0 (nI D, nI bc, nI kc, sd_l dir, sd_l us, sd_l dp, sd_l ld, sd_l ky, a6))
    (H1 : ∀ (dir' us' dp' ld' ky' B' : Nat → Nat) (a6' : Nat → Int32), sd_R D dir' B' dp' → sd_T B' us' dp' → sd_C B' ld' ky' K → sd_W B' dp' K q → (∀ k, ld' (B' k) ≤ 4) → dp' (B' q) + 1 = dp (B q) → bc - 1 = sd_s us' 64 → post 1 (nI D, nI (bc - 1), nI kc, sd_l dir', sd_l us', sd_l dp', sd_l ld', sd_l ky', a6')) :
    wpX_joinAt post (nI D, nI bc, nI kc, sd_l dir, sd_l us, sd_l dp, sd_l ld, sd_l ky, a6) (nI q) := by
  have hD := hR.1
  have hb := (hT.2.2.1 q).1
  have hd6 := hT.2.1 (B q)
  unfold wpX_joinAt
  dsimp only
  refine sd_bucketOf hR (by omega) ⟨pk_in (B q) 65 (by omega), nm_r (sd_at (by omega)) (pk_eq (dp (B q)) 0 (fun e => H0 (sd_WM hT hW (Or.inl e))) (fun e => ?_))⟩
  obtain ⟨f, hf⟩ : ∃ f, dp (B q) = f + 1 := ⟨dp (B q) - 1, by omega⟩
  rw [hf]
  obtain ⟨x1, x2, x3⟩ := sd_xr f (by omega) q hq
  have hx : (nI q ^^^ ((1 : Int32) <<< ((nI (f + 1) - 1) &&& 31))) &&& (((1 : Int32) <<< (nI D &&& 31)) - 1) = nI ((q ^^^ 2 ^ f) % 2 ^ D) := by
    rw [nI_pred, sd_sh f (by omega), sd_xo, sd_mk (by omega) (by omega)]
  rw [hx]
  generalize q ^^^ 2 ^ f = e' at x1 x2 x3 ⊢
  have hm1 := Nat.mod_lt e' (sd_pp D)
  have hm2 := sd_p64 hD
  have hbe := (hT.2.2.1 e').1
  have hde := hT.2.1 (B e')
  have hle := hF e'
  have hlq := hF q
  have enough : 4 < sd_n K q f → sd_M B dp K := fun z => sd_WM hT hW (Or.inr (by rw [hf, Nat.add_sub_cancel]; exact z))
  refine ⟨pk_in (e' % 2 ^ D) 64 (by omega), nm_r (show sd_l dir (nI (e' % 2 ^ D)).toNatClampNeg = nI (B e') by rw [sd_at (by omega), hR.2.1]) ⟨pk_in (B e') 65 (by omega), pk_eq (dp (B e')) (f + 1) (fun e2 => ⟨pk_in (B q) 65 (by omega), pk_in (B e') 65 (by omega), pk_le (ld (B q) + ld (B e')) 4 (fun z => ?_) (fun z => H0 (enough ?_)) (by rw [sd_at (by omega), sd_at (by omega), nI_add])⟩) (fun e2 => H0 (enough ?_)) (sd_at (by omega))⟩⟩
  · have hne := sd_jne hT hf x3
    have hdir : ∀ i, i < 2 ^ D → dir i < 64 := fun i hi => by
      have := hR.2.1 i
      rw [Nat.mod_eq_of_lt hi] at this
      rw [this]
      exact (hT.2.2.1 i).1
    have hb1 : 1 ≤ bc := by
      have := sd_sG (f := us) hb
      have := (hT.2.2.1 q).2
      omega
    refine sd_76 hD hb hbe hne (by omega) hdir z (hC q).2 (fun i hi => ?_) (hC e').2.2.2 hb1 (fun dir' ld' ky' a6' g1 g2 g3 g4 => ?_)
    · have := (hC e').2.1 i hi
      exact ⟨this.1, fun w => hne (w.2.2.symm.trans this.2.2)⟩
    · refine H1 dir' _ _ ld' ky' (sd_jB B (B q) (B e')) a6' (sd_Rjoin hR hf g1) (sd_Tjoin hT hf e2 x2 x3) (sd_Cjoin (us := us) (dp := dp) hC hne g2 z g3 g4) (sd_Wjoin hT hW hf e2 x2 x3) (fun k => ?_) ?_ ?_
      · by_cases y : sd_jB B (B q) (B e') k = B q
        · rw [y, g2]
          exact z
        · rw [(g4 _ y).1]
          by_cases w : B k = B e'
          · exact absurd (sd_jBc w) y
          · rw [sd_jBo w]
            exact hF k
      · rw [sd_jBo hne, sd_us, hf]
      · have := sd_sU (f := us) (v := 0) hbe
        have := (hT.2.2.1 e').2
        omega
  · rw [sd_nS x2 x3]
    have a := sd_ldn hT hC q
    have b := sd_ldn hT hC e'
    rw [hf] at a
    rw [e2] at b
    omega
  · have hge : f + 1 ≤ dp (B e') := by
      rcases Nat.lt_or_ge f (dp (B e')) with w | w
      · omega
      · have := (hT.2.2.2.1 e' q).mpr (sd_md w x2)
        rw [this] at e2
        exact absurd hf e2
    rcases hW e' (by omega) with w | w
    · have a := sd_nM (K := K) (e := e') (show f ≤ dp (B e') - 1 by omega)
      rw [← sd_nC x2]
      omega
    · have a := (sd_mb e' q f).mp (sd_md (show f + 1 ≤ dp (B e') - 1 by omega) w)
      exact absurd a.2 x3
theorem sd_102 {post : St1 → Prop} {bc kc : Nat} {dir us dp ld ky B : Nat → Nat} {a6 : Nat → Int32} (hT : sd_T B us dp) (H : ∀ D', sd_R D' dir B dp → post (nI D', nI bc, nI kc, sd_l dir, sd_l us, sd_l dp, sd_l ld, sd_l ky, a6)) :
    ∀ D, sd_R D dir B dp → wX_delete_102 post (nI bc) (nI kc) (sd_l dir) (sd_l us) (sd_l dp) (sd_l ld) (sd_l ky) a6 (D + 1) (nI D) := by
  intro D
  induction D with
  | zero => exact fun hR => pk_le 0 0 (fun _ => H 0 hR) (fun z => absurd z (by omega))
  | succ D ih =>
    intro hR
    have hD := hR.1
    refine pk_le (D + 1) 0 (fun z => absurd z (by omega)) (fun _ => sd_deepest hT.1 hT.2.1 (fun m hm h1 h2 => pk_le (D + 1) m (fun _ => H (D + 1) hR) (fun z => nm_r (nI_pred D) (ih (sd_Rhalf hT hR (fun k => ?_))))))
    have := h1 (B k) (hT.2.2.1 k).1 (hT.2.2.1 k).2
    omega
theorem sd_del77 {post : St1 → Prop} {K : Nat → Bool} {q kc bc0 : Nat} (hq : q < 256)
    (H : ∀ (D' bc' : Nat) (dir' us' dp' ld' ky' B' : Nat → Nat) (a6' : Nat → Int32), sd_R D' dir' B' dp' → sd_T B' us' dp' → sd_C B' ld' ky' K → sd_M B' dp' K → (∀ k, ld' (B' k) ≤ 4) → bc' = sd_s us' 64 → bc' ≤ bc0 → post (nI D', nI bc', nI kc, sd_l dir', sd_l us', sd_l dp', sd_l ld', sd_l ky', a6')) :
    ∀ (m i : Nat) (x4 : Int32) (D bc : Nat) (dir us dp ld ky B : Nat → Nat) (a6 : Nat → Int32), i + m = 6 → sd_R D dir B dp → sd_T B us dp → sd_C B ld ky K → sd_W B dp K q → (∀ k, ld (B k) ≤ 4) → bc = sd_s us 64 → bc ≤ bc0 → ((x4 = 0 ∧ sd_M B dp K) ∨ (x4 = 1 ∧ dp (B q) + i ≤ 6)) → wX_delete_77 post (nI q) (m + 1) x4 (nI i) (nI D) (nI bc) (nI kc) (sd_l dir) (sd_l us) (sd_l dp) (sd_l ld) (sd_l ky) a6 := by
  intro m
  induction m with
  | zero =>
    intro i x4 D bc dir us dp ld ky B a6 hi hR hT hC hW hF hbc h0 hx
    have hM : sd_M B dp K := by
      rcases hx with h | h
      · exact h.2
      · exact sd_WM hT hW (Or.inl (by omega))
    exact pk_le 6 i (fun _ => ⟨D + 1, sd_102 hT (fun D' hR' => H D' bc dir us dp ld ky B a6 hR' hT hC hM hF hbc h0) D hR⟩) (fun z => absurd z (by omega))
  | succ m ih =>
    intro i x4 D bc dir us dp ld ky B a6 hi hR hT hC hW hF hbc h0 hx
    refine pk_le 6 i (fun z => absurd z (by omega)) (fun _ => ?_)
    rcases hx with ⟨e, hM⟩ | ⟨e, hd⟩
    · exact br_t e ⟨D + 1, sd_102 hT (fun D' hR' => H D' bc dir us dp ld ky B a6 hR' hT hC hM hF hbc h0) D hR⟩
    · refine br_f (by rw [e]; decide) (sd_joinAt hR hT hC hW hF hq hbc (fun hM => nm_r (nI_1 i) (ih (i + 1) 0 D bc dir us dp ld ky B a6 (by omega) hR hT hC hW hF hbc h0 (Or.inl ⟨rfl, hM⟩))) (fun dir' us' dp' ld' ky' B' a6' hR' hT' hC' hW' hF' hd' hbc' => nm_r (nI_1 i) (ih (i + 1) 1 D (bc - 1) dir' us' dp' ld' ky' B' a6' (by omega) hR' hT' hC' hW' hF' hbc' (by omega) (Or.inr ⟨rfl, by omega⟩))))
theorem sd_delete {D bc kc : Nat} {dir us dp ld ky : Nat → Nat} {a6 : Nat → Int32} {B : Nat → Nat} {K : Nat → Bool} {post : St1 → Prop} {q p : Nat} (hR : sd_R D dir B dp) (hT : sd_T B us dp) (hC : sd_C B ld ky K) (hM : sd_M B dp K) (hF : ∀ k, ld (B k) ≤ 4) (hq : q < 256) (hK : K q = true) (hbc : bc = sd_s us 64) (hp : p < ld (B q)) (he : ky (B q * 5 + p) = q) (hk1 : 1 ≤ kc)
    (H : ∀ (D' bc' : Nat) (dir' us' dp' ld' ky' B' : Nat → Nat) (a6' : Nat → Int32), sd_R D' dir' B' dp' → sd_T B' us' dp' → sd_C B' ld' ky' (sd_p K q false) → sd_M B' dp' (sd_p K q false) → (∀ k, ld' (B' k) ≤ 4) → bc' = sd_s us' 64 → bc' ≤ bc → post (nI D', nI bc', nI (kc - 1), sd_l dir', sd_l us', sd_l dp', sd_l ld', sd_l ky', a6')) :
    wpX_delete post (nI D, nI bc, nI kc, sd_l dir, sd_l us, sd_l dp, sd_l ld, sd_l ky, a6) (nI (B q)) (nI p) (nI q) := by
  have hb := (hT.2.2.1 q).1
  have hd6 := hT.2.1 (B q)
  have hl4 := hF q
  obtain ⟨n, hn⟩ : ∃ n, ld (B q) = n + 1 := ⟨ld (B q) - 1, by omega⟩
  unfold wpX_delete
  dsimp only
  have e4 : upd (sd_l ld) (nI (B q)).toNatClampNeg ((sd_l ld (nI (B q)).toNatClampNeg - 1).toInt8.toInt32) = sd_l (sd_u ld (B q) n) :=
    sd_up (by omega) (by rw [sd_at (by omega), hn, nI_pred, sd_b8 _ (by omega)])
  have e5 : nI (B q) * 5 + sd_l (sd_u ld (B q) n) (nI (B q)).toNatClampNeg = nI (B q * 5 + n) := by rw [sd_at (by omega), sd_us, sd_ix]
  have v : ky (B q * 5 + n) < 256 := ((hC q).2.1 n (by omega)).1
  have e6 : upd (sd_l ky) (nI (B q) * 5 + nI p).toNatClampNeg (vp_nar .short (sd_l ky (nI (B q) * 5 + sd_l (sd_u ld (B q) n) (nI (B q)).toNatClampNeg).toNatClampNeg)) = sd_l (sd_u ky (B q * 5 + p) (ky (B q * 5 + n))) := by
    rw [e5, sd_ix]
    exact sd_up (by omega) (by rw [sd_at (by omega), sd_v16 _ v])
  refine ⟨pk_in (B q) 65 (by omega), pk_in (B q) 65 (by omega), nm_r e4 ⟨pk_in (B q) 65 (by omega), pk_in (B q * 5 + n) 325 (by omega) e5, pk_in (B q * 5 + p) 325 (by omega) (sd_ix _ _), nm_r e6 ⟨pk_in (B q) 65 (by omega), pk_in (B q * 5 + n) 325 (by omega) e5, pk_in (B q * 5 + p) 325 (by omega) (sd_ix _ _), nm_e (nm_r (pk_sub (b := 1) hk1) ⟨7, ?_⟩)⟩⟩⟩
  refine sd_del77 (K := sd_p K q false) (bc0 := bc) hq H 6 0 1 D bc dir us dp _ _ B _ (by omega) hR hT (sd_Cdel hC hn (by omega) he) (sd_Wdel hq hK hM) (fun k => ?_) hbc (Nat.le_refl bc) (Or.inr ⟨rfl, by omega⟩)
  by_cases z : B k = B q
  · rw [z, sd_us]
    omega
  · rw [sd_un z]
    exact hF k
theorem sd_hasC {D bc kc : Nat} {dir us dp ld ky : Nat → Nat} {a6 : Nat → Int32} {B : Nat → Nat} {K : Nat → Bool} {post : Int32 → Prop} {x : Int32} (hR : sd_R D dir B dp) (hT : sd_T B us dp) (hC : sd_C B ld ky K) (H1 : ∀ q, q < 256 → x = nI q → K q = true → post 1) (H0 : post 0) : wpX_has post (nI D, nI bc, nI kc, sd_l dir, sd_l us, sd_l dp, sd_l ld, sd_l ky, a6) x := by
  rcases pk_ix x (n := 256) (by decide) with h | h | ⟨j, hj, e⟩
  · exact br_t h (br_t rfl H0)
  · exact br_c (fun _ => br_t rfl H0) (fun _ => br_t h (br_t rfl H0))
  · rw [e]
    exact sd_has hR hT hC hj (H1 j hj e) (fun _ => H0)
theorem sd_remove {D bc kc : Nat} {dir us dp ld ky : Nat → Nat} {a6 : Nat → Int32} {B : Nat → Nat} {K : Nat → Bool} {post : Int32 → St1 → Prop} {x : Int32} (hR : sd_R D dir B dp) (hT : sd_T B us dp) (hC : sd_C B ld ky K) (hM : sd_M B dp K) (hF : ∀ k, ld (B k) ≤ 4) (hbc : bc = sd_s us 64) (hkc : kc = sd_n K 0 0)
    (H0 : ∀ r, post r (nI D, nI bc, nI kc, sd_l dir, sd_l us, sd_l dp, sd_l ld, sd_l ky, a6))
    (H1 : ∀ q, q < 256 → K q = true → 1 ≤ kc → ∀ (r : Int32) (D' bc' : Nat) (dir' us' dp' ld' ky' B' : Nat → Nat) (a6' : Nat → Int32), sd_R D' dir' B' dp' → sd_T B' us' dp' → sd_C B' ld' ky' (sd_p K q false) → sd_M B' dp' (sd_p K q false) → (∀ k, ld' (B' k) ≤ 4) → bc' = sd_s us' 64 → bc' ≤ bc → post r (nI D', nI bc', nI (kc - 1), sd_l dir', sd_l us', sd_l dp', sd_l ld', sd_l ky', a6')) :
    wpX_remove post (nI D, nI bc, nI kc, sd_l dir, sd_l us, sd_l dp, sd_l ld, sd_l ky, a6) x := by
  unfold wpX_remove
  dsimp only
  refine sd_hasC hR hT hC (fun q hq e hK => br_f (by decide) ?_) (br_t rfl (H0 _))
  subst e
  have hb := (hT.2.2.1 q).1
  have hl := (hC q).1
  have hk1 : 1 ≤ kc := by
    rw [hkc, sd_nR hq hK, if_pos (by rw [Nat.pow_zero, Nat.mod_one, Nat.mod_one])]
    omega
  refine sd_bucketOf hR (by omega) (sd_find (by omega) hl (fun i hi => ((hC q).2.1 i hi).1) hq (fun i hi e => ?_) (fun h => ?_))
  · exact sd_delete hR hT hC hM hF hq hK hbc hi e hk1 (fun D' bc' dir' us' dp' ld' ky' B' a6' h1 h2 h3 h4 h5 h6 h7 => H1 q hq hK hk1 _ D' bc' dir' us' dp' ld' ky' B' a6' h1 h2 h3 h4 h5 h6 h7)
  · obtain ⟨i, hi, e⟩ := (hC q).2.2.1 q ⟨hq, hK, rfl⟩
    exact absurd e (h i hi)
end
section
/-! ===== 06: the law's own methods: whole, bucket ===== -/
theorem sd_sN {f : Nat → Nat} {a b : Nat} (h : a ≤ b) : sd_s f a ≤ sd_s f b := by
  induction b with
  | zero =>
    rw [show a = 0 by omega]
    exact Nat.le_refl _
  | succ b ih =>
    by_cases z : a = b + 1
    · rw [z]
      exact Nat.le_refl _
    · have := ih (by omega)
      show sd_s f a ≤ sd_s f b + f b
      omega
theorem sd_gap {f : Nat → Nat} {a b : Nat} (h : a ≤ b) (h0 : ∀ i, a ≤ i → i < b → f i = 0) : sd_s f b = sd_s f a := by
  induction b with
  | zero => rw [show a = 0 by omega]
  | succ b ih =>
    by_cases z : a = b + 1
    · rw [z]
    · show sd_s f b + f b = sd_s f a
      rw [ih (by omega) (fun i h1 h2 => h0 i h1 (by omega)), h0 b (by omega) (by omega), Nat.add_zero]
theorem sd_nf1 {K : Nat → Bool} {k : Nat} (h : K k = true) : sd_nf K 0 0 k = 1 := if_pos ⟨h, by rw [Nat.pow_zero, Nat.mod_one, Nat.mod_one]⟩
theorem sd_nf0 {K : Nat → Bool} {k : Nat} (h : K k = false) : sd_nf K 0 0 k = 0 := if_neg (fun w => by rw [h] at w; exact absurd w.1 (by decide))
theorem sd_nle {n : Nat} (h : n < 2 ^ 31) : ¬ nI n ≤ -1 := by
  intro z
  have a := nI_toInt h
  have b : (nI n).toInt ≤ (-1 : Int32).toInt := Int32.le_iff_toInt_le.mp z
  have c : (-1 : Int32).toInt = -1 := by decide
  rw [c, a] at b
  omega
theorem sd_w12 {D bc kc : Nat} {dir us dp ld ky : Nat → Nat} {a6 : Nat → Int32} {B : Nat → Nat} {K : Nat → Bool} {post : Int32 → Prop} (hR : sd_R D dir B dp) (hT : sd_T B us dp) (hC : sd_C B ld ky K) (h40 : sd_n K 0 0 ≤ 40) (H : wL_whole_54 post (nI (sd_n K 0 0)) (nI D) (nI bc) (nI kc) (sd_l dir) (sd_l us) (sd_l dp) (sd_l ld) (sd_l ky) a6) :
    ∀ (m a : Nat) (last : Int32), 256 ≤ a + m → a < 256 → K a = true → (last = -1 ∨ ∃ l, l < a ∧ last = nI l) → wL_whole_12 post (nI D) (nI bc) (nI kc) (sd_l dir) (sd_l us) (sd_l dp) (sd_l ld) (sd_l ky) a6 (m + 1) (nI (sd_s (sd_nf K 0 0) a)) (nI a) last := by
  intro m
  induction m with
  | zero => intro a last h1 h2; omega
  | succ m ih =>
    intro a last h1 h2 hK hl
    have hs : sd_s (sd_nf K 0 0) (a + 1) = sd_s (sd_nf K 0 0) a + 1 := by
      show sd_s (sd_nf K 0 0) a + sd_nf K 0 0 a = _
      rw [sd_nf1 hK]
    have hle : sd_s (sd_nf K 0 0) (a + 1) ≤ sd_n K 0 0 := sd_sN (f := sd_nf K 0 0) (show a + 1 ≤ 256 by omega)
    have hlast : ¬ nI a ≤ last := by
      rcases hl with e | ⟨l, hla, e⟩
      · rw [e]
        exact sd_nle (by omega)
      · rw [e]
        exact nI_ge hla (by omega)
    refine br_f (nI_pos (by omega)) (pk_le 41 (sd_s (sd_nf K 0 0) a) (fun z => absurd z (by omega)) (fun _ => nm_r (nI_1 _) (br_f hlast (sd_has hR hT hC h2 (fun _ => br_f (by decide) ?_) (fun z => absurd (hK.symm.trans z) (by decide))))))
    rw [nI_1, ← hs]
    refine sd_next hR hT hC (by omega) (fun k k1 k2 k3 k4 => ?_) (fun h => ?_)
    · rw [← sd_gap (f := sd_nf K 0 0) k1 (fun i i1 i2 => sd_nf0 (k4 i i1 i2))]
      exact ih k (nI a) (by omega) k2 k3 (Or.inr ⟨a, by omega, rfl⟩)
    · rw [← sd_gap (f := sd_nf K 0 0) (show a + 1 ≤ 256 by omega) (fun i i1 i2 => sd_nf0 (h i i1 i2))]
      exact br_t (by decide) H
/-! the buckets by their depth -/
def sd_wd (us dp : Nat → Nat) (w : Nat → Nat) (d : Nat) : Nat → Nat := fun b => if us b = 1 ∧ dp b < d then w (dp b) else 0
theorem sd_sMul (f : Nat → Nat) (w : Nat) : ∀ n, sd_s (fun k => f k * w) n = sd_s f n * w := by
  intro n
  induction n with
  | zero => exact (Nat.zero_mul w).symm
  | succ n ih =>
    show sd_s (fun k => f k * w) n + f n * w = (sd_s f n + f n) * w
    rw [ih, Nat.add_mul]
theorem sd_wd1 (us dp w : Nat → Nat) (d : Nat) : sd_s (sd_wd us dp w (d + 1)) 64 = sd_s (sd_wd us dp w d) 64 + sd_s (sd_od us dp d) 64 * w d := by
  rw [← sd_sMul, ← sd_sA]
  refine sd_sC (fun b _ => ?_)
  unfold sd_wd sd_od
  by_cases h1 : us b = 1
  · by_cases h2 : dp b < d
    · rw [if_pos ⟨h1, by omega⟩, if_pos ⟨h1, h2⟩, if_neg (fun z => by omega), Nat.zero_mul, Nat.add_zero]
    · by_cases h3 : dp b = d
      · rw [if_pos ⟨h1, by omega⟩, if_neg (fun z => h2 z.2), if_pos ⟨h1, h3⟩, Nat.one_mul, Nat.zero_add, h3]
      · rw [if_neg (fun z => by omega), if_neg (fun z => h2 z.2), if_neg (fun z => h3 z.2), Nat.zero_mul]
  · rw [if_neg (fun z => h1 z.1), if_neg (fun z => h1 z.1), if_neg (fun z => h1 z.1), Nat.zero_mul]
theorem sd_wd0 (us dp w : Nat → Nat) : sd_s (sd_wd us dp w 0) 64 = 0 := sd_s0 (fun b _ => if_neg (fun z => by omega))
theorem sd_ex {f : Nat → Nat} : ∀ n, 0 < sd_s f n → ∃ k, k < n ∧ 0 < f k := by
  intro n
  induction n with
  | zero =>
    intro h
    have h' : 0 < 0 := h
    omega
  | succ n ih =>
    intro h
    have h' : 0 < sd_s f n + f n := h
    by_cases z : 0 < f n
    · exact ⟨n, by omega, z⟩
    · obtain ⟨k, hk, e⟩ := ih (by omega)
      exact ⟨k, by omega, e⟩
theorem sd_sr : ∀ d, d < 9 → (256 : Int32) >>> (nI d &&& 31) = nI (2 ^ (8 - d)) := by decide +kernel
theorem sd_54 {D bc kc : Nat} {dir us dp ld ky : Nat → Nat} {a6 : Nat → Int32} {B : Nat → Nat} {K : Nat → Bool} {post : Int32 → Prop} (hT : sd_T B us dp) (hbc : bc = sd_s us 64) (h40 : kc ≤ 40) (H : post 1) : wL_whole_54 post (nI kc) (nI D) (nI bc) (nI kc) (sd_l dir) (sd_l us) (sd_l dp) (sd_l ld) (sd_l ky) a6 := by
  have hA9 : sd_s (sd_wd us dp (fun _ => 1) 9) 64 = bc := by
    rw [hbc]
    refine sd_sC (fun b _ => ?_)
    have h1 := hT.1 b
    have h2 := hT.2.1 b
    unfold sd_wd
    by_cases z : us b = 1
    · rw [if_pos ⟨z, by omega⟩, z]
    · rw [if_neg (fun w => z w.1)]
      omega
  have hP9 : sd_s (sd_wd us dp (fun x => 2 ^ (8 - x)) 9) 64 = 256 := by
    rw [← hT.2.2.2.2]
    refine sd_sC (fun b _ => ?_)
    have h1 := hT.1 b
    have h2 := hT.2.1 b
    unfold sd_wd
    by_cases z : us b = 1
    · rw [if_pos ⟨z, by omega⟩, z, Nat.one_mul]
    · rw [if_neg (fun w => z w.1), show us b = 0 by omega, Nat.zero_mul]
  have L := pk_loop (σ := Nat) (fun n d m => wL_whole_66 post (nI kc) (nI D) (nI bc) (nI kc) (sd_l dir) (sd_l us) (sd_l dp) (sd_l ld) (sd_l ky) a6 n (nI (sd_s (sd_wd us dp (fun _ => 1) d) 64)) (nI (sd_s (sd_wd us dp (fun x => 2 ^ (8 - x)) d) 64)) (nI m) (nI d))
    (fun d m => m ≤ 9 ∧ (∀ b, b < 64 → us b = 1 → dp b < d → dp b ≤ m) ∧ (m = 0 ∨ ∃ b, b < 64 ∧ us b = 1 ∧ dp b = m)) 9 0 0 (by omega) ⟨by omega, fun b _ _ h => absurd h (by omega), Or.inl rfl⟩ ?_ ?_
  · obtain ⟨n, hn⟩ := L
    try dsimp only at hn
    rw [sd_wd0, sd_wd0] at hn
    exact ⟨n, hn⟩
  · rintro n m ⟨h0, h1, h2⟩
    rw [hA9, hP9]
    refine pk_le 9 9 (fun _ => br_t rfl (pk_lt 40 kc (fun z => absurd z (by omega)) (fun _ => br_t rfl (br_t rfl (sd_deepest hT.1 hT.2.1 (fun m' g0 g1 g2 => br_t ?_ (sd_ofDepthN hT.1 hT.2.1 (br_t rfl H)))))))) (fun z => absurd z (by omega))
    have e : m' = m := by
      have a1 : m' ≤ m := by
        rcases g2 with z | ⟨b, b1, b2, b3⟩
        · omega
        · have := h1 b b1 b2 (by omega)
          omega
      have a2 : m ≤ m' := by
        rcases h2 with z | ⟨b, b1, b2, b3⟩
        · omega
        · have := g1 b b1 b2
          omega
      omega
    rw [e]
  · rintro n d m hd ⟨h0, h1, h2⟩ hw
    have hod := sd_od1 us dp d 64
    refine pk_le 9 d (fun z => absurd z (by omega)) (fun _ => sd_ofDepth hT.1 hT.2.1 hd (nm_r (show _ = nI (sd_s (sd_wd us dp (fun _ => 1) (d + 1)) 64) by rw [nI_add, sd_wd1, Nat.mul_one]) (nm_r (show _ = nI (sd_s (sd_wd us dp (fun x => 2 ^ (8 - x)) (d + 1)) 64) by rw [sd_sr d hd, pk_mul, nI_add, sd_wd1]) (pk_le (sd_s (sd_od us dp d) 64) 0 (fun z => nm_r (nI_1 d) (hw m ⟨h0, fun b b1 b2 b3 => ?_, h2⟩)) (fun z => nm_r (nI_1 d) (hw d ⟨by omega, fun b b1 b2 b3 => by omega, ?_⟩))))))
    · by_cases y : dp b = d
      · have a : sd_od us dp d b ≤ sd_s (sd_od us dp d) 64 := sd_sG b1
        rw [show sd_od us dp d b = 1 from if_pos ⟨b2, y⟩] at a
        omega
      · exact h1 b b1 b2 (by omega)
    · obtain ⟨b, b1, b2⟩ := sd_ex 64 z
      unfold sd_od at b2
      by_cases y : us b = 1 ∧ dp b = d
      · exact Or.inr ⟨b, b1, y.1, y.2⟩
      · rw [if_neg y] at b2
        exact absurd b2 (by omega)
theorem sd_whole {D bc kc : Nat} {dir us dp ld ky : Nat → Nat} {a6 : Nat → Int32} {B : Nat → Nat} {K : Nat → Bool} {post : Int32 → Prop} (hR : sd_R D dir B dp) (hT : sd_T B us dp) (hC : sd_C B ld ky K) (hbc : bc = sd_s us 64) (hkc : kc = sd_n K 0 0) (h40 : kc ≤ 40) (H : post 1) : wpL_whole post (nI D, nI bc, nI kc, sd_l dir, sd_l us, sd_l dp, sd_l ld, sd_l ky, a6) := by
  have E : wL_whole_54 post (nI (sd_n K 0 0)) (nI D) (nI bc) (nI kc) (sd_l dir) (sd_l us) (sd_l dp) (sd_l ld) (sd_l ky) a6 := by
    rw [← hkc]
    exact sd_54 (B := B) (K := K) hT hbc h40 H
  unfold wpL_whole
  dsimp only
  refine sd_nextN hR hT hC (fun k k1 k2 k3 => ⟨257, ?_⟩) (fun h => ⟨1, br_t (by decide) ?_⟩)
  · have a := sd_w12 hR hT hC (by omega) E 256 k (-1) (by omega) k1 k2 (Or.inl rfl)
    rw [sd_gap (f := sd_nf K 0 0) (Nat.zero_le k) (fun i _ hi => sd_nf0 (k3 i hi))] at a
    exact a
  · have e : sd_n K 0 0 = 0 := sd_s0 (f := sd_nf K 0 0) (fun i hi => sd_nf0 (h i hi))
    rw [e] at E
    exact E
/-! the places of a bucket's keys -/
theorem sd_rkM {ky : Nat → Nat} {b n x y : Nat} (h : x ≤ y) : sd_rk ky b n x ≤ sd_rk ky b n y := by
  refine sd_sL (fun j _ => ?_)
  unfold sd_lf
  by_cases z : ky (b * 5 + j) < x
  · rw [if_pos z, if_pos (by omega)]
    exact Nat.le_refl 1
  · rw [if_neg z]
    exact Nat.zero_le _
theorem sd_rk1 {ky : Nat → Nat} {b n x : Nat} : sd_rk ky b n (x + 1) = sd_rk ky b n x + sd_s (fun j => if ky (b * 5 + j) = x then 1 else 0) n := by
  unfold sd_rk
  rw [← sd_sA]
  refine sd_sC (fun j _ => ?_)
  unfold sd_lf
  by_cases z : ky (b * 5 + j) < x
  · rw [if_pos z, if_pos (by omega), if_neg (by omega)]
  · by_cases y : ky (b * 5 + j) = x
    · rw [if_neg z, if_pos (by omega), if_pos y]
    · rw [if_neg z, if_neg (by omega), if_neg y]
theorem sd_rkn {ky : Nat → Nat} {b n i : Nat} (hi : i < n) : sd_rk ky b n (ky (b * 5 + i)) < n := by
  have a := sd_rk1 (ky := ky) (b := b) (n := n) (x := ky (b * 5 + i))
  have c : sd_rk ky b n (ky (b * 5 + i) + 1) ≤ n := by
    have := sd_sL (f := sd_lf ky b (ky (b * 5 + i) + 1)) (g := fun _ => 1) (n := n) (fun j _ => by
      unfold sd_lf
      split <;> omega)
    rw [sd_sK, Nat.mul_one] at this
    exact this
  have d := sd_sG (f := fun j => if ky (b * 5 + j) = ky (b * 5 + i) then 1 else 0) hi
  try dsimp only at d
  rw [if_pos rfl] at d
  omega
theorem sd_rkS {ky : Nat → Nat} {b n : Nat} (hv : ∀ i, i < n → ky (b * 5 + i) < 256) (hk : ∀ i j, i < j → j < n → ky (b * 5 + i) ≠ ky (b * 5 + j)) {r : Nat} (hr : r < n) : ∃ i, i < n ∧ sd_rk ky b n (ky (b * 5 + i)) = r := by
  have top : sd_rk ky b n 256 = n := by
    have : sd_rk ky b n 256 = sd_s (fun _ => 1) n := sd_sC (fun j hj => if_pos (hv j hj))
    rw [this, sd_sK, Nat.mul_one]
  have bot : sd_rk ky b n 0 = 0 := sd_s0 (fun j _ => if_neg (by omega))
  obtain ⟨x, hx, hm⟩ := pk_least (fun x => r < sd_rk ky b n x) ⟨256, by rw [top]; exact hr⟩
  by_cases z : x = 0
  · rw [z, bot] at hx
    omega
  · obtain ⟨y, rfl⟩ : ∃ y, x = y + 1 := ⟨x - 1, by omega⟩
    have hy := hm y (by omega)
    rw [sd_rk1] at hx
    obtain ⟨i, hi, e⟩ := sd_ex n (show 0 < sd_s (fun j => if ky (b * 5 + j) = y then 1 else 0) n by omega)
    by_cases w : ky (b * 5 + i) = y
    · refine ⟨i, hi, ?_⟩
      rw [w]
      have one := sd_sP (f := fun _ => 0) (g := fun j => if ky (b * 5 + j) = y then 1 else 0) hi (fun j hj hne => if_neg (fun u => by
        rcases Nat.lt_or_gt_of_ne hne with v | v
        · exact hk j i v hi (u.trans w.symm)
        · exact hk i j v hj (w.trans u.symm)))
      rw [sd_sK] at one
      try dsimp only at one
      rw [if_pos w] at one
      omega
    · rw [if_neg w] at e
      exact absurd e (by omega)
theorem sd_n256 (K : Nat → Bool) (e d : Nat) : sd_n K e d ≤ 256 := by
  have := sd_sL (f := sd_nf K e d) (g := fun _ => 1) (n := 256) (fun j _ => by
    unfold sd_nf
    split <;> omega)
  rw [sd_sK] at this
  exact this
theorem sd_112 {D bc kc : Nat} {dir us dp ld ky : Nat → Nat} {a6 : Nat → Int32} {B : Nat → Nat} {K : Nat → Bool} {post : Int32 → Prop} {q : Nat} (hR : sd_R D dir B dp) (hT : sd_T B us dp) (hC : sd_C B ld ky K) (hF : ∀ k, ld (B k) ≤ 4) (hq : q < 256) (H : post 1) : wL_bucket_112 post (nI q) (nI (ld (B q))) (nI D) (nI bc) (nI kc) (sd_l dir) (sd_l us) (sd_l dp) (sd_l ld) (sd_l ky) a6 := by
  have hl := hF q
  unfold wL_bucket_112
  refine sd_inBucket hR hT hC hq (fun i hi e => ?_) (fun _ => br_t rfl (sd_together (K := K) hR hT hq hq rfl (br_f (by decide) (sd_inBucket hR hT hC hq (fun i hi e => ?_) (fun _ => br_t rfl H)))))
  · have a := sd_rkn (ky := ky) (b := B q) hi
    rw [nI_eq (by omega) (by omega)] at e
    omega
  · have a := sd_rkn (ky := ky) (b := B q) hi
    exact absurd e (sd_neg1 (by omega))
theorem sd_bucket {D bc kc : Nat} {dir us dp ld ky : Nat → Nat} {a6 : Nat → Int32} {B : Nat → Nat} {K : Nat → Bool} {post : Int32 → Prop} {q : Nat} (hR : sd_R D dir B dp) (hT : sd_T B us dp) (hC : sd_C B ld ky K) (hM : sd_M B dp K) (hF : ∀ k, ld (B k) ≤ 4) (hq : q < 256) (H : post 1) : wpL_bucket post (nI D, nI bc, nI kc, sd_l dir, sd_l us, sd_l dp, sd_l ld, sd_l ky, a6) (nI q) := by
  have hl := hF q
  have hd := hT.2.1 (B q)
  have hv : ∀ i, i < ld (B q) → ky (B q * 5 + i) < 256 := fun i hi => ((hC q).2.1 i hi).1
  unfold wpL_bucket
  dsimp only
  refine sd_depthOf (K := K) hR hT hq (sd_load (K := K) hR hT hq ?_)
  refine pk_loop (σ := Int32) (fun n i x => wL_bucket_18 post (nI q) (nI (dp (B q))) (nI (ld (B q))) (nI D) (nI bc) (nI kc) (sd_l dir) (sd_l us) (sd_l dp) (sd_l ld) (sd_l ky) a6 n x (nI i)) (fun i x => x = -1 ∨ ∃ j, j < ld (B q) ∧ x = nI (ky (B q * 5 + j)) ∧ sd_rk ky (B q) (ld (B q)) (ky (B q * 5 + j)) < i) (ld (B q)) 0 (-1) (by omega) (Or.inl rfl) ?_ ?_
  · intro n x _
    have e := sd_ldn hT hC q
    refine pk_le (ld (B q)) (ld (B q)) (fun _ => sd_having hR hT hC hq (by omega) (br_t (by rw [e]) (pk_lt 4 (ld (B q)) (fun z => absurd z (by omega)) (fun _ => pk_eq (dp (B q)) 0 (fun _ => sd_112 hR hT hC hF hq H) (fun z => ?_))))) (fun z => absurd z (by omega))
    rw [show nI (dp (B q)) - 1 = nI (dp (B q) - 1) from pk_sub (b := 1) (by omega)]
    have a := hM q z
    have b := sd_n256 K q (dp (B q) - 1)
    exact sd_having hR hT hC hq (by omega) (pk_le (sd_n K q (dp (B q) - 1)) 4 (fun z => absurd z (by omega)) (fun _ => sd_112 hR hT hC hF hq H))
  · intro n i x hi hx hw
    refine pk_le (ld (B q)) i (fun z => absurd z (by omega)) (fun _ => sd_inBucket hR hT hC hq (fun j hj e => ?_) (fun h => ?_))
    · have hj1 := sd_rkn (ky := ky) (b := B q) hj
      rw [nI_eq (by omega) (by omega)] at e
      have hin := (hC q).2.1 j hj
      have hvj := hv j hj
      refine br_f ?_ (sd_has hR hT hC hvj (fun _ => br_f (by decide) (sd_together (K := K) hR hT hq hvj hin.2.2.symm (br_f (by decide) (sd_depthOf (K := K) hR hT hvj (br_t (by rw [hin.2.2]) (nm_r (nI_1 i) (hw _ (Or.inr ⟨j, hj, rfl, by omega⟩)))))))) (fun z => absurd (hin.2.1.symm.trans z) (by decide)))
      rcases hx with z | ⟨j', hj', z, hr⟩
      · rw [z]
        exact sd_nle (by omega)
      · rw [z]
        refine nI_ge ?_ (by omega)
        rcases Nat.lt_or_ge (ky (B q * 5 + j')) (ky (B q * 5 + j)) with w | w
        · exact w
        · have := sd_rkM (ky := ky) (b := B q) (n := ld (B q)) w
          omega
    · obtain ⟨j, hj, e⟩ := sd_rkS hv (hC q).2.2.2 hi
      exact absurd (by rw [e]) (h j hj)
end
section
/-! ===== 07: the law ===== -/
/-- what holds between two turns -/
def sd_I (D bc kc : Nat) (dir us dp ld ky : Nat → Nat) : Prop := ∃ (B : Nat → Nat) (K : Nat → Bool), sd_R D dir B dp ∧ sd_T B us dp ∧ sd_C B ld ky K ∧ sd_M B dp K ∧ (∀ k, ld (B k) ≤ 4) ∧ bc = sd_s us 64 ∧ kc = sd_n K 0 0 ∧ kc ≤ 40
theorem sd_t55 {D bc kc : Nat} {dir us dp ld ky : Nat → Nat} {a6 : Nat → Int32} {post : St1 → Prop} {w y z : Int32} (hI : sd_I D bc kc dir us dp ld ky)
    (H : ∀ (D' bc' kc' : Nat) (dir' us' dp' ld' ky' : Nat → Nat) (a6' : Nat → Int32), sd_I D' bc' kc' dir' us' dp' ld' ky' → (5 < w → (kc' = kc ∧ bc' = bc) ∨ (kc' + 1 = kc ∧ bc' ≤ bc)) → (¬ 5 < w → (kc' = kc ∧ bc' = bc) ∨ (kc' = kc + 1 ∧ bc ≤ bc')) → post (nI D', nI bc', nI kc', sd_l dir', sd_l us', sd_l dp', sd_l ld', sd_l ky', a6')) :
    wL_turn_55 post y w z (nI D) (nI bc) (nI kc) (sd_l dir) (sd_l us) (sd_l dp) (sd_l ld) (sd_l ky) a6 := by
  obtain ⟨B, K, hR, hT, hC, hM, hF, hbc, hkc, h40⟩ := hI
  have same : sd_I D bc kc dir us dp ld ky := ⟨B, K, hR, hT, hC, hM, hF, hbc, hkc, h40⟩
  have z0 : ∀ q : Nat, q % 2 ^ 0 = 0 % 2 ^ 0 := fun q => by rw [Nat.pow_zero, Nat.mod_one, Nat.mod_one]
  refine br_c (fun h5 => ?_) (fun h5 => ?_)
  · refine sd_remove hR hT hC hM hF hbc hkc (fun r => H D bc kc dir us dp ld ky a6 same (fun _ => Or.inl ⟨rfl, rfl⟩) (fun h => absurd h5 h)) (fun q hq hK h1 r D' bc' dir' us' dp' ld' ky' B' a6' g1 g2 g3 g4 g5 g6 g7 => H D' bc' (kc - 1) dir' us' dp' ld' ky' a6' ⟨B', _, g1, g2, g3, g4, g5, g6, ?_, by omega⟩ (fun _ => Or.inr ⟨by omega, g7⟩) (fun h => absurd h5 h))
    have a := sd_nR (K := K) (e := 0) (d := 0) hq hK
    rw [if_pos (z0 q)] at a
    omega
  · refine sd_put hR hT hC hM hF hbc h40 (fun r a => H D bc kc dir us dp ld ky a same (fun h => absurd h h5) (fun _ => Or.inl ⟨rfl, rfl⟩)) (fun q hq hK h1 r D' bc' dir' us' dp' ld' ky' B' a6' g1 g2 g3 g4 g5 g6 g7 => H D' bc' (kc + 1) dir' us' dp' ld' ky' a6' ⟨B', _, g1, g2, g3, g4, g5, g6, ?_, by omega⟩ (fun h => absurd h h5) (fun _ => Or.inr ⟨rfl, g7⟩))
    have a := sd_nP (K := K) (e := 0) (d := 0) hq hK
    rw [if_pos (z0 q)] at a
    omega
theorem sd_turn {D bc kc : Nat} {dir us dp ld ky : Nat → Nat} {a6 : Nat → Int32} {post : St1 → Prop} {p x y : Int32} (hI : sd_I D bc kc dir us dp ld ky)
    (H : ∀ (D' bc' kc' : Nat) (dir' us' dp' ld' ky' : Nat → Nat) (a6' : Nat → Int32), sd_I D' bc' kc' dir' us' dp' ld' ky' → (5 < p &&& 7 → (kc' = kc ∧ bc' = bc) ∨ (kc' + 1 = kc ∧ bc' ≤ bc)) → (¬ 5 < p &&& 7 → (kc' = kc ∧ bc' = bc) ∨ (kc' = kc + 1 ∧ bc ≤ bc')) → post (nI D', nI bc', nI kc', sd_l dir', sd_l us', sd_l dp', sd_l ld', sd_l ky', a6')) :
    wpL_turn post (nI D, nI bc, nI kc, sd_l dir, sd_l us, sd_l dp, sd_l ld, sd_l ky, a6) p x y := by
  unfold wpL_turn
  dsimp only
  exact nm_e (br_c (fun _ => br_f (by decide) (br_c (fun _ => sd_t55 hI H) (fun _ => sd_t55 hI H))) (fun _ => br_t rfl (sd_t55 hI H)))
theorem sd_165 {D bc kc : Nat} {dir us dp ld ky : Nat → Nat} {a6 : Nat → Int32} {post : Int32 → Prop} {L k c s : Nat} {xs : Nat → Int32} {J : Int32 → Int32 → Int32 → Int32 → (Nat → Int32) → (Nat → Int32) → (Nat → Int32) → (Nat → Int32) → (Nat → Int32) → (Nat → Int32) → Prop} (hL : L ≤ 260) (hk : k + 2 < L) (hI : sd_I D bc kc dir us dp ld ky) (HJ : J (nI (k + 3)) (nI D) (nI bc) (nI kc) (sd_l dir) (sd_l us) (sd_l dp) (sd_l ld) (sd_l ky) a6) :
    wL_law_165 post L xs J (nI k) 1 c s (nI D) (nI bc) (nI kc) (sd_l dir) (sd_l us) (sd_l dp) (sd_l ld) (sd_l ky) a6 := by
  obtain ⟨B, K, hR, hT, hC, hM, hF, hbc, hkc, h40⟩ := hI
  obtain ⟨q, hq, eq⟩ := pk_andE ((xs (nI k).toNatClampNeg) >>> ((5 : Int32) &&& 31)) (m := 255) 8 (by decide)
  refine ⟨pk_in k L (by omega), nm_r eq (br_f (by decide) (sd_whole hR hT hC hbc hkc h40 (br_f (by decide) (sd_bucket hR hT hC hM hF hq (br_f (by decide) ?_)))))⟩
  refine sd_hasC hR hT hC (fun q hq e _ => absurd e (fun e => nI_ge (b := 256) hq (by decide) (e ▸ Int32.le_refl _))) (br_t rfl ?_)
  refine br_t (by decide) (br_t rfl (br_t rfl (br_t rfl ?_)))
  refine br_t (by decide) (br_t rfl (br_t rfl ?_))
  refine br_f (by decide) (br_t (by decide) (br_t rfl (br_t rfl ?_)))
  refine br_f (by decide) (br_f (by decide) (br_f (by decide) (br_f (by decide) (br_t (by decide) (br_t rfl (br_t rfl ?_))))))
  refine br_t (by decide) (br_t rfl (br_t rfl ?_))
  exact sd_next (j := 256) hR hT hC (by omega) (fun k h1 h2 _ _ => absurd h1 (by omega)) (fun _ => br_t rfl (nm_r (nI_add k 3) HJ))
theorem sd_law10 {L c s : Nat} {xs : Nat → Int32} (hL : L ≤ 260) :
    ∀ (m k D bc kc : Nat) (dir us dp ld ky : Nat → Nat) (a6 : Nat → Int32), L ≤ k + m → k ≤ L → sd_I D bc kc dir us dp ld ky → wL_law_10 (fun r => r = 1) L xs c s (m + 1) (nI k) (nI D) (nI bc) (nI kc) (sd_l dir) (sd_l us) (sd_l dp) (sd_l ld) (sd_l ky) a6 := by
  intro m
  induction m with
  | zero =>
    intro k D bc kc dir us dp ld ky a6 h1 h2 _
    exact pk_le L (k + 2) (fun _ => rfl) (fun z => absurd z (by omega)) rfl (nI_add k 2)
  | succ m ih =>
    intro k D bc kc dir us dp ld ky a6 h1 h2 hI
    refine pk_le L (k + 2) (fun _ => rfl) (fun hk => ⟨pk_in k L (by omega), pk_in (k + 1) L (by omega) (nI_1 k), pk_in (k + 2) L (by omega) (nI_add k 2), sd_turn hI (fun D' bc' kc' dir' us' dp' ld' ky' a6' hI' g1 g2 => ⟨pk_in k L (by omega), ?_⟩)⟩) rfl (nI_add k 2)
    have hb : kc ≤ 40 ∧ bc ≤ 64 := by
      obtain ⟨B, K, _, hT, _, _, _, hbc, _, h40⟩ := hI
      have := sd_sL (f := us) (g := fun _ => 1) (n := 64) (fun j _ => hT.1 j)
      rw [sd_sK] at this
      omega
    have hb' : kc' ≤ 40 ∧ bc' ≤ 64 := by
      obtain ⟨B, K, _, hT, _, _, _, hbc, _, h40⟩ := hI'
      have := sd_sL (f := us') (g := fun _ => 1) (n := 64) (fun j _ => hT.1 j)
      rw [sd_sK] at this
      omega
    have F := sd_165 (post := fun r => r = 1) (c := c) (s := s) (xs := xs) (a6 := a6') (J := wL_law_10 (fun r => r = 1) L xs c s (m + 1)) hL hk hI' (ih (k + 3) D' bc' kc' dir' us' dp' ld' ky' a6' (by omega) (by omega) hI')
    refine br_c (fun h5 => ?_) (fun h5 => ?_)
    · have g := g1 h5
      refine br_t rfl (pk_eq kc' kc (fun e => br_t ?_ F) (fun e => br_t ?_ (pk_lt bc bc' (fun z => absurd z (by omega)) (fun _ => F))))
      · rw [show bc' = bc by omega]
      · rw [show kc = kc' + 1 by omega]
        exact (nI_pred kc').symm
    · have g := g2 h5
      refine br_f (by decide) (pk_eq kc' kc (fun e => br_t ?_ F) (fun e => br_t ?_ (pk_lt bc' bc (fun z => absurd z (by omega)) (fun _ => F))))
      · rw [show bc' = bc by omega]
      · rw [show kc' = kc + 1 by omega]
        exact (nI_1 kc).symm
theorem sd_I0 : sd_I 0 1 0 (fun _ => 0) (sd_u (fun _ => 0) 0 1) (fun _ => 0) (fun _ => 0) (fun _ => 0) := by
  refine ⟨fun _ => 0, fun _ => false, ⟨Nat.zero_le 6, fun _ => rfl, fun _ => Nat.le_refl 0⟩, ⟨fun b => ?_, fun _ => Nat.zero_le 6, fun _ => ⟨show 0 < 64 by omega, sd_us⟩, fun k j => ⟨fun _ => ?_, fun _ => rfl⟩, by decide +kernel⟩, fun k => ⟨Nat.zero_le 5, sd_H0 (fun x w => absurd w.2.1 Bool.false_ne_true)⟩, fun k h => absurd rfl h, fun _ => Nat.zero_le 4, by decide +kernel, by decide +kernel, Nat.zero_le 40⟩
  · by_cases z : b = 0
    · rw [z, sd_us]
      exact Nat.le_refl 1
    · rw [sd_un z]
      exact Nat.zero_le 1
  · rw [Nat.pow_zero, Nat.mod_one, Nat.mod_one]
theorem i_vc (xs : Nat → Int32) (L : Nat) (hL : L ≤ 260) : wpL_law (fun r => r = 1) L xs := by
  refine ⟨6, 909, by omega, by omega, ?_⟩
  refine ⟨by omega, by omega, by omega, by omega, by omega, by omega, by omega, by omega, by omega, by omega, by omega, by omega, nm_r (show upd (fun _ => 0) 0 1 = sd_l (sd_u (fun _ => 0) 0 1) from sd_lu (fun _ => 0) 0 1) ⟨L + 1, ?_⟩⟩
  exact sd_law10 hL L 0 0 1 0 (fun _ => 0) (sd_u (fun _ => 0) 0 1) (fun _ => 0) (fun _ => 0) (fun _ => 0) (fun _ => 0) (by omega) (by omega) sd_I0
end
