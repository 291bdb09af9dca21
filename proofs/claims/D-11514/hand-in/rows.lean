section
section
variable {h ax el kn sz dp : Int32} {a1 a2 a3 a4 a5 : Nat → Int32} {a6 : Nat → Int64} {a7 : Nat → Int32} {a8 a9 a10 a11 a12 a13 : Nat → Int64}
theorem tm_ix (c e f : Nat) : nI c * nI e + nI f = nI (c * e + f) := by rw [pk_mul, nI_add]
/-- the word of a digit in a part -/
def tm_wd (k p : Nat) : Int64 :=
  if k = 0 then -6148914691236517206 else if k = 1 then -3689348814741910324 else if k = 2 then -1085102592571150096 else if k = 3 then -71777214294589696 else if k = 4 then -281470681808896 else if k = 5 then -4294967296 else if p / 2 ^ (k - 6) % 2 = 1 then -1 else 0
theorem tm_wdI : ∀ k, k < 12 → 6 ≤ k → ∀ p, p < 64 → (((nI p >>> ((nI k - 6) &&& 31)) &&& 1) = 1 ↔ p / 2 ^ (k - 6) % 2 = 1) := by decide +kernel
theorem tm_withDigit {post : Int64 → Prop} {x y : Int32} (k p : Nat) (hx : x = nI k) (hy : y = nI p) (hk : k < 12) (hp : p < 64) (H : post (tm_wd k p)) : wpX_withDigit post () x y := by
  subst hx hy
  unfold wpX_withDigit
  refine br_f (nI_pos (by omega)) (pk_lt 5 k (fun z => ?_) (fun z => ?_))
  · have e := tm_wdI k hk (by omega) p hp
    refine ek_if e (fun g => ?_) (fun g => ?_)
    · have t : tm_wd k p = -1 := by
        unfold tm_wd
        rw [if_neg (by omega), if_neg (by omega), if_neg (by omega), if_neg (by omega), if_neg (by omega), if_neg (by omega), if_pos g]
      rw [t] at H
      exact H
    · have t : tm_wd k p = 0 := by
        unfold tm_wd
        rw [if_neg (by omega), if_neg (by omega), if_neg (by omega), if_neg (by omega), if_neg (by omega), if_neg (by omega), if_neg g]
      rw [t] at H
      exact H
  · refine pk_eq k 0 (fun z => by subst z; exact H) (fun z0 => pk_eq k 1 (fun z => by subst z; exact H) (fun z1 => pk_eq k 2 (fun z => by subst z; exact H) (fun z2 => pk_eq k 3 (fun z => by subst z; exact H) (fun z3 => pk_eq k 4 (fun z => by subst z; exact H) (fun z4 => pk_eq k 5 (fun z => by subst z; exact H) (fun z5 => absurd z5 (by omega)))))))
def tm_vl (d l : Nat) : Bool := decide (l % 3 < d) && decide (l / 3 % 3 < d) && decide (l / 9 < d)
theorem tm_vl_t {d l : Nat} (h1 : l % 3 < d) (h2 : l / 3 % 3 < d) (h3 : l / 9 < d) : tm_vl d l = true := by
  simp [tm_vl, h1, h2, h3]
theorem tm_vl_f {d l : Nat} (h : d ≤ l % 3 ∨ d ≤ l / 3 % 3 ∨ d ≤ l / 9) : tm_vl d l = false := by
  unfold tm_vl
  rcases h with h | h | h
  · simp [Nat.not_lt.mpr h]
  · simp [Nat.not_lt.mpr h]
  · simp [Nat.not_lt.mpr h]
theorem tm_vl_e {d l : Nat} (h : tm_vl d l = true) : l % 3 < d ∧ l / 3 % 3 < d ∧ l / 9 < d := by
  simp [tm_vl] at h
  exact ⟨h.1.1, h.1.2, h.2⟩
theorem tm_isList {post : Int32 → Prop} {x : Int32} (d l : Nat) (hs : sz = nI d) (hx : x = nI l) (hd : d ≤ 3) (hl : l < 27) (H1 : tm_vl d l = true → post 1) (H0 : tm_vl d l = false → post 0) : wpX_isList post (h, ax, el, kn, sz, dp, a1, a2, a3, a4, a5, a6, a7, a8, a9, a10, a11, a12, a13) x := by
  subst hs hx
  have e1 : nI l - nI l / 3 * 3 = nI (l % 3) := pk_rem (d := 3) (by omega) (by omega) (by omega)
  have e2 : nI l / 3 = nI (l / 3) := pk_div (d := 3) (by omega) (by omega) (by omega)
  have e3 : nI (l / 3) - nI (l / 3) / 3 * 3 = nI (l / 3 % 3) := pk_rem (d := 3) (by omega) (by omega) (by omega)
  have e4 : nI l / 9 = nI (l / 9) := pk_div (d := 9) (by omega) (by omega) (by omega)
  unfold wpX_isList
  dsimp only
  rw [e1, e2, e3, e4]
  exact ⟨by decide, pk_le d (l % 3) (fun z => H0 (tm_vl_f (Or.inl z))) (fun z => ⟨by decide, by decide, pk_le d (l / 3 % 3) (fun z2 => H0 (tm_vl_f (Or.inr (Or.inl z2)))) (fun z2 => ⟨by decide, pk_le d (l / 9) (fun z3 => H0 (tm_vl_f (Or.inr (Or.inr z3)))) (fun z3 => H1 (tm_vl_t z z2 z3))⟩)⟩)⟩
def tm_el (l v : Nat) : Nat := if v = 0 then l % 3 else if v = 1 then l / 3 % 3 else l / 9
theorem tm_el_lt : ∀ l, l < 27 → ∀ v, v < 3 → tm_el l v < 3 := by decide +kernel
theorem tm_elementIn {post : Int32 → Prop} {x y : Int32} (l v : Nat) (hx : x = nI l) (hy : y = nI v) (hl : l < 27) (hv : v < 3) (H : post (nI (tm_el l v))) : wpX_elementIn post () x y := by
  subst hx hy
  have e1 : nI l - nI l / 3 * 3 = nI (l % 3) := pk_rem (d := 3) (by omega) (by omega) (by omega)
  have e2 : nI l / 3 = nI (l / 3) := pk_div (d := 3) (by omega) (by omega) (by omega)
  have e3 : nI (l / 3) - nI (l / 3) / 3 * 3 = nI (l / 3 % 3) := pk_rem (d := 3) (by omega) (by omega) (by omega)
  have e4 : nI l / 9 = nI (l / 9) := pk_div (d := 9) (by omega) (by omega) (by omega)
  unfold wpX_elementIn
  rw [e1, e2, e3, e4]
  refine pk_eq v 0 (fun z => ⟨by decide, ?_⟩) (fun z => pk_eq v 1 (fun z2 => ⟨by decide, by decide, ?_⟩) (fun z2 => ⟨by decide, ?_⟩))
  · have e : tm_el l v = l % 3 := by simp [tm_el, z]
    rw [e] at H
    exact H
  · have e : tm_el l v = l / 3 % 3 := by simp [tm_el, z2]
    rw [e] at H
    exact H
  · have e : tm_el l v = l / 9 := by simp [tm_el, z, z2]
    rw [e] at H
    exact H
def tm_pl (v : Nat) : Nat := if v = 0 then 1 else if v = 1 then 3 else 9
theorem tm_placeOf {post : Int32 → Prop} {x : Int32} (v : Nat) (hx : x = nI v) (hv : v < 3) (H : post (nI (tm_pl v))) : wpX_placeOf post () x := by
  subst hx
  unfold wpX_placeOf
  refine pk_eq v 0 (fun z => ?_) (fun z => pk_eq v 1 (fun z2 => ?_) (fun z2 => ?_))
  · subst z
    exact H
  · subst z2
    exact H
  · have e : v = 2 := by omega
    subst e
    exact H
def tm_pc : Nat → Int64 → Nat
  | 0, _ => 0
  | n + 1, w => if w = 0 then 0 else tm_pc n (w &&& (w - 1)) + 1
theorem tm_ones {post : Int32 → Prop} {w : Int64} (H : post (nI (tm_pc 64 w))) : wpX_ones post () w := by
  have key : ∀ n i w, n + i = 64 → post (nI (i + tm_pc n w)) → wX_ones_7 post (n + 1) (nI i) w (nI i) := by
    intro n
    induction n with
    | zero =>
      intro i w e hp
      have e' : i = 64 := by omega
      subst e'
      exact pk_le 64 64 (fun _ => hp) (fun z => absurd z (by omega))
    | succ n ih =>
      intro i w e hp
      refine pk_le 64 i (fun z => absurd z (by omega)) (fun _ => br_c (fun z => ?_) (fun z => nm_e (nm_r (nI_1 i) (nm_r (nI_1 i) (ih (i + 1) _ (by omega) ?_)))))
      · have t : tm_pc (n + 1) w = 0 := by simp [tm_pc, z]
        rw [t] at hp
        exact hp
      · have t : tm_pc (n + 1) w = tm_pc n (w &&& (w - 1)) + 1 := by simp [tm_pc, z]
        rw [t] at hp
        rw [show i + 1 + tm_pc n (w &&& (w - 1)) = i + (tm_pc n (w &&& (w - 1)) + 1) by omega]
        exact hp
  refine ⟨65, key 64 0 w (by omega) ?_⟩
  rw [Nat.zero_add]
  exact H
def tm_pa (d : Nat) : Nat := if d = 3 then 64 else 1
theorem tm_partsOf {post : Int32 → Prop} {x : Int32} (d : Nat) (hx : x = nI d) (hd : d ≤ 3) (H : post (nI (tm_pa d))) : wpX_partsOf post () x := by
  subst hx
  unfold wpX_partsOf
  refine pk_eq d 3 (fun z => ?_) (fun z => ?_)
  · subst z
    exact H
  · have e : tm_pa d = 1 := by simp [tm_pa, z]
    rw [e] at H
    exact H
theorem tm_pa_le (d : Nat) : tm_pa d ≤ 64 ∧ 1 ≤ tm_pa d := by
  unfold tm_pa
  split <;> omega
def tm_wh (d : Nat) : Int64 := if d = 1 then 15 else -1
theorem tm_wholePart {post : Int64 → Prop} {x : Int32} (d : Nat) (hx : x = nI d) (hd : d ≤ 3) (H : post (tm_wh d)) : wpX_wholePart post () x := by
  subst hx
  unfold wpX_wholePart
  refine pk_eq d 1 (fun z => ?_) (fun z => ?_)
  · subst z
    exact H
  · have e : tm_wh d = -1 := by simp [tm_wh, z]
    rw [e] at H
    exact H
end
end
section
section
variable {h ax el kn sz dp : Int32} {a1 a2 a3 a4 a5 : Nat → Int32} {a6 : Nat → Int64} {a7 : Nat → Int32} {a8 a9 a10 a11 a12 a13 : Nat → Int64}
theorem tm_cl3 {e f : Nat} (h : 3 * e + f < 100) : ((3 : Int32) * nI e + nI f).toNatClampNeg = 3 * e + f := pk_cl (3 * e + f) (tm_ix 3 e f)
def tm_g9 (d p j : Nat) : Int64 := tm_wd (d + d * (j / 3) + j % 3) p
def tm_g0 (d p j : Nat) : Int64 := if j / 3 = j % 3 then -1 else tm_g9 d p j
def tm_cf (o e : Nat) : Nat → (Nat → Int64) → (Nat → Int64)
  | 0, g => g
  | f + 1, g => vp_updL (tm_cf o e f g) (3 * e + f) (tm_cf o e f g (3 * e + f) ||| (tm_cf o e f g (3 * e + o) &&& tm_cf o e f g (3 * o + f)))
def tm_ce (d o : Nat) : Nat → (Nat → Int64) → (Nat → Int64)
  | 0, g => g
  | e + 1, g => tm_cf o e d (tm_ce d o e g)
def tm_co (d : Nat) : Nat → (Nat → Int64) → (Nat → Int64)
  | 0, g => g
  | o + 1, g => tm_ce d o d (tm_co d o g)
def tm_rr (d p : Nat) : Nat → Int64 := tm_co d d (tm_g0 d p)
def tm_AG (d : Nat) (g g' : Nat → Int64) : Prop := ∀ e f, e < d → f < d → g (3 * e + f) = g' (3 * e + f)
theorem tm_cf_ag {d o e : Nat} {g g' : Nat → Int64} (ho : o < d) (he : e < d) (A : tm_AG d g g') : ∀ i, i ≤ d → tm_AG d (tm_cf o e i g) (tm_cf o e i g') := by
  intro i
  induction i with
  | zero => intro _; exact A
  | succ i ih =>
    intro hi
    have B := ih (by omega)
    intro e' f' he' hf'
    show vp_updL (tm_cf o e i g) (3 * e + i) _ (3 * e' + f') = vp_updL (tm_cf o e i g') (3 * e + i) _ (3 * e' + f')
    by_cases q : 3 * e' + f' = 3 * e + i
    · rw [q, pk_uLs, pk_uLs, B e i he (by omega), B e o he ho, B o i ho (by omega)]
    · rw [pk_uLn q, pk_uLn q]
      exact B e' f' he' hf'
theorem tm_ce_ag {d o : Nat} {g g' : Nat → Int64} (ho : o < d) (A : tm_AG d g g') : ∀ i, i ≤ d → tm_AG d (tm_ce d o i g) (tm_ce d o i g') := by
  intro i
  induction i with
  | zero => intro _; exact A
  | succ i ih => intro hi; exact tm_cf_ag ho (by omega) (ih (by omega)) d (by omega)
theorem tm_co_ag {d : Nat} {g g' : Nat → Int64} (A : tm_AG d g g') : ∀ i, i ≤ d → tm_AG d (tm_co d i g) (tm_co d i g') := by
  intro i
  induction i with
  | zero => intro _; exact A
  | succ i ih => intro hi; exact tm_ce_ag (by omega) (ih (by omega)) d (by omega)
theorem tm_close12 {post : St2 → Prop} {J : Int32 → (Nat → Int32) → (Nat → Int32) → (Nat → Int32) → (Nat → Int32) → (Nat → Int32) → (Nat → Int64) → (Nat → Int32) → (Nat → Int64) → (Nat → Int64) → (Nat → Int64) → (Nat → Int64) → (Nat → Int64) → (Nat → Int64) → Prop} {d o e : Nat} (hd : d ≤ 3) (ho : o < d) (he : e < d)
    (H : J (nI (e + 1)) a1 a2 a3 a4 a5 a6 a7 a8 a9 (tm_cf o e d a10) a11 a12 a13) : ∃ n, wX_closeOver_12 post J (nI o) (nI e) h ax el kn (nI d) dp n 0 a1 a2 a3 a4 a5 a6 a7 a8 a9 a10 a11 a12 a13 :=
  pk_loop (fun n i s => wX_closeOver_12 post J (nI o) (nI e) h ax el kn (nI d) dp n (nI i) a1 a2 a3 a4 a5 a6 a7 a8 a9 s a11 a12 a13) (fun i s => s = tm_cf o e i a10) d 0 a10 (by omega) rfl
    (fun n s hs => pk_le d d (fun _ => nm_r (nI_1 e) (by rw [hs]; exact H)) (fun z => absurd z (by omega)))
    (fun n i s hi hs hw => pk_le d i (fun z => absurd z (by omega)) (fun _ => ⟨pk_in (3 * e + i) 9 (by omega) (tm_ix 3 e i), pk_in (3 * e + o) 9 (by omega) (tm_ix 3 e o), pk_in (3 * o + i) 9 (by omega) (tm_ix 3 o i), pk_in (3 * e + i) 9 (by omega) (tm_ix 3 e i), by
      rw [tm_cl3 (e := e) (f := i) (by omega), tm_cl3 (e := e) (f := o) (by omega), tm_cl3 (e := o) (f := i) (by omega)]
      exact nm_e (nm_r (nI_1 i) (hw _ (by rw [hs]; rfl)))⟩))
theorem tm_close2 {post : St2 → Prop} {d o : Nat} (hd : d ≤ 3) (ho : o < d)
    (H : post (h, ax, el, kn, nI d, dp, a1, a2, a3, a4, a5, a6, a7, a8, a9, tm_ce d o d a10, a11, a12, a13)) : ∃ n, wX_closeOver_2 post (nI o) h ax el kn (nI d) dp n 0 a1 a2 a3 a4 a5 a6 a7 a8 a9 a10 a11 a12 a13 :=
  pk_loop (fun n i s => wX_closeOver_2 post (nI o) h ax el kn (nI d) dp n (nI i) a1 a2 a3 a4 a5 a6 a7 a8 a9 s a11 a12 a13) (fun i s => s = tm_ce d o i a10) d 0 a10 (by omega) rfl
    (fun n s hs => pk_le d d (fun _ => by rw [hs]; exact H) (fun z => absurd z (by omega)))
    (fun n i s hi hs hw => pk_le d i (fun z => absurd z (by omega)) (fun _ => tm_close12 hd ho hi (hw (tm_cf o i d s) (by rw [hs]; rfl))))
theorem tm_closeOver {post : St2 → Prop} {d o : Nat} (hd : d ≤ 3) (ho : o < d)
    (H : post (h, ax, el, kn, nI d, dp, a1, a2, a3, a4, a5, a6, a7, a8, a9, tm_ce d o d a10, a11, a12, a13)) : wpX_closeOver post (h, ax, el, kn, nI d, dp, a1, a2, a3, a4, a5, a6, a7, a8, a9, a10, a11, a12, a13) (nI o) := tm_close2 hd ho H
theorem tm_lay103 {post : St2 → Prop} {d : Nat} (hd : d ≤ 3)
    (H : post (h, ax, el, kn, nI d, dp, a1, a2, a3, a4, a5, a6, a7, a8, a9, tm_co d d a10, a11, a12, a13)) : ∃ n, wX_layPart_103 post (nI d) n 0 h ax el kn (nI d) dp a1 a2 a3 a4 a5 a6 a7 a8 a9 a10 a11 a12 a13 :=
  pk_loop (fun n i s => wX_layPart_103 post (nI d) n (nI i) h ax el kn (nI d) dp a1 a2 a3 a4 a5 a6 a7 a8 a9 s a11 a12 a13) (fun i s => s = tm_co d i a10) d 0 a10 (by omega) rfl
    (fun n s hs => pk_le d d (fun _ => by rw [hs]; exact H) (fun z => absurd z (by omega)))
    (fun n i s hi hs hw => pk_le d i (fun z => absurd z (by omega)) (fun _ => tm_closeOver hd hi (nm_r (nI_1 i) (hw (tm_ce d i d s) (by rw [hs]; rfl)))))
theorem tm_dig {d e f : Nat} (hd : d ≤ 3) (he : e < d) (hf : f < d) : d + d * e + f < 12 := by
  have t : d * e ≤ 3 * 2 := Nat.mul_le_mul hd (by omega)
  omega
theorem tm_digI (d e f : Nat) : (nI d + nI d * nI e) + nI f = nI (d + d * e + f) := by rw [pk_mul, nI_add, nI_add]
theorem tm_fillL {f s : Nat → Int64} {i k : Nat} {x : Int64} (h : ∀ j, j < i → s (k + j) = f (k + j)) (hx : x = f (k + i)) : ∀ j, j < i + 1 → vp_updL s (k + i) x (k + j) = f (k + j) := by
  intro j hj
  by_cases e : j = i
  · rw [e, pk_uLs, hx]
  · rw [pk_uLn (by omega)]
    exact h j (by omega)
theorem tm_keepL {f s : Nat → Int64} {i k m : Nat} {x : Int64} (h : ∀ j, j < m → s j = f j) (hm : m ≤ k) : ∀ j, j < m → vp_updL s (k + i) x j = f j := by
  intro j hj
  rw [pk_uLn (by omega)]
  exact h j hj
theorem tm_g9e {d p e f : Nat} (hf : f < 3) : tm_g9 d p (3 * e + f) = tm_wd (d + d * e + f) p := by
  unfold tm_g9
  rw [show (3 * e + f) / 3 = e by omega, show (3 * e + f) % 3 = f by omega]
theorem tm_g0e {d p e f : Nat} (hf : f < 3) (hn : e ≠ f) : tm_g0 d p (3 * e + f) = tm_wd (d + d * e + f) p := by
  unfold tm_g0
  rw [if_neg (by omega), tm_g9e hf]
theorem tm_g0d {d p e f : Nat} (hf : f < 3) (hn : e = f) : tm_g0 d p (3 * e + f) = -1 := by
  unfold tm_g0
  rw [if_pos (by omega)]
theorem tm_lay26 {post : St2 → Prop} {J : Int32 → (Nat → Int32) → (Nat → Int32) → (Nat → Int32) → (Nat → Int32) → (Nat → Int32) → (Nat → Int64) → (Nat → Int32) → (Nat → Int64) → (Nat → Int64) → (Nat → Int64) → (Nat → Int64) → (Nat → Int64) → (Nat → Int64) → Prop} {d p e : Nat} (hd : d ≤ 3) (he : e < d) (hp : p < 64)
    (H : ∀ b9 b10, (∀ f, f < d → b9 (3 * e + f) = tm_g9 d p (3 * e + f)) → (∀ f, f < d → b10 (3 * e + f) = tm_g0 d p (3 * e + f)) → (∀ j, j < 3 * e → b9 j = a9 j) → (∀ j, j < 3 * e → b10 j = a10 j) → J (nI (e + 1)) a1 a2 a3 a4 a5 a6 a7 a8 b9 b10 a11 a12 a13) :
    ∃ n, wX_layPart_26 post J (nI d) (nI p) (nI e) h ax el kn sz dp n 0 a1 a2 a3 a4 a5 a6 a7 a8 a9 a10 a11 a12 a13 := by
  refine pk_loop (σ := (Nat → Int64) × (Nat → Int64)) (fun n i s => wX_layPart_26 post J (nI d) (nI p) (nI e) h ax el kn sz dp n (nI i) a1 a2 a3 a4 a5 a6 a7 a8 (s.1) (s.2) a11 a12 a13)
    (fun i s => (∀ f, f < i → s.1 (3 * e + f) = tm_g9 d p (3 * e + f)) ∧ (∀ f, f < i → s.2 (3 * e + f) = tm_g0 d p (3 * e + f)) ∧ (∀ j, j < 3 * e → s.1 j = a9 j) ∧ (∀ j, j < 3 * e → s.2 j = a10 j)) d 0 (a9, a10) (by omega) ⟨fun f hf => absurd hf (by omega), fun f hf => absurd hf (by omega), fun _ _ => rfl, fun _ _ => rfl⟩ ?_ ?_
  · exact fun n s hs => pk_le d d (fun _ => nm_r (nI_1 e) (H s.1 s.2 hs.1 hs.2.1 hs.2.2.1 hs.2.2.2)) (fun z => absurd z (by omega))
  · intro n i s hi hs hw
    have hin : vp_in ((3 : Int32) * nI e + nI i) 9 := pk_in (3 * e + i) 9 (by omega) (tm_ix 3 e i)
    have hcl : ((3 : Int32) * nI e + nI i).toNatClampNeg = 3 * e + i := pk_cl (3 * e + i) (tm_ix 3 e i)
    obtain ⟨h1, h2, h3, h4⟩ := hs
    refine pk_le d i (fun z => absurd z (by omega)) (fun _ => tm_withDigit (d + d * e + i) p (tm_digI d e i) rfl (tm_dig hd he hi) hp ⟨hin, ?_⟩)
    refine nm_r (by rw [hcl]) (pk_eq e i (fun z => ⟨hin, nm_r (by rw [hcl]) (nm_r (nI_1 i) ?_)⟩) (fun z => ⟨hin, hin, nm_r (by rw [hcl, pk_uLs]) (nm_r (nI_1 i) ?_)⟩))
    · exact hw (_, _) ⟨tm_fillL h1 (tm_g9e (by omega)).symm, tm_fillL h2 (tm_g0d (by omega) z).symm, tm_keepL h3 (by omega), tm_keepL h4 (by omega)⟩
    · exact hw (_, _) ⟨tm_fillL h1 (tm_g9e (by omega)).symm, tm_fillL h2 (tm_g0e (by omega) z).symm, tm_keepL h3 (by omega), tm_keepL h4 (by omega)⟩
def tm_LP (d p : Nat) (b8 b9 b10 : Nat → Int64) : Prop := (∀ e, e < d → b8 e = tm_wd e p) ∧ (∀ e f, e < d → f < d → b9 (3 * e + f) = tm_g9 d p (3 * e + f)) ∧ (∀ e f, e < d → f < d → b10 (3 * e + f) = tm_rr d p (3 * e + f))
theorem tm_rowL {f s s' : Nat → Int64} {d e : Nat} (hd : d ≤ 3) (h : ∀ e' g, e' < e → g < d → s (3 * e' + g) = f (3 * e' + g)) (hk : ∀ j, j < 3 * e → s' j = s j) (hn : ∀ g, g < d → s' (3 * e + g) = f (3 * e + g)) : ∀ e' g, e' < e + 1 → g < d → s' (3 * e' + g) = f (3 * e' + g) := by
  intro e' g he hg
  by_cases q : e' = e
  · rw [q]
    exact hn g hg
  · rw [hk _ (by omega)]
    exact h e' g (by omega) hg
theorem tm_layPart {post : St2 → Prop} {x y : Int32} (d p : Nat) (hx : x = nI d) (hy : y = nI p) (hd : d ≤ 3) (hp : p < 64)
    (H : ∀ b8 b9 b10, tm_LP d p b8 b9 b10 → post (h, ax, el, kn, nI d, dp, a1, a2, a3, a4, a5, a6, a7, b8, b9, b10, a11, a12, a13)) : wpX_layPart post (h, ax, el, kn, sz, dp, a1, a2, a3, a4, a5, a6, a7, a8, a9, a10, a11, a12, a13) x y := by
  subst hx hy
  refine pk_loop (σ := (Nat → Int64) × (Nat → Int64) × (Nat → Int64)) (fun n i s => wX_layPart_7 post (nI d) (nI p) h ax el kn (nI d) dp n (nI i) a1 a2 a3 a4 a5 a6 a7 (s.1) (s.2.1) (s.2.2) a11 a12 a13)
    (fun i s => (∀ e, e < i → s.1 e = tm_wd e p) ∧ (∀ e f, e < i → f < d → s.2.1 (3 * e + f) = tm_g9 d p (3 * e + f)) ∧ (∀ e f, e < i → f < d → s.2.2 (3 * e + f) = tm_g0 d p (3 * e + f))) d 0 (a8, a9, a10) (by omega) ⟨fun f hf => absurd hf (by omega), fun f _ hf => absurd hf (by omega), fun f _ hf => absurd hf (by omega)⟩ ?_ ?_
  · intro n s hs
    exact pk_le d d (fun _ => tm_lay103 hd (H s.1 s.2.1 _ ⟨hs.1, hs.2.1, tm_co_ag hs.2.2 d (by omega)⟩)) (fun z => absurd z (by omega))
  · intro n i s hi hs hw
    have hin : vp_in (nI i) 3 := pk_in i 3 (by omega)
    have hcl : (nI i).toNatClampNeg = i := nI_clamp (by omega)
    obtain ⟨h1, h2, h3⟩ := hs
    refine pk_le d i (fun z => absurd z (by omega)) (fun _ => tm_withDigit i p rfl rfl (by omega) hp ⟨hin, ?_⟩)
    refine nm_r (by rw [hcl]) (tm_lay26 hd hi hp (fun b9 b10 k1 k2 k3 k4 => ?_))
    refine hw (_, b9, b10) ⟨?_, tm_rowL hd h2 k3 k1, tm_rowL hd h3 k4 k2⟩
    intro j hj
    show vp_updL s.1 i (tm_wd i p) j = tm_wd j p
    by_cases q : j = i
    · rw [q, pk_uLs]
    · rw [pk_uLn q]
      exact h1 j (by omega)
end
end
section
section
variable {h ax el kn sz dp : Int32} {a1 a2 a3 a4 a5 : Nat → Int32} {a6 : Nat → Int64} {a7 : Nat → Int32} {a8 a9 a10 a11 a12 a13 : Nat → Int64}
def tm_GK (k : Nat) (g a9 a10 : Nat → Int64) : Prop := (k = 1 ∧ g = a9) ∨ (k = 3 ∧ g = a10)
theorem tm_atom {post : Int64 → Prop} {g : Nat → Int64} {k e f : Nat} (hk : tm_GK k g a9 a10) (he : e < 3) (hf : f < 3) (H : post (g (3 * e + f))) : wpX_atom post (h, ax, el, kn, sz, dp, a1, a2, a3, a4, a5, a6, a7, a8, a9, a10, a11, a12, a13) (nI k) (nI e) (nI f) := by
  have hin : vp_in ((3 : Int32) * nI e + nI f) 9 := pk_in (3 * e + f) 9 (by omega) (tm_ix 3 e f)
  have hcl : ((3 : Int32) * nI e + nI f).toNatClampNeg = 3 * e + f := pk_cl (3 * e + f) (tm_ix 3 e f)
  unfold wpX_atom
  dsimp only
  rw [hcl]
  rcases hk with ⟨rfl, rfl⟩ | ⟨rfl, rfl⟩
  · exact br_f (by decide) (br_f (by decide) (br_f (by decide) (br_t (by decide) ⟨hin, H⟩)))
  · exact br_f (by decide) (br_t (by decide) ⟨hin, H⟩)
/-- the table of an atom -/
def tm_tP (g : Nat → Int64) (a l : Nat) : Int64 := g (3 * tm_el l (a / 3) + tm_el l (a % 3))
theorem tm_lay11_q {post : St2 → Prop} {g : Nat → Int64} {d D k a : Nat} (hd : d ≤ 3) (hD : D < 14) (hk : tm_GK k g a9 a10) (ha : a < 9)
    (H : ∀ b, (∀ l, l < 27 → tm_vl d l = true → b (27 * D + l) = tm_tP g a l) → (∀ j, j < 27 * D → b j = a11 j) → post (h, ax, el, kn, nI d, dp, a1, a2, a3, a4, a5, a6, a7, a8, a9, a10, b, a12, a13)) :
    ∃ n, wX_layAtom_11 post (nI k) (nI a) (nI (27 * D)) h ax el kn (nI d) dp n 0 a1 a2 a3 a4 a5 a6 a7 a8 a9 a10 a11 a12 a13 := by
  refine pk_loop (fun n i s => wX_layAtom_11 post (nI k) (nI a) (nI (27 * D)) h ax el kn (nI d) dp n (nI i) a1 a2 a3 a4 a5 a6 a7 a8 a9 a10 s a12 a13)
    (fun i s => (∀ l, l < i → tm_vl d l = true → s (27 * D + l) = tm_tP g a l) ∧ (∀ j, j < 27 * D → s j = a11 j)) 27 0 a11 (by omega) ⟨fun l hl => absurd hl (by omega), fun _ _ => rfl⟩ ?_ ?_
  · exact fun n s hs => pk_le 27 27 (fun _ => H s hs.1 hs.2) (fun z => absurd z (by omega))
  · intro n i s hi hs hw
    have hk0 : ¬ nI k = 0 := by
      rcases hk with ⟨rfl, _⟩ | ⟨rfl, _⟩
      · decide
      · decide
    have hin : vp_in (nI (27 * D) + nI i) 378 := pk_in (27 * D + i) 378 (by omega) (nI_add _ _)
    have hcl : (nI (27 * D) + nI i).toNatClampNeg = 27 * D + i := pk_cl (27 * D + i) (nI_add _ _)
    have ed : nI a / 3 = nI (a / 3) := pk_div (d := 3) (by omega) (by omega) (by omega)
    have er : nI a - nI a / 3 * 3 = nI (a % 3) := pk_rem (d := 3) (by omega) (by omega) (by omega)
    obtain ⟨h1, h2⟩ := hs
    refine pk_le 27 i (fun z => absurd z (by omega)) (fun _ => tm_isList d i rfl rfl hd hi (fun hv => br_f (by decide) (br_f hk0 ⟨by decide, ?_⟩)) (fun hv => br_t rfl (nm_r (nI_1 i) (hw s ⟨?_, h2⟩))))
    · refine tm_elementIn i (a / 3) rfl ed hi (by omega) (br_f hk0 ⟨by decide, ?_⟩)
      refine tm_elementIn i (a % 3) rfl er hi (by omega) ?_
      refine tm_atom hk (tm_el_lt i hi _ (by omega)) (tm_el_lt i hi _ (by omega)) ⟨hin, nm_r (by rw [hcl]) (nm_r (nI_1 i) (hw _ ⟨?_, tm_keepL h2 (by omega)⟩))⟩
      intro l hl hv'
      by_cases q : l = i
      · rw [q, pk_uLs]
        rfl
      · rw [pk_uLn (by omega)]
        exact h1 l (by omega) hv'
    · intro l hl hv'
      by_cases q : l = i
      · rw [q, hv] at hv'
        exact absurd hv' (by decide)
      · exact h1 l (by omega) hv'
theorem tm_layAtom_q {post : St2 → Prop} {g : Nat → Int64} {d D k a : Nat} (hd : d ≤ 3) (hD : D < 14) (hk : tm_GK k g a9 a10) (ha : a < 9)
    (H : ∀ b, (∀ l, l < 27 → tm_vl d l = true → b (27 * D + l) = tm_tP g a l) → (∀ j, j < 27 * D → b j = a11 j) → post (h, ax, el, kn, nI d, nI D, a1, a2, a3, a4, a5, a6, a7, a8, a9, a10, b, a12, a13)) :
    wpX_layAtom post (h, ax, el, kn, nI d, nI D, a1, a2, a3, a4, a5, a6, a7, a8, a9, a10, a11, a12, a13) (nI k) (nI a) :=
  nm_r (show (27 : Int32) * nI D = nI (27 * D) from pk_mul 27 D) (tm_lay11_q hd hD hk ha H)
/-- IMPLIES over the two lowest tables -/
theorem tm_join_q {post : St2 → Prop} (hdp : dp = 1)
    (H : ∀ b, (∀ l, l < 27 → b l = ((a11 l ^^^ (-1)) ||| a11 (27 + l))) → post (h, ax, el, kn, sz, 1, a1, a2, a3, a4, a5, a6, a7, a8, a9, a10, b, a12, a13)) : wpX_join post (h, ax, el, kn, sz, dp, a1, a2, a3, a4, a5, a6, a7, a8, a9, a10, a11, a12, a13) 7 := by
  subst hdp
  refine nm_r (show (27 : Int32) * (1 - 1) = nI 0 from rfl) ?_
  refine pk_loop (fun n i s => wX_join_12 post 7 (nI 0) h ax el kn sz 1 n (nI i) a1 a2 a3 a4 a5 a6 a7 a8 a9 a10 s a12 a13)
    (fun i s => (∀ l, l < i → s l = ((a11 l ^^^ (-1)) ||| a11 (27 + l))) ∧ (∀ j, i ≤ j → s j = a11 j)) 27 0 a11 (by omega) ⟨fun l hl => absurd hl (by omega), fun _ _ => rfl⟩ ?_ ?_
  · exact fun n s hs => pk_le 27 27 (fun _ => H s hs.1) (fun z => absurd z (by omega))
  · intro n i s hi hs hw
    have e1 : nI 0 + nI i = nI i := by rw [nI_add, Nat.zero_add]
    have e2 : nI 0 + 27 + nI i = nI (27 + i) := by
      show nI 0 + nI 27 + nI i = nI (27 + i)
      rw [nI_add, nI_add, Nat.zero_add]
    have hin : vp_in (nI 0 + nI i) 378 := pk_in i 378 (by omega) e1
    have hcl : (nI 0 + nI i).toNatClampNeg = i := pk_cl i e1
    have hin2 : vp_in (nI 0 + 27 + nI i) 378 := pk_in (27 + i) 378 (by omega) e2
    have hcl2 : (nI 0 + 27 + nI i).toNatClampNeg = 27 + i := pk_cl (27 + i) e2
    obtain ⟨h1, h2⟩ := hs
    refine pk_le 27 i (fun z => absurd z (by omega)) (fun _ => ⟨hin, nm_r (by rw [hcl]) ⟨hin2, nm_r (by rw [hcl2]) ?_⟩⟩)
    refine br_f (by decide) (br_f (by decide) (br_f (by decide) (br_f (by decide) (br_t (by decide) ⟨hin, nm_r (by rw [hcl]) (nm_r (nI_1 i) (hw _ ⟨?_, ?_⟩))⟩))))
    · intro l hl
      by_cases q : l = i
      · rw [q, pk_uLs, h2 i (by omega), h2 (27 + i) (by omega)]
      · rw [pk_uLn q]
        exact h1 l (by omega)
    · intro j hj
      rw [pk_uLn (by omega)]
      exact h2 j (by omega)
theorem tm_negate_q {post : St2 → Prop} (hdp : dp = 1)
    (H : ∀ b, (∀ l, l < 27 → b l = a11 l ^^^ (-1)) → post (h, ax, el, kn, sz, 1, a1, a2, a3, a4, a5, a6, a7, a8, a9, a10, b, a12, a13)) : wpX_negate post (h, ax, el, kn, sz, dp, a1, a2, a3, a4, a5, a6, a7, a8, a9, a10, a11, a12, a13) := by
  subst hdp
  refine nm_r (show (27 : Int32) * (1 - 1) = nI 0 from rfl) ?_
  refine pk_loop (fun n i s => wX_negate_12 post (nI 0) h ax el kn sz 1 n (nI i) a1 a2 a3 a4 a5 a6 a7 a8 a9 a10 s a12 a13)
    (fun i s => (∀ l, l < i → s l = a11 l ^^^ (-1)) ∧ (∀ j, i ≤ j → s j = a11 j)) 27 0 a11 (by omega) ⟨fun l hl => absurd hl (by omega), fun _ _ => rfl⟩ ?_ ?_
  · exact fun n s hs => pk_le 27 27 (fun _ => H s hs.1) (fun z => absurd z (by omega))
  · intro n i s hi hs hw
    have e1 : nI 0 + nI i = nI i := by rw [nI_add, Nat.zero_add]
    have hin : vp_in (nI 0 + nI i) 378 := pk_in i 378 (by omega) e1
    have hcl : (nI 0 + nI i).toNatClampNeg = i := pk_cl i e1
    obtain ⟨h1, h2⟩ := hs
    refine pk_le 27 i (fun z => absurd z (by omega)) (fun _ => ⟨hin, hin, nm_r (by rw [hcl]) (nm_r (nI_1 i) (hw _ ⟨?_, ?_⟩))⟩)
    · intro l hl
      by_cases q : l = i
      · rw [q, pk_uLs, h2 i (by omega)]
      · rw [pk_uLn q]
        exact h1 l (by omega)
    · intro j hj
      rw [pk_uLn (by omega)]
      exact h2 j (by omega)
theorem tm_lay11_q2 {post : St2 → Prop} {g : Nat → Int64} {d D k a : Nat} (hd : d ≤ 3) (hD : D < 14) (hk : tm_GK k g a9 a10) (ha : a < 9)
    (H : ∀ b, (∀ l, l < 27 → tm_vl d l = true → b (27 * D + l) = tm_tP g a l) → (∀ j, j < 27 * D → b j = a11 j) → post (h, ax, el, kn, nI d, dp, a1, a2, a3, a4, a5, a6, a7, a8, a9, a10, b, a12, a13)) :
    ∃ n, wX_layAtom_2_11 post (nI k) (nI a) (nI (27 * D)) h ax el kn (nI d) dp n 0 a1 a2 a3 a4 a5 a6 a7 a8 a9 a10 a11 a12 a13 := by
  refine pk_loop (fun n i s => wX_layAtom_2_11 post (nI k) (nI a) (nI (27 * D)) h ax el kn (nI d) dp n (nI i) a1 a2 a3 a4 a5 a6 a7 a8 a9 a10 s a12 a13)
    (fun i s => (∀ l, l < i → tm_vl d l = true → s (27 * D + l) = tm_tP g a l) ∧ (∀ j, j < 27 * D → s j = a11 j)) 27 0 a11 (by omega) ⟨fun l hl => absurd hl (by omega), fun _ _ => rfl⟩ ?_ ?_
  · exact fun n s hs => pk_le 27 27 (fun _ => H s hs.1 hs.2) (fun z => absurd z (by omega))
  · intro n i s hi hs hw
    have hk0 : ¬ nI k = 0 := by
      rcases hk with ⟨rfl, _⟩ | ⟨rfl, _⟩
      · decide
      · decide
    have hin : vp_in (nI (27 * D) + nI i) 378 := pk_in (27 * D + i) 378 (by omega) (nI_add _ _)
    have hcl : (nI (27 * D) + nI i).toNatClampNeg = 27 * D + i := pk_cl (27 * D + i) (nI_add _ _)
    have ed : nI a / 3 = nI (a / 3) := pk_div (d := 3) (by omega) (by omega) (by omega)
    have er : nI a - nI a / 3 * 3 = nI (a % 3) := pk_rem (d := 3) (by omega) (by omega) (by omega)
    obtain ⟨h1, h2⟩ := hs
    refine pk_le 27 i (fun z => absurd z (by omega)) (fun _ => tm_isList d i rfl rfl hd hi (fun hv => br_f (by decide) (br_f hk0 ⟨by decide, ?_⟩)) (fun hv => br_t rfl (nm_r (nI_1 i) (hw s ⟨?_, h2⟩))))
    · refine tm_elementIn i (a / 3) rfl ed hi (by omega) (br_f hk0 ⟨by decide, ?_⟩)
      refine tm_elementIn i (a % 3) rfl er hi (by omega) ?_
      refine tm_atom hk (tm_el_lt i hi _ (by omega)) (tm_el_lt i hi _ (by omega)) ⟨hin, nm_r (by rw [hcl]) (nm_r (nI_1 i) (hw _ ⟨?_, tm_keepL h2 (by omega)⟩))⟩
      intro l hl hv'
      by_cases q : l = i
      · rw [q, pk_uLs]
        rfl
      · rw [pk_uLn (by omega)]
        exact h1 l (by omega) hv'
    · intro l hl hv'
      by_cases q : l = i
      · rw [q, hv] at hv'
        exact absurd hv' (by decide)
      · exact h1 l (by omega) hv'
theorem tm_layAtom_q2 {post : St2 → Prop} {g : Nat → Int64} {d D k a : Nat} (hd : d ≤ 3) (hD : D < 14) (hk : tm_GK k g a9 a10) (ha : a < 9)
    (H : ∀ b, (∀ l, l < 27 → tm_vl d l = true → b (27 * D + l) = tm_tP g a l) → (∀ j, j < 27 * D → b j = a11 j) → post (h, ax, el, kn, nI d, nI D, a1, a2, a3, a4, a5, a6, a7, a8, a9, a10, b, a12, a13)) :
    wpX_layAtom_2 post (h, ax, el, kn, nI d, nI D, a1, a2, a3, a4, a5, a6, a7, a8, a9, a10, a11, a12, a13) (nI k) (nI a) :=
  nm_r (show (27 : Int32) * nI D = nI (27 * D) from pk_mul 27 D) (tm_lay11_q2 hd hD hk ha H)
/-- IMPLIES over the two lowest tables -/
theorem tm_join_q2 {post : St2 → Prop} (hdp : dp = 1)
    (H : ∀ b, (∀ l, l < 27 → b l = ((a11 l ^^^ (-1)) ||| a11 (27 + l))) → post (h, ax, el, kn, sz, 1, a1, a2, a3, a4, a5, a6, a7, a8, a9, a10, b, a12, a13)) : wpX_join_2 post (h, ax, el, kn, sz, dp, a1, a2, a3, a4, a5, a6, a7, a8, a9, a10, a11, a12, a13) 7 := by
  subst hdp
  refine nm_r (show (27 : Int32) * (1 - 1) = nI 0 from rfl) ?_
  refine pk_loop (fun n i s => wX_join_2_12 post 7 (nI 0) h ax el kn sz 1 n (nI i) a1 a2 a3 a4 a5 a6 a7 a8 a9 a10 s a12 a13)
    (fun i s => (∀ l, l < i → s l = ((a11 l ^^^ (-1)) ||| a11 (27 + l))) ∧ (∀ j, i ≤ j → s j = a11 j)) 27 0 a11 (by omega) ⟨fun l hl => absurd hl (by omega), fun _ _ => rfl⟩ ?_ ?_
  · exact fun n s hs => pk_le 27 27 (fun _ => H s hs.1) (fun z => absurd z (by omega))
  · intro n i s hi hs hw
    have e1 : nI 0 + nI i = nI i := by rw [nI_add, Nat.zero_add]
    have e2 : nI 0 + 27 + nI i = nI (27 + i) := by
      show nI 0 + nI 27 + nI i = nI (27 + i)
      rw [nI_add, nI_add, Nat.zero_add]
    have hin : vp_in (nI 0 + nI i) 378 := pk_in i 378 (by omega) e1
    have hcl : (nI 0 + nI i).toNatClampNeg = i := pk_cl i e1
    have hin2 : vp_in (nI 0 + 27 + nI i) 378 := pk_in (27 + i) 378 (by omega) e2
    have hcl2 : (nI 0 + 27 + nI i).toNatClampNeg = 27 + i := pk_cl (27 + i) e2
    obtain ⟨h1, h2⟩ := hs
    refine pk_le 27 i (fun z => absurd z (by omega)) (fun _ => ⟨hin, nm_r (by rw [hcl]) ⟨hin2, nm_r (by rw [hcl2]) ?_⟩⟩)
    refine br_f (by decide) (br_f (by decide) (br_f (by decide) (br_f (by decide) (br_t (by decide) ⟨hin, nm_r (by rw [hcl]) (nm_r (nI_1 i) (hw _ ⟨?_, ?_⟩))⟩))))
    · intro l hl
      by_cases q : l = i
      · rw [q, pk_uLs, h2 i (by omega), h2 (27 + i) (by omega)]
      · rw [pk_uLn q]
        exact h1 l (by omega)
    · intro j hj
      rw [pk_uLn (by omega)]
      exact h2 j (by omega)
theorem tm_negate_q2 {post : St2 → Prop} (hdp : dp = 1)
    (H : ∀ b, (∀ l, l < 27 → b l = a11 l ^^^ (-1)) → post (h, ax, el, kn, sz, 1, a1, a2, a3, a4, a5, a6, a7, a8, a9, a10, b, a12, a13)) : wpX_negate_2 post (h, ax, el, kn, sz, dp, a1, a2, a3, a4, a5, a6, a7, a8, a9, a10, a11, a12, a13) := by
  subst hdp
  refine nm_r (show (27 : Int32) * (1 - 1) = nI 0 from rfl) ?_
  refine pk_loop (fun n i s => wX_negate_2_12 post (nI 0) h ax el kn sz 1 n (nI i) a1 a2 a3 a4 a5 a6 a7 a8 a9 a10 s a12 a13)
    (fun i s => (∀ l, l < i → s l = a11 l ^^^ (-1)) ∧ (∀ j, i ≤ j → s j = a11 j)) 27 0 a11 (by omega) ⟨fun l hl => absurd hl (by omega), fun _ _ => rfl⟩ ?_ ?_
  · exact fun n s hs => pk_le 27 27 (fun _ => H s hs.1) (fun z => absurd z (by omega))
  · intro n i s hi hs hw
    have e1 : nI 0 + nI i = nI i := by rw [nI_add, Nat.zero_add]
    have hin : vp_in (nI 0 + nI i) 378 := pk_in i 378 (by omega) e1
    have hcl : (nI 0 + nI i).toNatClampNeg = i := pk_cl i e1
    obtain ⟨h1, h2⟩ := hs
    refine pk_le 27 i (fun z => absurd z (by omega)) (fun _ => ⟨hin, hin, nm_r (by rw [hcl]) (nm_r (nI_1 i) (hw _ ⟨?_, ?_⟩))⟩)
    · intro l hl
      by_cases q : l = i
      · rw [q, pk_uLs, h2 i (by omega)]
      · rw [pk_uLn q]
        exact h1 l (by omega)
    · intro j hj
      rw [pk_uLn (by omega)]
      exact h2 j (by omega)
/-- ALL (k = 9) and SOME (k = 10) over three words -/
def tm_qw (k d : Nat) (f s t : Int64) : Int64 := if k = 10 then (f ||| s) ||| t else if d ≤ 1 then (if d ≤ 2 then f else f &&& t) else (if d ≤ 2 then f &&& s else (f &&& s) &&& t)
theorem tm_quantified {post : Int64 → Prop} {k d : Nat} {x : Int32} {f s t : Int64} (hk : k = 9 ∨ k = 10) (hd : d ≤ 3) (H : post (tm_qw k d f s t)) : wpX_quantified post (h, ax, el, kn, nI d, dp, a1, a2, a3, a4, a5, a6, a7, a8, a9, a10, a11, a12, a13) (nI k) x f s t := by
  rcases hk with rfl | rfl
  · refine br_f (by decide) (br_t (by decide) (pk_le d 1 (fun z => ?_) (fun z => ?_)))
    · refine pk_le d 2 (fun z2 => ?_) (fun z2 => ?_)
      · have e : tm_qw 9 d f s t = f := by simp [tm_qw, z, z2]
        rw [e] at H
        exact H
      · exact absurd z2 (by omega)
    · refine pk_le d 2 (fun z2 => ?_) (fun z2 => ?_)
      · have e : tm_qw 9 d f s t = f &&& s := by simp [tm_qw, Nat.not_le.mpr z, z2]
        rw [e] at H
        exact H
      · have e : tm_qw 9 d f s t = (f &&& s) &&& t := by simp [tm_qw, Nat.not_le.mpr z, Nat.not_le.mpr z2]
        rw [e] at H
        exact H
  · exact br_t (by decide) H
/-- the first list of a row of three -/
def tm_z (l v : Nat) : Nat := l - tm_pl v * tm_el l v
theorem tm_z_ok : ∀ l, l < 27 → ∀ v, v < 3 → tm_pl v * tm_el l v ≤ l ∧ tm_z l v + 2 * tm_pl v < 27 ∧ tm_pl v ≤ 9 := by decide +kernel
def tm_tq (k d v : Nat) (t : Nat → Int64) (l : Nat) : Int64 := tm_qw k d (t (tm_z l v)) (if d ≤ 1 then 0 else t (tm_z l v + tm_pl v)) (if d ≤ 2 then 0 else t (tm_z l v + 2 * tm_pl v))
def tm_VA (d : Nat) (t t' : Nat → Int64) : Prop := ∀ l, l < 27 → tm_vl d l = true → t l = t' l
theorem tm_tq_inB : ∀ d, d < 4 → ∀ v, v < 3 → ∀ l, l < 27 → (!tm_vl d l || (tm_vl d (tm_z l v) && (decide (d ≤ 1) || tm_vl d (tm_z l v + tm_pl v)) && (decide (d ≤ 2) || tm_vl d (tm_z l v + 2 * tm_pl v)))) = true := by decide +kernel
theorem tm_tq_in (d : Nat) (hd : d < 4) (v : Nat) (hv : v < 3) (l : Nat) (hl : l < 27) (h : tm_vl d l = true) : tm_vl d (tm_z l v) = true ∧ (1 < d → tm_vl d (tm_z l v + tm_pl v) = true) ∧ (2 < d → tm_vl d (tm_z l v + 2 * tm_pl v) = true) := by
  have t := tm_tq_inB d hd v hv l hl
  rw [h] at t
  simp only [Bool.not_true, Bool.false_or, Bool.and_eq_true, Bool.or_eq_true, decide_eq_true_eq] at t
  exact ⟨t.1.1, fun z => t.1.2.resolve_left (by omega), fun z => t.2.resolve_left (by omega)⟩
theorem tm_tq_VA {k d v : Nat} {t t' : Nat → Int64} (hd : d ≤ 3) (hv : v < 3) (A : tm_VA d t t') : tm_VA d (tm_tq k d v t) (tm_tq k d v t') := by
  intro l hl hv'
  have z := tm_z_ok l hl v hv
  have w := tm_tq_in d (by omega) v hv l hl hv'
  unfold tm_tq
  rw [A (tm_z l v) (by omega) w.1]
  by_cases q1 : d ≤ 1
  · rw [if_pos q1, if_pos q1, if_pos (by omega), if_pos (by omega)]
  · rw [if_neg q1, if_neg q1, A (tm_z l v + tm_pl v) (by omega) (w.2.1 (by omega))]
    by_cases q2 : d ≤ 2
    · rw [if_pos q2, if_pos q2]
    · rw [if_neg q2, if_neg q2, A (tm_z l v + 2 * tm_pl v) (by omega) (w.2.2 (by omega))]
theorem tm_q162_q {post : St2 → Prop} (H : ∀ b, (∀ l, l < 27 → b l = a12 l) → post (h, ax, el, kn, sz, dp, a1, a2, a3, a4, a5, a6, a7, a8, a9, a10, b, a12, a13)) : ∃ n, wX_quantify_162 post (nI 0) h ax el kn sz dp n 0 a1 a2 a3 a4 a5 a6 a7 a8 a9 a10 a11 a12 a13 := by
  refine pk_loop (fun n i s => wX_quantify_162 post (nI 0) h ax el kn sz dp n (nI i) a1 a2 a3 a4 a5 a6 a7 a8 a9 a10 s a12 a13)
    (fun i s => ∀ l, l < i → s l = a12 l) 27 0 a11 (by omega) (fun l hl => absurd hl (by omega)) ?_ ?_
  · exact fun n s hs => pk_le 27 27 (fun _ => H s hs) (fun z => absurd z (by omega))
  · intro n i s hi hs hw
    have e1 : nI 0 + nI i = nI i := by rw [nI_add, Nat.zero_add]
    have hin : vp_in (nI 0 + nI i) 378 := pk_in i 378 (by omega) e1
    have hcl : (nI 0 + nI i).toNatClampNeg = i := pk_cl i e1
    have hc : (nI i).toNatClampNeg = i := nI_clamp (by omega)
    refine pk_le 27 i (fun z => absurd z (by omega)) (fun _ => ⟨pk_in i 27 hi, hin, nm_r (by rw [hcl, hc]) (nm_r (nI_1 i) (hw _ ?_))⟩)
    intro l hl
    by_cases q : l = i
    · rw [q, pk_uLs]
    · rw [pk_uLn q]
      exact hs l (by omega)
theorem tm_q130_q {post : St2 → Prop} {J : Int32 → (Nat → Int32) → (Nat → Int32) → (Nat → Int32) → (Nat → Int32) → (Nat → Int32) → (Nat → Int64) → (Nat → Int32) → (Nat → Int64) → (Nat → Int64) → (Nat → Int64) → (Nat → Int64) → (Nat → Int64) → (Nat → Int64) → Prop} {k d i : Nat} {x2 x3 x4 x5 : Int32} {f s t : Int64} (hk : k = 9 ∨ k = 10) (hd : d ≤ 3) (hi : i < 27)
    (H : J (nI (i + 1)) a1 a2 a3 a4 a5 a6 a7 a8 a9 a10 a11 (vp_updL a12 i (tm_qw k d f s t)) a13) : wX_quantify_130 post J (nI k) x2 x3 x4 x5 (nI i) f s t h ax el kn (nI d) dp a1 a2 a3 a4 a5 a6 a7 a8 a9 a10 a11 a12 a13 := by
  have hc : (nI i).toNatClampNeg = i := nI_clamp (by omega)
  refine ⟨by decide, tm_quantified hk hd ⟨pk_in i 27 hi, nm_r (by rw [hc]) (nm_r (nI_1 i) H)⟩⟩
theorem tm_q34_q {post : St2 → Prop} {k d v a : Nat} (hk : k = 9 ∨ k = 10) (hd : d ≤ 3) (hv : v < 3)
    (H : ∀ b c, tm_VA d b (tm_tq k d v a11) → post (h, ax, el, kn, nI d, dp, a1, a2, a3, a4, a5, a6, a7, a8, a9, a10, b, c, a13)) : ∃ n, wX_quantify_34 post (nI k) (nI a) (nI v) (nI 0) (nI (tm_pl v)) h ax el kn (nI d) dp n 0 a1 a2 a3 a4 a5 a6 a7 a8 a9 a10 a11 a12 a13 := by
  refine pk_loop (fun n i s => wX_quantify_34 post (nI k) (nI a) (nI v) (nI 0) (nI (tm_pl v)) h ax el kn (nI d) dp n (nI i) a1 a2 a3 a4 a5 a6 a7 a8 a9 a10 a11 s a13)
    (fun i s => ∀ l, l < i → tm_vl d l = true → s l = tm_tq k d v a11 l) 27 0 a12 (by omega) (fun l hl => absurd hl (by omega)) ?_ ?_
  · exact fun n s hs => pk_le 27 27 (fun _ => tm_q162_q (fun b hb => H b s (fun l hl hv' => by rw [hb l hl]; exact hs l hl hv'))) (fun z => absurd z (by omega))
  · intro n i s hi hs hw
    have zk := tm_z_ok i hi v hv
    have e0 : nI i - nI (tm_pl v) * nI (tm_el i v) = nI (tm_z i v) := by
      rw [pk_mul, pk_sub zk.1]
      rfl
    have e1 : nI 0 + nI (tm_z i v) = nI (tm_z i v) := by rw [nI_add, Nat.zero_add]
    have e2 : nI 0 + nI (tm_z i v) + nI (tm_pl v) = nI (tm_z i v + tm_pl v) := by rw [nI_add, nI_add, Nat.zero_add]
    have e3 : nI 0 + nI (tm_z i v) + 2 * nI (tm_pl v) = nI (tm_z i v + 2 * tm_pl v) := by
      rw [show (2 : Int32) * nI (tm_pl v) = nI (2 * tm_pl v) from pk_mul 2 _, nI_add, nI_add, Nat.zero_add]
    have step : ∀ l, l < i + 1 → tm_vl d l = true → vp_updL s i (tm_tq k d v a11 i) l = tm_tq k d v a11 l := by
      intro l hl hv'
      by_cases q : l = i
      · rw [q, pk_uLs]
      · rw [pk_uLn q]
        exact hs l (by omega) hv'
    refine pk_le 27 i (fun z => absurd z (by omega)) (fun _ => tm_isList d i rfl rfl hd hi (fun hv' => br_f (by decide) ?_) (fun hv' => br_t rfl (nm_r (nI_1 i) (hw s ?_))))
    · refine tm_elementIn i v rfl rfl hi hv (nm_r e0 ⟨pk_in (tm_z i v) 378 (by omega) e1, nm_r (by rw [pk_cl (tm_z i v) e1]) ?_⟩)
      have hw' := hw _ step
      unfold tm_tq at hw'
      refine pk_le d 1 (fun z => ?_) (fun z => ⟨pk_in (tm_z i v + tm_pl v) 378 (by omega) e2, ?_⟩)
      · rw [if_pos z, if_pos (by omega)] at hw'
        exact pk_le d 2 (fun z2 => tm_q130_q hk hd hi hw') (fun z2 => absurd z2 (by omega))
      · rw [if_neg (by omega)] at hw'
        rw [pk_cl (tm_z i v + tm_pl v) e2]
        refine pk_le d 2 (fun z2 => ?_) (fun z2 => ⟨pk_in (tm_z i v + 2 * tm_pl v) 378 (by omega) e3, ?_⟩)
        · rw [if_pos z2] at hw'
          exact tm_q130_q hk hd hi hw'
        · rw [if_neg (by omega)] at hw'
          rw [pk_cl (tm_z i v + 2 * tm_pl v) e3]
          exact tm_q130_q hk hd hi hw'
    · intro l hl hv''
      by_cases q : l = i
      · rw [q, hv'] at hv''
        exact absurd hv'' (by decide)
      · exact hs l (by omega) hv''
theorem tm_quantify_q {post : St2 → Prop} {k d v : Nat} (hk : k = 9 ∨ k = 10) (hd : d ≤ 3) (hv : v < 3)
    (H : ∀ b c, tm_VA d b (tm_tq k d v a11) → post (h, ax, el, kn, nI d, 1, a1, a2, a3, a4, a5, a6, a7, a8, a9, a10, b, c, a13)) : wpX_quantify post (h, ax, el, kn, nI d, 1, a1, a2, a3, a4, a5, a6, a7, a8, a9, a10, a11, a12, a13) (nI k) (nI v) := by
  have hn : ¬ nI k = 11 := by
    rcases hk with rfl | rfl
    · decide
    · decide
  refine br_f hn (nm_r (show (27 : Int32) * (1 - 1) = nI 0 from rfl) (tm_placeOf v rfl hv (tm_q34_q hk hd hv H)))
theorem tm_q162_q2 {post : St2 → Prop} (H : ∀ b, (∀ l, l < 27 → b l = a12 l) → post (h, ax, el, kn, sz, dp, a1, a2, a3, a4, a5, a6, a7, a8, a9, a10, b, a12, a13)) : ∃ n, wX_quantify_2_162 post (nI 0) h ax el kn sz dp n 0 a1 a2 a3 a4 a5 a6 a7 a8 a9 a10 a11 a12 a13 := by
  refine pk_loop (fun n i s => wX_quantify_2_162 post (nI 0) h ax el kn sz dp n (nI i) a1 a2 a3 a4 a5 a6 a7 a8 a9 a10 s a12 a13)
    (fun i s => ∀ l, l < i → s l = a12 l) 27 0 a11 (by omega) (fun l hl => absurd hl (by omega)) ?_ ?_
  · exact fun n s hs => pk_le 27 27 (fun _ => H s hs) (fun z => absurd z (by omega))
  · intro n i s hi hs hw
    have e1 : nI 0 + nI i = nI i := by rw [nI_add, Nat.zero_add]
    have hin : vp_in (nI 0 + nI i) 378 := pk_in i 378 (by omega) e1
    have hcl : (nI 0 + nI i).toNatClampNeg = i := pk_cl i e1
    have hc : (nI i).toNatClampNeg = i := nI_clamp (by omega)
    refine pk_le 27 i (fun z => absurd z (by omega)) (fun _ => ⟨pk_in i 27 hi, hin, nm_r (by rw [hcl, hc]) (nm_r (nI_1 i) (hw _ ?_))⟩)
    intro l hl
    by_cases q : l = i
    · rw [q, pk_uLs]
    · rw [pk_uLn q]
      exact hs l (by omega)
theorem tm_q130_q2 {post : St2 → Prop} {J : Int32 → (Nat → Int32) → (Nat → Int32) → (Nat → Int32) → (Nat → Int32) → (Nat → Int32) → (Nat → Int64) → (Nat → Int32) → (Nat → Int64) → (Nat → Int64) → (Nat → Int64) → (Nat → Int64) → (Nat → Int64) → (Nat → Int64) → Prop} {k d i : Nat} {x2 x3 x4 x5 : Int32} {f s t : Int64} (hk : k = 9 ∨ k = 10) (hd : d ≤ 3) (hi : i < 27)
    (H : J (nI (i + 1)) a1 a2 a3 a4 a5 a6 a7 a8 a9 a10 a11 (vp_updL a12 i (tm_qw k d f s t)) a13) : wX_quantify_2_130 post J (nI k) x2 x3 x4 x5 (nI i) f s t h ax el kn (nI d) dp a1 a2 a3 a4 a5 a6 a7 a8 a9 a10 a11 a12 a13 := by
  have hc : (nI i).toNatClampNeg = i := nI_clamp (by omega)
  refine ⟨by decide, tm_quantified hk hd ⟨pk_in i 27 hi, nm_r (by rw [hc]) (nm_r (nI_1 i) H)⟩⟩
theorem tm_q34_q2 {post : St2 → Prop} {k d v a : Nat} (hk : k = 9 ∨ k = 10) (hd : d ≤ 3) (hv : v < 3)
    (H : ∀ b c, tm_VA d b (tm_tq k d v a11) → post (h, ax, el, kn, nI d, dp, a1, a2, a3, a4, a5, a6, a7, a8, a9, a10, b, c, a13)) : ∃ n, wX_quantify_2_34 post (nI k) (nI a) (nI v) (nI 0) (nI (tm_pl v)) h ax el kn (nI d) dp n 0 a1 a2 a3 a4 a5 a6 a7 a8 a9 a10 a11 a12 a13 := by
  refine pk_loop (fun n i s => wX_quantify_2_34 post (nI k) (nI a) (nI v) (nI 0) (nI (tm_pl v)) h ax el kn (nI d) dp n (nI i) a1 a2 a3 a4 a5 a6 a7 a8 a9 a10 a11 s a13)
    (fun i s => ∀ l, l < i → tm_vl d l = true → s l = tm_tq k d v a11 l) 27 0 a12 (by omega) (fun l hl => absurd hl (by omega)) ?_ ?_
  · exact fun n s hs => pk_le 27 27 (fun _ => tm_q162_q2 (fun b hb => H b s (fun l hl hv' => by rw [hb l hl]; exact hs l hl hv'))) (fun z => absurd z (by omega))
  · intro n i s hi hs hw
    have zk := tm_z_ok i hi v hv
    have e0 : nI i - nI (tm_pl v) * nI (tm_el i v) = nI (tm_z i v) := by
      rw [pk_mul, pk_sub zk.1]
      rfl
    have e1 : nI 0 + nI (tm_z i v) = nI (tm_z i v) := by rw [nI_add, Nat.zero_add]
    have e2 : nI 0 + nI (tm_z i v) + nI (tm_pl v) = nI (tm_z i v + tm_pl v) := by rw [nI_add, nI_add, Nat.zero_add]
    have e3 : nI 0 + nI (tm_z i v) + 2 * nI (tm_pl v) = nI (tm_z i v + 2 * tm_pl v) := by
      rw [show (2 : Int32) * nI (tm_pl v) = nI (2 * tm_pl v) from pk_mul 2 _, nI_add, nI_add, Nat.zero_add]
    have step : ∀ l, l < i + 1 → tm_vl d l = true → vp_updL s i (tm_tq k d v a11 i) l = tm_tq k d v a11 l := by
      intro l hl hv'
      by_cases q : l = i
      · rw [q, pk_uLs]
      · rw [pk_uLn q]
        exact hs l (by omega) hv'
    refine pk_le 27 i (fun z => absurd z (by omega)) (fun _ => tm_isList d i rfl rfl hd hi (fun hv' => br_f (by decide) ?_) (fun hv' => br_t rfl (nm_r (nI_1 i) (hw s ?_))))
    · refine tm_elementIn i v rfl rfl hi hv (nm_r e0 ⟨pk_in (tm_z i v) 378 (by omega) e1, nm_r (by rw [pk_cl (tm_z i v) e1]) ?_⟩)
      have hw' := hw _ step
      unfold tm_tq at hw'
      refine pk_le d 1 (fun z => ?_) (fun z => ⟨pk_in (tm_z i v + tm_pl v) 378 (by omega) e2, ?_⟩)
      · rw [if_pos z, if_pos (by omega)] at hw'
        exact pk_le d 2 (fun z2 => tm_q130_q2 hk hd hi hw') (fun z2 => absurd z2 (by omega))
      · rw [if_neg (by omega)] at hw'
        rw [pk_cl (tm_z i v + tm_pl v) e2]
        refine pk_le d 2 (fun z2 => ?_) (fun z2 => ⟨pk_in (tm_z i v + 2 * tm_pl v) 378 (by omega) e3, ?_⟩)
        · rw [if_pos z2] at hw'
          exact tm_q130_q2 hk hd hi hw'
        · rw [if_neg (by omega)] at hw'
          rw [pk_cl (tm_z i v + 2 * tm_pl v) e3]
          exact tm_q130_q2 hk hd hi hw'
    · intro l hl hv''
      by_cases q : l = i
      · rw [q, hv'] at hv''
        exact absurd hv'' (by decide)
      · exact hs l (by omega) hv''
theorem tm_quantify_q2 {post : St2 → Prop} {k d v : Nat} (hk : k = 9 ∨ k = 10) (hd : d ≤ 3) (hv : v < 3)
    (H : ∀ b c, tm_VA d b (tm_tq k d v a11) → post (h, ax, el, kn, nI d, 1, a1, a2, a3, a4, a5, a6, a7, a8, a9, a10, b, c, a13)) : wpX_quantify_2 post (h, ax, el, kn, nI d, 1, a1, a2, a3, a4, a5, a6, a7, a8, a9, a10, a11, a12, a13) (nI k) (nI v) := by
  have hn : ¬ nI k = 11 := by
    rcases hk with rfl | rfl
    · decide
    · decide
  refine br_f hn (nm_r (show (27 : Int32) * (1 - 1) = nI 0 from rfl) (tm_placeOf v rfl hv (tm_q34_q2 hk hd hv H)))
end
end
section
section
variable {h ax el kn sz dp : Int32} {a1 a2 a3 a4 a5 : Nat → Int32} {a6 : Nat → Int64} {a7 : Nat → Int32} {a8 a9 a10 a11 a12 a13 : Nat → Int64}
theorem tm_el_d {d l v : Nat} (h : tm_vl d l = true) (hv : v < 3) : tm_el l v < d := by
  have t := tm_vl_e h
  unfold tm_el
  split
  · exact t.1
  · split
    · exact t.2.1
    · exact t.2.2
theorem tm_tP_VA {d a : Nat} {g g' : Nat → Int64} (ha : a < 9) (A : tm_AG d g g') : tm_VA d (tm_tP g a) (tm_tP g' a) :=
  fun l _ hv => A _ _ (tm_el_d hv (by omega)) (tm_el_d hv (by omega))
theorem tm_VA_tr {d : Nat} {t t' t'' : Nat → Int64} (A : tm_VA d t t') (B : tm_VA d t' t'') : tm_VA d t t'' :=
  fun l hl hv => (A l hl hv).trans (B l hl hv)
theorem tm_taken0 {post : Int32 → Prop} {k : Nat} (hk : k ≤ 3) (H : post 0) : wpX_taken post () (nI k) := pk_lt 3 k (fun z => absurd z (by omega)) (fun _ => H)
/-- the tables of the formulas by parts -/
def tm_ti (g : Nat → Int64) (l : Nat) : Int64 := (tm_tP g 1 l ^^^ (-1)) ||| tm_tP g 3 l
def tm_T0 (d p : Nat) : Nat → Int64 := tm_tq 9 d 1 (tm_tq 9 d 0 (tm_ti (tm_g9 d p)))
def tm_tn (t : Nat → Int64) (l : Nat) : Int64 := t l ^^^ (-1)
theorem tm_woE_q {post : St2 → Prop} {F c n : Nat} (hF : F + c ≤ 288) (H : post (h, ax, el, kn, sz, dp, a1, a2, a3, a4, a5, a6, a7, a8, a9, a10, a11, a12, a13)) : wX_workOut_7 post (nI F) (nI c) (n + 1) (nI (F + c)) h ax el kn sz dp a1 a2 a3 a4 a5 a6 a7 a8 a9 a10 a11 a12 a13 :=
  pk_le (F + c) (F + c) (fun _ => H) (fun z => absurd z (by omega)) (nI_add F c)
theorem tm_woA_q {post : St2 → Prop} {F c K D d k a n : Nat} {g : Nat → Int64} (hK : K < F + c) (hF : F + c ≤ 288) (hsz : sz = nI d) (hdp : dp = nI D) (hD : D < 14) (hd : d ≤ 3) (h1 : a1 K = nI k) (h2 : a2 K = nI a) (ha : a < 9) (hk : tm_GK k g a9 a10)
    (H : ∀ b, (∀ l, l < 27 → tm_vl d l = true → b (27 * D + l) = tm_tP g a l) → (∀ j, j < 27 * D → b j = a11 j) → wX_workOut_7 post (nI F) (nI c) n (nI (K + 1)) h ax el kn (nI d) (nI (D + 1)) a1 a2 a3 a4 a5 a6 a7 a8 a9 a10 b a12 a13) :
    wX_workOut_7 post (nI F) (nI c) (n + 1) (nI K) h ax el kn sz dp a1 a2 a3 a4 a5 a6 a7 a8 a9 a10 a11 a12 a13 := by
  have hc : (nI K).toNatClampNeg = K := nI_clamp (by omega)
  have hin : vp_in (nI K) 288 := vp_in_nI (by omega) (by omega)
  subst hsz hdp
  refine pk_le (F + c) K (fun z => absurd z (by omega)) (fun _ => ⟨hin, ?_⟩) (nI_add F c)
  rw [hc, h1, h2]
  refine tm_taken0 (by rcases hk with ⟨e, _⟩ | ⟨e, _⟩ <;> omega) (br_t rfl ⟨hin, hin, ?_⟩)
  exact tm_layAtom_q hd hD hk ha (fun b e1 e2 => nm_r (nI_1 D) (nm_r (nI_1 K) (H b e1 e2)))
theorem tm_woJ_q {post : St2 → Prop} {F c K n : Nat} (hK : K < F + c) (hF : F + c ≤ 288) (hdp : dp = nI 2) (h1 : a1 K = 7)
    (H : ∀ b, (∀ l, l < 27 → b l = ((a11 l ^^^ (-1)) ||| a11 (27 + l))) → wX_workOut_7 post (nI F) (nI c) n (nI (K + 1)) h ax el kn sz 1 a1 a2 a3 a4 a5 a6 a7 a8 a9 a10 b a12 a13) :
    wX_workOut_7 post (nI F) (nI c) (n + 1) (nI K) h ax el kn sz dp a1 a2 a3 a4 a5 a6 a7 a8 a9 a10 a11 a12 a13 := by
  have hc : (nI K).toNatClampNeg = K := nI_clamp (by omega)
  have hin : vp_in (nI K) 288 := vp_in_nI (by omega) (by omega)
  subst hdp
  refine pk_le (F + c) K (fun z => absurd z (by omega)) (fun _ => ⟨hin, ?_⟩) (nI_add F c)
  rw [hc, h1]
  refine br_t (by decide) (br_f (by decide) (br_t (by decide) (br_f (by decide) (br_t rfl (nm_r (show nI 2 - 1 = (1 : Int32) from rfl) ⟨hin, ?_⟩)))))
  exact tm_join_q rfl (fun b e1 => nm_r (nI_1 K) (H b e1))
theorem tm_woN_q {post : St2 → Prop} {F c K n : Nat} (hK : K < F + c) (hF : F + c ≤ 288) (hdp : dp = 1) (h1 : a1 K = 4)
    (H : ∀ b, (∀ l, l < 27 → b l = a11 l ^^^ (-1)) → wX_workOut_7 post (nI F) (nI c) n (nI (K + 1)) h ax el kn sz 1 a1 a2 a3 a4 a5 a6 a7 a8 a9 a10 b a12 a13) :
    wX_workOut_7 post (nI F) (nI c) (n + 1) (nI K) h ax el kn sz dp a1 a2 a3 a4 a5 a6 a7 a8 a9 a10 a11 a12 a13 := by
  have hc : (nI K).toNatClampNeg = K := nI_clamp (by omega)
  have hin : vp_in (nI K) 288 := vp_in_nI (by omega) (by omega)
  refine pk_le (F + c) K (fun z => absurd z (by omega)) (fun _ => ⟨hin, ?_⟩) (nI_add F c)
  rw [hc, h1]
  refine br_t (by decide) (br_t (by decide) (br_f (by decide) (br_f (by decide) ⟨hin, br_t rfl ?_⟩)))
  exact tm_negate_q hdp (fun b e1 => nm_r (nI_1 K) (H b e1))
theorem tm_woQ_q {post : St2 → Prop} {F c K d k v n : Nat} (hK : K < F + c) (hF : F + c ≤ 288) (hsz : sz = nI d) (hdp : dp = 1) (hd : d ≤ 3) (h1 : a1 K = nI k) (h2 : a2 K = nI v) (hv : v < 3) (hk : k = 9 ∨ k = 10)
    (H : ∀ b c', tm_VA d b (tm_tq k d v a11) → wX_workOut_7 post (nI F) (nI c) n (nI (K + 1)) h ax el kn (nI d) 1 a1 a2 a3 a4 a5 a6 a7 a8 a9 a10 b c' a13) :
    wX_workOut_7 post (nI F) (nI c) (n + 1) (nI K) h ax el kn sz dp a1 a2 a3 a4 a5 a6 a7 a8 a9 a10 a11 a12 a13 := by
  have hc : (nI K).toNatClampNeg = K := nI_clamp (by omega)
  have hin : vp_in (nI K) 288 := vp_in_nI (by omega) (by omega)
  subst hsz hdp
  refine pk_le (F + c) K (fun z => absurd z (by omega)) (fun _ => ⟨hin, ?_⟩) (nI_add F c)
  rw [hc, h1, h2]
  have k3 : (3 : Int32) < nI k := by rcases hk with rfl | rfl <;> decide
  have k4 : ¬ nI k = 4 := by rcases hk with rfl | rfl <;> decide
  have k9 : ¬ nI k < 9 := by rcases hk with rfl | rfl <;> decide
  refine br_t k3 (br_f k4 (br_f k9 (br_f (by decide) (br_f (by decide) ⟨hin, br_f k4 ⟨hin, hin, ?_⟩⟩))))
  exact tm_quantify_q hk hd hv (fun b c' e1 => nm_r (nI_1 K) (H b c' e1))
/-- the formula of y tokens from x on is worked out to the table t, by parts -/
def tm_WO_q (d : Nat) (t : Nat → Nat → Int64) (a1 a2 : Nat → Int32) (x y : Int32) : Prop := ∀ p, p < 64 → ∀ (post : St2 → Prop) (h ax el kn dp : Int32) (a3 a4 a5 : Nat → Int32) (a6 : Nat → Int64) (a7 : Nat → Int32) (a8 a9 a10 a11 a12 a13 : Nat → Int64), tm_LP d p a8 a9 a10 → (∀ dp' b11 b12, tm_VA d b11 (t p) → post (h, ax, el, kn, nI d, dp', a1, a2, a3, a4, a5, a6, a7, a8, a9, a10, b11, b12, a13)) → wpX_workOut post (h, ax, el, kn, nI d, dp, a1, a2, a3, a4, a5, a6, a7, a8, a9, a10, a11, a12, a13) x y
theorem tm_FP_q {d F a : Nat} (hd : d ≤ 3) (hF : F + 1 ≤ 288) (ha : a < 9) (h1 : a1 F = 1) (h2 : a2 F = nI a) : tm_WO_q d (fun p => tm_tP (tm_g9 d p) a) a1 a2 (nI F) 1 := by
  intro p hp post h ax el kn dp a3 a4 a5 a6 a7 a8 a9 a10 a11 a12 a13 lp H
  refine ⟨2, ?_⟩
  refine tm_woA_q (F := F) (c := 1) (K := F) (D := 0) (k := 1) (a := a) (d := d) (g := a9) (by omega) hF rfl rfl (by omega) hd h1 h2 ha (Or.inl ⟨rfl, rfl⟩) (fun b1 e1 _ => ?_)
  refine tm_woE_q hF (H _ b1 _ (tm_VA_tr (fun l hl hv => ?_) (tm_tP_VA ha lp.2.1)))
  have e := e1 l hl hv
  rw [Nat.mul_zero, Nat.zero_add] at e
  exact e
theorem tm_FR_q {d F a : Nat} (hd : d ≤ 3) (hF : F + 1 ≤ 288) (ha : a < 9) (h1 : a1 F = 3) (h2 : a2 F = nI a) : tm_WO_q d (fun p => tm_tP (tm_rr d p) a) a1 a2 (nI F) 1 := by
  intro p hp post h ax el kn dp a3 a4 a5 a6 a7 a8 a9 a10 a11 a12 a13 lp H
  refine ⟨2, ?_⟩
  refine tm_woA_q (F := F) (c := 1) (K := F) (D := 0) (k := 3) (a := a) (d := d) (g := a10) (by omega) hF rfl rfl (by omega) hd h1 h2 ha (Or.inr ⟨rfl, rfl⟩) (fun b1 e1 _ => ?_)
  refine tm_woE_q hF (H _ b1 _ (tm_VA_tr (fun l hl hv => ?_) (tm_tP_VA ha lp.2.2)))
  have e := e1 l hl hv
  rw [Nat.mul_zero, Nat.zero_add] at e
  exact e
theorem tm_FN_q {d F a : Nat} (hd : d ≤ 3) (hF : F + 2 ≤ 288) (ha : a < 9) (h1 : a1 F = 1) (h2 : a2 F = nI a) (h3 : a1 (F + 1) = 4) : tm_WO_q d (fun p => tm_tn (tm_tP (tm_g9 d p) a)) a1 a2 (nI F) 2 := by
  intro p hp post h ax el kn dp a3 a4 a5 a6 a7 a8 a9 a10 a11 a12 a13 lp H
  refine ⟨3, ?_⟩
  refine tm_woA_q (F := F) (c := 2) (K := F) (D := 0) (k := 1) (a := a) (d := d) (g := a9) (by omega) hF rfl rfl (by omega) hd h1 h2 ha (Or.inl ⟨rfl, rfl⟩) (fun b1 e1 _ => ?_)
  refine tm_woN_q (F := F) (c := 2) (K := F + 1) (by omega) hF rfl h3 (fun b2 e2 => ?_)
  refine tm_woE_q hF (H _ b2 _ (fun l hl hv => ?_))
  have e := e1 l hl hv
  rw [Nat.mul_zero, Nat.zero_add, tm_tP_VA ha lp.2.1 l hl hv] at e
  rw [e2 l hl, e]
  rfl
theorem tm_FS_q {d F a v : Nat} (hd : d ≤ 3) (hF : F + 2 ≤ 288) (ha : a < 9) (hv : v < 3) (h1 : a1 F = 1) (h2 : a2 F = nI a) (h3 : a1 (F + 1) = 10) (h4 : a2 (F + 1) = nI v) : tm_WO_q d (fun p => tm_tq 10 d v (tm_tP (tm_g9 d p) a)) a1 a2 (nI F) 2 := by
  intro p hp post h ax el kn dp a3 a4 a5 a6 a7 a8 a9 a10 a11 a12 a13 lp H
  refine ⟨3, ?_⟩
  refine tm_woA_q (F := F) (c := 2) (K := F) (D := 0) (k := 1) (a := a) (d := d) (g := a9) (by omega) hF rfl rfl (by omega) hd h1 h2 ha (Or.inl ⟨rfl, rfl⟩) (fun b1 e1 _ => ?_)
  refine tm_woQ_q (F := F) (c := 2) (K := F + 1) (k := 10) (by omega) hF rfl rfl hd h3 h4 hv (Or.inr rfl) (fun b2 c2 e2 => ?_)
  refine tm_woE_q hF (H _ b2 _ (tm_VA_tr e2 (tm_tq_VA hd hv (tm_VA_tr (fun l hl hv => ?_) (tm_tP_VA ha lp.2.1)))))
  have e := e1 l hl hv
  rw [Nat.mul_zero, Nat.zero_add] at e
  exact e
theorem tm_woE_q2 {post : St2 → Prop} {F c n : Nat} (hF : F + c ≤ 288) (H : post (h, ax, el, kn, sz, dp, a1, a2, a3, a4, a5, a6, a7, a8, a9, a10, a11, a12, a13)) : wX_workOut_2_7 post (nI F) (nI c) (n + 1) (nI (F + c)) h ax el kn sz dp a1 a2 a3 a4 a5 a6 a7 a8 a9 a10 a11 a12 a13 :=
  pk_le (F + c) (F + c) (fun _ => H) (fun z => absurd z (by omega)) (nI_add F c)
theorem tm_woA_q2 {post : St2 → Prop} {F c K D d k a n : Nat} {g : Nat → Int64} (hK : K < F + c) (hF : F + c ≤ 288) (hsz : sz = nI d) (hdp : dp = nI D) (hD : D < 14) (hd : d ≤ 3) (h1 : a1 K = nI k) (h2 : a2 K = nI a) (ha : a < 9) (hk : tm_GK k g a9 a10)
    (H : ∀ b, (∀ l, l < 27 → tm_vl d l = true → b (27 * D + l) = tm_tP g a l) → (∀ j, j < 27 * D → b j = a11 j) → wX_workOut_2_7 post (nI F) (nI c) n (nI (K + 1)) h ax el kn (nI d) (nI (D + 1)) a1 a2 a3 a4 a5 a6 a7 a8 a9 a10 b a12 a13) :
    wX_workOut_2_7 post (nI F) (nI c) (n + 1) (nI K) h ax el kn sz dp a1 a2 a3 a4 a5 a6 a7 a8 a9 a10 a11 a12 a13 := by
  have hc : (nI K).toNatClampNeg = K := nI_clamp (by omega)
  have hin : vp_in (nI K) 288 := vp_in_nI (by omega) (by omega)
  subst hsz hdp
  refine pk_le (F + c) K (fun z => absurd z (by omega)) (fun _ => ⟨hin, ?_⟩) (nI_add F c)
  rw [hc, h1, h2]
  refine tm_taken0 (by rcases hk with ⟨e, _⟩ | ⟨e, _⟩ <;> omega) (br_t rfl ⟨hin, hin, ?_⟩)
  exact tm_layAtom_q2 hd hD hk ha (fun b e1 e2 => nm_r (nI_1 D) (nm_r (nI_1 K) (H b e1 e2)))
theorem tm_woJ_q2 {post : St2 → Prop} {F c K n : Nat} (hK : K < F + c) (hF : F + c ≤ 288) (hdp : dp = nI 2) (h1 : a1 K = 7)
    (H : ∀ b, (∀ l, l < 27 → b l = ((a11 l ^^^ (-1)) ||| a11 (27 + l))) → wX_workOut_2_7 post (nI F) (nI c) n (nI (K + 1)) h ax el kn sz 1 a1 a2 a3 a4 a5 a6 a7 a8 a9 a10 b a12 a13) :
    wX_workOut_2_7 post (nI F) (nI c) (n + 1) (nI K) h ax el kn sz dp a1 a2 a3 a4 a5 a6 a7 a8 a9 a10 a11 a12 a13 := by
  have hc : (nI K).toNatClampNeg = K := nI_clamp (by omega)
  have hin : vp_in (nI K) 288 := vp_in_nI (by omega) (by omega)
  subst hdp
  refine pk_le (F + c) K (fun z => absurd z (by omega)) (fun _ => ⟨hin, ?_⟩) (nI_add F c)
  rw [hc, h1]
  refine br_t (by decide) (br_f (by decide) (br_t (by decide) (br_f (by decide) (br_t rfl (nm_r (show nI 2 - 1 = (1 : Int32) from rfl) ⟨hin, ?_⟩)))))
  exact tm_join_q2 rfl (fun b e1 => nm_r (nI_1 K) (H b e1))
theorem tm_woN_q2 {post : St2 → Prop} {F c K n : Nat} (hK : K < F + c) (hF : F + c ≤ 288) (hdp : dp = 1) (h1 : a1 K = 4)
    (H : ∀ b, (∀ l, l < 27 → b l = a11 l ^^^ (-1)) → wX_workOut_2_7 post (nI F) (nI c) n (nI (K + 1)) h ax el kn sz 1 a1 a2 a3 a4 a5 a6 a7 a8 a9 a10 b a12 a13) :
    wX_workOut_2_7 post (nI F) (nI c) (n + 1) (nI K) h ax el kn sz dp a1 a2 a3 a4 a5 a6 a7 a8 a9 a10 a11 a12 a13 := by
  have hc : (nI K).toNatClampNeg = K := nI_clamp (by omega)
  have hin : vp_in (nI K) 288 := vp_in_nI (by omega) (by omega)
  refine pk_le (F + c) K (fun z => absurd z (by omega)) (fun _ => ⟨hin, ?_⟩) (nI_add F c)
  rw [hc, h1]
  refine br_t (by decide) (br_t (by decide) (br_f (by decide) (br_f (by decide) ⟨hin, br_t rfl ?_⟩)))
  exact tm_negate_q2 hdp (fun b e1 => nm_r (nI_1 K) (H b e1))
theorem tm_woQ_q2 {post : St2 → Prop} {F c K d k v n : Nat} (hK : K < F + c) (hF : F + c ≤ 288) (hsz : sz = nI d) (hdp : dp = 1) (hd : d ≤ 3) (h1 : a1 K = nI k) (h2 : a2 K = nI v) (hv : v < 3) (hk : k = 9 ∨ k = 10)
    (H : ∀ b c', tm_VA d b (tm_tq k d v a11) → wX_workOut_2_7 post (nI F) (nI c) n (nI (K + 1)) h ax el kn (nI d) 1 a1 a2 a3 a4 a5 a6 a7 a8 a9 a10 b c' a13) :
    wX_workOut_2_7 post (nI F) (nI c) (n + 1) (nI K) h ax el kn sz dp a1 a2 a3 a4 a5 a6 a7 a8 a9 a10 a11 a12 a13 := by
  have hc : (nI K).toNatClampNeg = K := nI_clamp (by omega)
  have hin : vp_in (nI K) 288 := vp_in_nI (by omega) (by omega)
  subst hsz hdp
  refine pk_le (F + c) K (fun z => absurd z (by omega)) (fun _ => ⟨hin, ?_⟩) (nI_add F c)
  rw [hc, h1, h2]
  have k3 : (3 : Int32) < nI k := by rcases hk with rfl | rfl <;> decide
  have k4 : ¬ nI k = 4 := by rcases hk with rfl | rfl <;> decide
  have k9 : ¬ nI k < 9 := by rcases hk with rfl | rfl <;> decide
  refine br_t k3 (br_f k4 (br_f k9 (br_f (by decide) (br_f (by decide) ⟨hin, br_f k4 ⟨hin, hin, ?_⟩⟩))))
  exact tm_quantify_q2 hk hd hv (fun b c' e1 => nm_r (nI_1 K) (H b c' e1))
/-- the formula of y tokens from x on is worked out to the table t, by parts -/
def tm_WO_q2 (d : Nat) (t : Nat → Nat → Int64) (a1 a2 : Nat → Int32) (x y : Int32) : Prop := ∀ p, p < 64 → ∀ (post : St2 → Prop) (h ax el kn dp : Int32) (a3 a4 a5 : Nat → Int32) (a6 : Nat → Int64) (a7 : Nat → Int32) (a8 a9 a10 a11 a12 a13 : Nat → Int64), tm_LP d p a8 a9 a10 → (∀ dp' b11 b12, tm_VA d b11 (t p) → post (h, ax, el, kn, nI d, dp', a1, a2, a3, a4, a5, a6, a7, a8, a9, a10, b11, b12, a13)) → wpX_workOut_2 post (h, ax, el, kn, nI d, dp, a1, a2, a3, a4, a5, a6, a7, a8, a9, a10, a11, a12, a13) x y
theorem tm_FP_q2 {d F a : Nat} (hd : d ≤ 3) (hF : F + 1 ≤ 288) (ha : a < 9) (h1 : a1 F = 1) (h2 : a2 F = nI a) : tm_WO_q2 d (fun p => tm_tP (tm_g9 d p) a) a1 a2 (nI F) 1 := by
  intro p hp post h ax el kn dp a3 a4 a5 a6 a7 a8 a9 a10 a11 a12 a13 lp H
  refine ⟨2, ?_⟩
  refine tm_woA_q2 (F := F) (c := 1) (K := F) (D := 0) (k := 1) (a := a) (d := d) (g := a9) (by omega) hF rfl rfl (by omega) hd h1 h2 ha (Or.inl ⟨rfl, rfl⟩) (fun b1 e1 _ => ?_)
  refine tm_woE_q2 hF (H _ b1 _ (tm_VA_tr (fun l hl hv => ?_) (tm_tP_VA ha lp.2.1)))
  have e := e1 l hl hv
  rw [Nat.mul_zero, Nat.zero_add] at e
  exact e
theorem tm_FR_q2 {d F a : Nat} (hd : d ≤ 3) (hF : F + 1 ≤ 288) (ha : a < 9) (h1 : a1 F = 3) (h2 : a2 F = nI a) : tm_WO_q2 d (fun p => tm_tP (tm_rr d p) a) a1 a2 (nI F) 1 := by
  intro p hp post h ax el kn dp a3 a4 a5 a6 a7 a8 a9 a10 a11 a12 a13 lp H
  refine ⟨2, ?_⟩
  refine tm_woA_q2 (F := F) (c := 1) (K := F) (D := 0) (k := 3) (a := a) (d := d) (g := a10) (by omega) hF rfl rfl (by omega) hd h1 h2 ha (Or.inr ⟨rfl, rfl⟩) (fun b1 e1 _ => ?_)
  refine tm_woE_q2 hF (H _ b1 _ (tm_VA_tr (fun l hl hv => ?_) (tm_tP_VA ha lp.2.2)))
  have e := e1 l hl hv
  rw [Nat.mul_zero, Nat.zero_add] at e
  exact e
theorem tm_FN_q2 {d F a : Nat} (hd : d ≤ 3) (hF : F + 2 ≤ 288) (ha : a < 9) (h1 : a1 F = 1) (h2 : a2 F = nI a) (h3 : a1 (F + 1) = 4) : tm_WO_q2 d (fun p => tm_tn (tm_tP (tm_g9 d p) a)) a1 a2 (nI F) 2 := by
  intro p hp post h ax el kn dp a3 a4 a5 a6 a7 a8 a9 a10 a11 a12 a13 lp H
  refine ⟨3, ?_⟩
  refine tm_woA_q2 (F := F) (c := 2) (K := F) (D := 0) (k := 1) (a := a) (d := d) (g := a9) (by omega) hF rfl rfl (by omega) hd h1 h2 ha (Or.inl ⟨rfl, rfl⟩) (fun b1 e1 _ => ?_)
  refine tm_woN_q2 (F := F) (c := 2) (K := F + 1) (by omega) hF rfl h3 (fun b2 e2 => ?_)
  refine tm_woE_q2 hF (H _ b2 _ (fun l hl hv => ?_))
  have e := e1 l hl hv
  rw [Nat.mul_zero, Nat.zero_add, tm_tP_VA ha lp.2.1 l hl hv] at e
  rw [e2 l hl, e]
  rfl
theorem tm_FS_q2 {d F a v : Nat} (hd : d ≤ 3) (hF : F + 2 ≤ 288) (ha : a < 9) (hv : v < 3) (h1 : a1 F = 1) (h2 : a2 F = nI a) (h3 : a1 (F + 1) = 10) (h4 : a2 (F + 1) = nI v) : tm_WO_q2 d (fun p => tm_tq 10 d v (tm_tP (tm_g9 d p) a)) a1 a2 (nI F) 2 := by
  intro p hp post h ax el kn dp a3 a4 a5 a6 a7 a8 a9 a10 a11 a12 a13 lp H
  refine ⟨3, ?_⟩
  refine tm_woA_q2 (F := F) (c := 2) (K := F) (D := 0) (k := 1) (a := a) (d := d) (g := a9) (by omega) hF rfl rfl (by omega) hd h1 h2 ha (Or.inl ⟨rfl, rfl⟩) (fun b1 e1 _ => ?_)
  refine tm_woQ_q2 (F := F) (c := 2) (K := F + 1) (k := 10) (by omega) hF rfl rfl hd h3 h4 hv (Or.inr rfl) (fun b2 c2 e2 => ?_)
  refine tm_woE_q2 hF (H _ b2 _ (tm_VA_tr e2 (tm_tq_VA hd hv (tm_VA_tr (fun l hl hv => ?_) (tm_tP_VA ha lp.2.1)))))
  have e := e1 l hl hv
  rw [Nat.mul_zero, Nat.zero_add] at e
  exact e
def tm_K0 (F : Nat) (a1 a2 : Nat → Int32) : Prop := a1 F = 1 ∧ a2 F = 1 ∧ a1 (F + 1) = 1 ∧ a2 (F + 1) = 3 ∧ a1 (F + 2) = 7 ∧ a1 (F + 3) = 9 ∧ a2 (F + 3) = 0 ∧ a1 (F + 4) = 9 ∧ a2 (F + 4) = 1
theorem tm_F0_q {d F : Nat} (hd : d ≤ 3) (hF : F + 5 ≤ 288) (k : tm_K0 F a1 a2) : tm_WO_q d (tm_T0 d) a1 a2 (nI F) 5 := by
  obtain ⟨k1, k2, k3, k4, k5, k6, k7, k8, k9⟩ := k
  intro p hp post h ax el kn dp a3 a4 a5 a6 a7 a8 a9 a10 a11 a12 a13 lp H
  refine ⟨6, ?_⟩
  refine tm_woA_q (F := F) (c := 5) (K := F) (D := 0) (k := 1) (a := 1) (d := d) (g := a9) (by omega) hF rfl rfl (by omega) hd k1 k2 (by omega) (Or.inl ⟨rfl, rfl⟩) (fun b1 e1 _ => ?_)
  refine tm_woA_q (F := F) (c := 5) (K := F + 1) (D := 1) (k := 1) (a := 3) (d := d) (g := a9) (by omega) hF rfl rfl (by omega) hd k3 k4 (by omega) (Or.inl ⟨rfl, rfl⟩) (fun b2 e2 e2' => ?_)
  refine tm_woJ_q (F := F) (c := 5) (K := F + 2) (by omega) hF rfl k5 (fun b3 e3 => ?_)
  refine tm_woQ_q (F := F) (c := 5) (K := F + 3) (k := 9) (v := 0) (by omega) hF rfl rfl hd k6 k7 (by omega) (Or.inl rfl) (fun b4 c4 e4 => ?_)
  refine tm_woQ_q (F := F) (c := 5) (K := F + 4) (k := 9) (v := 1) (by omega) hF rfl rfl hd k8 k9 (by omega) (Or.inl rfl) (fun b5 c5 e5 => ?_)
  refine tm_woE_q hF (H _ b5 _ (tm_VA_tr e5 (tm_tq_VA hd (by omega) (tm_VA_tr e4 (tm_tq_VA hd (by omega) (fun l hl hv => ?_))))))
  have q1 := e1 l hl hv
  have q2 := e2 l hl hv
  rw [Nat.mul_zero, Nat.zero_add, tm_tP_VA (by omega) lp.2.1 l hl hv] at q1
  rw [Nat.mul_one, tm_tP_VA (by omega) lp.2.1 l hl hv] at q2
  rw [e3 l hl, q2, e2' l (by omega), q1]
  rfl
theorem tm_F0_q2 {d F : Nat} (hd : d ≤ 3) (hF : F + 5 ≤ 288) (k : tm_K0 F a1 a2) : tm_WO_q2 d (tm_T0 d) a1 a2 (nI F) 5 := by
  obtain ⟨k1, k2, k3, k4, k5, k6, k7, k8, k9⟩ := k
  intro p hp post h ax el kn dp a3 a4 a5 a6 a7 a8 a9 a10 a11 a12 a13 lp H
  refine ⟨6, ?_⟩
  refine tm_woA_q2 (F := F) (c := 5) (K := F) (D := 0) (k := 1) (a := 1) (d := d) (g := a9) (by omega) hF rfl rfl (by omega) hd k1 k2 (by omega) (Or.inl ⟨rfl, rfl⟩) (fun b1 e1 _ => ?_)
  refine tm_woA_q2 (F := F) (c := 5) (K := F + 1) (D := 1) (k := 1) (a := 3) (d := d) (g := a9) (by omega) hF rfl rfl (by omega) hd k3 k4 (by omega) (Or.inl ⟨rfl, rfl⟩) (fun b2 e2 e2' => ?_)
  refine tm_woJ_q2 (F := F) (c := 5) (K := F + 2) (by omega) hF rfl k5 (fun b3 e3 => ?_)
  refine tm_woQ_q2 (F := F) (c := 5) (K := F + 3) (k := 9) (v := 0) (by omega) hF rfl rfl hd k6 k7 (by omega) (Or.inl rfl) (fun b4 c4 e4 => ?_)
  refine tm_woQ_q2 (F := F) (c := 5) (K := F + 4) (k := 9) (v := 1) (by omega) hF rfl rfl hd k8 k9 (by omega) (Or.inl rfl) (fun b5 c5 e5 => ?_)
  refine tm_woE_q2 hF (H _ b5 _ (tm_VA_tr e5 (tm_tq_VA hd (by omega) (tm_VA_tr e4 (tm_tq_VA hd (by omega) (fun l hl hv => ?_))))))
  have q1 := e1 l hl hv
  have q2 := e2 l hl hv
  rw [Nat.mul_zero, Nat.zero_add, tm_tP_VA (by omega) lp.2.1 l hl hv] at q1
  rw [Nat.mul_one, tm_tP_VA (by omega) lp.2.1 l hl hv] at q2
  rw [e3 l hl, q2, e2' l (by omega), q1]
  rfl
def tm_vo (d : Nat) (t : Nat → Int64) : Nat → Int64
  | 0 => -1
  | l + 1 => if tm_vl d l = true then tm_vo d t l &&& t l else tm_vo d t l
theorem tm_validOnes {post : Int64 → Prop} {d : Nat} {t : Nat → Int64} (hsz : sz = nI d) (hd : d ≤ 3) (hV : tm_VA d a11 t) (H : post (tm_vo d t 27)) : wpX_validOnes post (h, ax, el, kn, sz, dp, a1, a2, a3, a4, a5, a6, a7, a8, a9, a10, a11, a12, a13) := by
  refine pk_loop (fun n i s => wX_validOnes_6 post h ax el kn sz dp a1 a2 a3 a4 a5 a6 a7 a8 a9 a10 a11 a12 a13 n s (nI i)) (fun i s => s = tm_vo d t i) 27 0 (-1) (by omega) rfl ?_ ?_
  · exact fun n s hs => pk_le 27 27 (fun _ => by rw [hs]; exact H) (fun z => absurd z (by omega))
  · intro n i s hi hs hw
    have hc : (nI i).toNatClampNeg = i := nI_clamp (by omega)
    refine pk_le 27 i (fun z => absurd z (by omega)) (fun _ => tm_isList d i hsz rfl hd hi (fun hv => br_f (by decide) ⟨pk_in i 378 (by omega), ?_⟩) (fun hv => br_t rfl (nm_r (nI_1 i) (hw s ?_))))
    · rw [hc, hV i hi hv]
      refine nm_e (nm_r (nI_1 i) (hw _ ?_))
      show s &&& t i = if tm_vl d i = true then tm_vo d t i &&& t i else tm_vo d t i
      rw [if_pos hv, hs]
    · show s = if tm_vl d i = true then tm_vo d t i &&& t i else tm_vo d t i
      rw [if_neg (by rw [hv]; decide), hs]
end
end
section
section
variable {h ax el kn sz dp : Int32} {a1 a2 a3 a4 a5 : Nat → Int32} {a6 : Nat → Int64} {a7 : Nat → Int32} {a8 a9 a10 a11 a12 a13 : Nat → Int64}
def tm_TK (c : Nat) (a1 a2 a5 : Nat → Int32) : Prop := (1 ≤ c → tm_K0 144 a1 a2 ∧ a5 0 = 5) ∧ (2 ≤ c → a1 168 = 1 ∧ a2 168 = 4 ∧ (c = 3 → a1 169 = 4) ∧ a5 1 = nI (c - 1))
def tm_V0 (d p : Nat) : Int64 := tm_vo d (tm_T0 d p) 27
def tm_T1 (c d p : Nat) : Nat → Int64 := if c = 2 then tm_tP (tm_g9 d p) 4 else tm_tn (tm_tP (tm_g9 d p) 4)
def tm_V1 (c d p : Nat) : Int64 := tm_vo d (tm_T1 c d p) 27
def tm_ax (c : Nat) : Nat := if c ≤ 1 then c else 2
def tm_mb (c d p : Nat) : Int64 := if c = 0 then tm_wh d else if c = 1 then tm_wh d &&& tm_V0 d p else (tm_wh d &&& tm_V0 d p) &&& tm_V1 c d p
def tm_mo (c d p : Nat) : Int64 := if c = 1 then tm_wh d else tm_wh d &&& tm_V1 c d p
theorem tm_wh0 (d : Nat) : ¬ tm_wh d = 0 := by
  unfold tm_wh
  split
  · decide
  · decide
theorem tm_vA0_q {post : Int64 → St2 → Prop} {c d p : Nat} (hc : 1 ≤ c) (hd : d ≤ 3) (hp : p < 64) (tk : tm_TK c a1 a2 a5) (lp : tm_LP d p a8 a9 a10)
    (H : ∀ dp' b11 b12, post (tm_V0 d p) (h, ax, el, kn, nI d, dp', a1, a2, a3, a4, a5, a6, a7, a8, a9, a10, b11, b12, a13)) : wpX_validAxiom post (h, ax, el, kn, nI d, dp, a1, a2, a3, a4, a5, a6, a7, a8, a9, a10, a11, a12, a13) 0 := by
  obtain ⟨k0, k5⟩ := tk.1 hc
  refine ⟨pk_in 0 6 (by omega), ?_⟩
  rw [show (0 : Int32).toNatClampNeg = 0 from rfl, k5, show (144 : Int32) + 24 * 0 = nI 144 from rfl]
  exact tm_F0_q hd (by omega) k0 p hp _ _ _ _ _ _ _ _ _ _ _ _ _ _ _ _ _ lp (fun dp' b11 b12 V => tm_validOnes rfl hd V (H dp' b11 b12))
theorem tm_vA1_q {post : Int64 → St2 → Prop} {c d p : Nat} (hc : 2 ≤ c) (hc3 : c ≤ 3) (hd : d ≤ 3) (hp : p < 64) (tk : tm_TK c a1 a2 a5) (lp : tm_LP d p a8 a9 a10)
    (H : ∀ dp' b11 b12, post (tm_V1 c d p) (h, ax, el, kn, nI d, dp', a1, a2, a3, a4, a5, a6, a7, a8, a9, a10, b11, b12, a13)) : wpX_validAxiom post (h, ax, el, kn, nI d, dp, a1, a2, a3, a4, a5, a6, a7, a8, a9, a10, a11, a12, a13) 1 := by
  obtain ⟨k1, k2, k3, k5⟩ := tk.2 hc
  refine ⟨pk_in 1 6 (by omega), ?_⟩
  rw [show (1 : Int32).toNatClampNeg = 1 from rfl, k5, show (144 : Int32) + 24 * 1 = nI 168 from rfl]
  by_cases e : c = 2
  · subst e
    exact tm_FP_q (a := 4) hd (by omega) (by omega) k1 k2 p hp _ _ _ _ _ _ _ _ _ _ _ _ _ _ _ _ _ lp (fun dp' b11 b12 V => tm_validOnes rfl hd V (H dp' b11 b12))
  · have e3 : c = 3 := by omega
    subst e3
    exact tm_FN_q (a := 4) hd (by omega) (by omega) k1 k2 (k3 rfl) p hp _ _ _ _ _ _ _ _ _ _ _ _ _ _ _ _ _ lp (fun dp' b11 b12 V => tm_validOnes rfl hd V (H dp' b11 b12))
theorem tm_mH_q {post : Int64 → St2 → Prop} {x : Int32} {c d p : Nat} (hc : c ≤ 3) (hd : d ≤ 3) (hp : p < 64) (hax : ax = nI (tm_ax c)) (tk : tm_TK c a1 a2 a5) (lp : tm_LP d p a8 a9 a10) (hx : x = nI d)
    (H : ∀ dp' b11 b12, post (tm_mb c d p) (h, ax, el, kn, nI d, dp', a1, a2, a3, a4, a5, a6, a7, a8, a9, a10, b11, b12, a13)) : wpX_modelsHere post (h, ax, el, kn, nI d, dp, a1, a2, a3, a4, a5, a6, a7, a8, a9, a10, a11, a12, a13) x (-1) := by
  unfold wpX_modelsHere
  dsimp only
  refine tm_wholePart d hx hd ?_
  refine ⟨3, ?_⟩
  rcases (show c = 0 ∨ c = 1 ∨ 2 ≤ c by omega) with e | e | e
  · subst e
    exact pk_le 0 0 (fun _ => H dp a11 a12) (fun z => absurd z (by omega)) hax
  · subst e
    refine pk_le 1 0 (fun z => absurd z (by omega)) (fun _ => br_f (tm_wh0 d) (br_f (by decide) (tm_vA0_q (c := 1) (by omega) hd hp tk lp (fun dp' b11 b12 => nm_e (nm_r (show (0 : Int32) + 1 = nI 1 from rfl) ?_))))) hax
    exact pk_le 1 1 (fun _ => H dp' b11 b12) (fun z => absurd z (by omega)) hax
  · have ha : tm_ax c = 2 := by
      unfold tm_ax
      rw [if_neg (by omega)]
    have hm : tm_mb c d p = (tm_wh d &&& tm_V0 d p) &&& tm_V1 c d p := by
      unfold tm_mb
      rw [if_neg (by omega), if_neg (by omega)]
    rw [ha] at hax
    rw [hm] at H
    refine pk_le 2 0 (fun z => absurd z (by omega)) (fun _ => br_f (tm_wh0 d) (br_f (by decide) (tm_vA0_q (c := c) (by omega) hd hp tk lp (fun dp' b11 b12 => nm_e (nm_r (show (0 : Int32) + 1 = nI 1 from rfl) ?_))))) hax
    refine pk_le 2 1 (fun z => absurd z (by omega)) (fun _ => br_c (fun z => ?_) (fun z => br_f (by decide) (tm_vA1_q e hc hd hp tk lp (fun dp'' b11' b12' => nm_e (nm_r (show nI 1 + 1 = nI 2 from rfl) (pk_le 2 2 (fun _ => H dp'' b11' b12') (fun z => absurd z (by omega)) hax)))))) hax
    have t := H dp' b11 b12
    rw [z, Int64.zero_and] at t
    rw [z]
    exact t
theorem tm_mH0_q {post : Int64 → St2 → Prop} {x : Int32} {c d p : Nat} (hc1 : 1 ≤ c) (hc : c ≤ 3) (hd : d ≤ 3) (hp : p < 64) (hax : ax = nI (tm_ax c)) (tk : tm_TK c a1 a2 a5) (lp : tm_LP d p a8 a9 a10) (hx : x = nI d)
    (H : ∀ dp' b11 b12, post (tm_mo c d p) (h, ax, el, kn, nI d, dp', a1, a2, a3, a4, a5, a6, a7, a8, a9, a10, b11, b12, a13)) : wpX_modelsHere post (h, ax, el, kn, nI d, dp, a1, a2, a3, a4, a5, a6, a7, a8, a9, a10, a11, a12, a13) x 0 := by
  unfold wpX_modelsHere
  dsimp only
  refine tm_wholePart d hx hd ?_
  refine ⟨3, ?_⟩
  rcases (show c = 1 ∨ 2 ≤ c by omega) with e | e
  · subst e
    refine pk_le 1 0 (fun z => absurd z (by omega)) (fun _ => br_f (tm_wh0 d) (br_t rfl (nm_r (show (0 : Int32) + 1 = nI 1 from rfl) ?_))) hax
    exact pk_le 1 1 (fun _ => H dp a11 a12) (fun z => absurd z (by omega)) hax
  · have ha : tm_ax c = 2 := by
      unfold tm_ax
      rw [if_neg (by omega)]
    have hm : tm_mo c d p = tm_wh d &&& tm_V1 c d p := by
      unfold tm_mo
      rw [if_neg (by omega)]
    rw [ha] at hax
    rw [hm] at H
    refine pk_le 2 0 (fun z => absurd z (by omega)) (fun _ => br_f (tm_wh0 d) (br_t rfl (nm_r (show (0 : Int32) + 1 = nI 1 from rfl) ?_))) hax
    exact pk_le 2 1 (fun z => absurd z (by omega)) (fun _ => br_f (tm_wh0 d) (br_f (by decide) (tm_vA1_q e hc hd hp tk lp (fun dp'' b11' b12' => nm_e (nm_r (show nI 1 + 1 = nI 2 from rfl) (pk_le 2 2 (fun _ => H dp'' b11' b12') (fun z => absurd z (by omega)) hax)))))) hax
theorem tm_vA0_q2 {post : Int64 → St2 → Prop} {c d p : Nat} (hc : 1 ≤ c) (hd : d ≤ 3) (hp : p < 64) (tk : tm_TK c a1 a2 a5) (lp : tm_LP d p a8 a9 a10)
    (H : ∀ dp' b11 b12, post (tm_V0 d p) (h, ax, el, kn, nI d, dp', a1, a2, a3, a4, a5, a6, a7, a8, a9, a10, b11, b12, a13)) : wpX_validAxiom_2 post (h, ax, el, kn, nI d, dp, a1, a2, a3, a4, a5, a6, a7, a8, a9, a10, a11, a12, a13) 0 := by
  obtain ⟨k0, k5⟩ := tk.1 hc
  refine ⟨pk_in 0 6 (by omega), ?_⟩
  rw [show (0 : Int32).toNatClampNeg = 0 from rfl, k5, show (144 : Int32) + 24 * 0 = nI 144 from rfl]
  exact tm_F0_q2 hd (by omega) k0 p hp _ _ _ _ _ _ _ _ _ _ _ _ _ _ _ _ _ lp (fun dp' b11 b12 V => tm_validOnes rfl hd V (H dp' b11 b12))
theorem tm_vA1_q2 {post : Int64 → St2 → Prop} {c d p : Nat} (hc : 2 ≤ c) (hc3 : c ≤ 3) (hd : d ≤ 3) (hp : p < 64) (tk : tm_TK c a1 a2 a5) (lp : tm_LP d p a8 a9 a10)
    (H : ∀ dp' b11 b12, post (tm_V1 c d p) (h, ax, el, kn, nI d, dp', a1, a2, a3, a4, a5, a6, a7, a8, a9, a10, b11, b12, a13)) : wpX_validAxiom_2 post (h, ax, el, kn, nI d, dp, a1, a2, a3, a4, a5, a6, a7, a8, a9, a10, a11, a12, a13) 1 := by
  obtain ⟨k1, k2, k3, k5⟩ := tk.2 hc
  refine ⟨pk_in 1 6 (by omega), ?_⟩
  rw [show (1 : Int32).toNatClampNeg = 1 from rfl, k5, show (144 : Int32) + 24 * 1 = nI 168 from rfl]
  by_cases e : c = 2
  · subst e
    exact tm_FP_q2 (a := 4) hd (by omega) (by omega) k1 k2 p hp _ _ _ _ _ _ _ _ _ _ _ _ _ _ _ _ _ lp (fun dp' b11 b12 V => tm_validOnes rfl hd V (H dp' b11 b12))
  · have e3 : c = 3 := by omega
    subst e3
    exact tm_FN_q2 (a := 4) hd (by omega) (by omega) k1 k2 (k3 rfl) p hp _ _ _ _ _ _ _ _ _ _ _ _ _ _ _ _ _ lp (fun dp' b11 b12 V => tm_validOnes rfl hd V (H dp' b11 b12))
theorem tm_mH_q2 {post : Int64 → St2 → Prop} {x : Int32} {c d p : Nat} (hc : c ≤ 3) (hd : d ≤ 3) (hp : p < 64) (hax : ax = nI (tm_ax c)) (tk : tm_TK c a1 a2 a5) (lp : tm_LP d p a8 a9 a10) (hx : x = nI d)
    (H : ∀ dp' b11 b12, post (tm_mb c d p) (h, ax, el, kn, nI d, dp', a1, a2, a3, a4, a5, a6, a7, a8, a9, a10, b11, b12, a13)) : wpX_modelsHere_2 post (h, ax, el, kn, nI d, dp, a1, a2, a3, a4, a5, a6, a7, a8, a9, a10, a11, a12, a13) x (-1) := by
  unfold wpX_modelsHere_2
  dsimp only
  refine tm_wholePart d hx hd ?_
  refine ⟨3, ?_⟩
  rcases (show c = 0 ∨ c = 1 ∨ 2 ≤ c by omega) with e | e | e
  · subst e
    exact pk_le 0 0 (fun _ => H dp a11 a12) (fun z => absurd z (by omega)) hax
  · subst e
    refine pk_le 1 0 (fun z => absurd z (by omega)) (fun _ => br_f (tm_wh0 d) (br_f (by decide) (tm_vA0_q2 (c := 1) (by omega) hd hp tk lp (fun dp' b11 b12 => nm_e (nm_r (show (0 : Int32) + 1 = nI 1 from rfl) ?_))))) hax
    exact pk_le 1 1 (fun _ => H dp' b11 b12) (fun z => absurd z (by omega)) hax
  · have ha : tm_ax c = 2 := by
      unfold tm_ax
      rw [if_neg (by omega)]
    have hm : tm_mb c d p = (tm_wh d &&& tm_V0 d p) &&& tm_V1 c d p := by
      unfold tm_mb
      rw [if_neg (by omega), if_neg (by omega)]
    rw [ha] at hax
    rw [hm] at H
    refine pk_le 2 0 (fun z => absurd z (by omega)) (fun _ => br_f (tm_wh0 d) (br_f (by decide) (tm_vA0_q2 (c := c) (by omega) hd hp tk lp (fun dp' b11 b12 => nm_e (nm_r (show (0 : Int32) + 1 = nI 1 from rfl) ?_))))) hax
    refine pk_le 2 1 (fun z => absurd z (by omega)) (fun _ => br_c (fun z => ?_) (fun z => br_f (by decide) (tm_vA1_q2 e hc hd hp tk lp (fun dp'' b11' b12' => nm_e (nm_r (show nI 1 + 1 = nI 2 from rfl) (pk_le 2 2 (fun _ => H dp'' b11' b12') (fun z => absurd z (by omega)) hax)))))) hax
    have t := H dp' b11 b12
    rw [z, Int64.zero_and] at t
    rw [z]
    exact t
theorem tm_mH0_q2 {post : Int64 → St2 → Prop} {x : Int32} {c d p : Nat} (hc1 : 1 ≤ c) (hc : c ≤ 3) (hd : d ≤ 3) (hp : p < 64) (hax : ax = nI (tm_ax c)) (tk : tm_TK c a1 a2 a5) (lp : tm_LP d p a8 a9 a10) (hx : x = nI d)
    (H : ∀ dp' b11 b12, post (tm_mo c d p) (h, ax, el, kn, nI d, dp', a1, a2, a3, a4, a5, a6, a7, a8, a9, a10, b11, b12, a13)) : wpX_modelsHere_2 post (h, ax, el, kn, nI d, dp, a1, a2, a3, a4, a5, a6, a7, a8, a9, a10, a11, a12, a13) x 0 := by
  unfold wpX_modelsHere_2
  dsimp only
  refine tm_wholePart d hx hd ?_
  refine ⟨3, ?_⟩
  rcases (show c = 1 ∨ 2 ≤ c by omega) with e | e
  · subst e
    refine pk_le 1 0 (fun z => absurd z (by omega)) (fun _ => br_f (tm_wh0 d) (br_t rfl (nm_r (show (0 : Int32) + 1 = nI 1 from rfl) ?_))) hax
    exact pk_le 1 1 (fun _ => H dp a11 a12) (fun z => absurd z (by omega)) hax
  · have ha : tm_ax c = 2 := by
      unfold tm_ax
      rw [if_neg (by omega)]
    have hm : tm_mo c d p = tm_wh d &&& tm_V1 c d p := by
      unfold tm_mo
      rw [if_neg (by omega)]
    rw [ha] at hax
    rw [hm] at H
    refine pk_le 2 0 (fun z => absurd z (by omega)) (fun _ => br_f (tm_wh0 d) (br_t rfl (nm_r (show (0 : Int32) + 1 = nI 1 from rfl) ?_))) hax
    exact pk_le 2 1 (fun z => absurd z (by omega)) (fun _ => br_f (tm_wh0 d) (br_f (by decide) (tm_vA1_q2 e hc hd hp tk lp (fun dp'' b11' b12' => nm_e (nm_r (show nI 1 + 1 = nI 2 from rfl) (pk_le 2 2 (fun _ => H dp'' b11' b12') (fun z => absurd z (by omega)) hax)))))) hax
def tm_mp (c d p : Nat) : Int64 := if p < tm_pa d then tm_mb c d p else 0
theorem tm_find {post : St2 → Prop} {c d : Nat} (hc : c ≤ 3) (hd : d ≤ 3) (hax : ax = nI (tm_ax c)) (hel : el = nI d) (tk : tm_TK c a1 a2 a5) (hk : kn = 0 ∨ (kn = 1 ∧ ∀ p, p < 64 → a6 p = tm_mp c d p))
    (H : ∀ sz' dp' b6 b8 b9 b10 b11 b12, (∀ p, p < 64 → b6 p = tm_mp c d p) → post (h, ax, el, 1, sz', dp', a1, a2, a3, a4, a5, b6, a7, b8, b9, b10, b11, b12, a13)) : wpX_find post (h, ax, el, kn, sz, dp, a1, a2, a3, a4, a5, a6, a7, a8, a9, a10, a11, a12, a13) := by
  have key : ∀ n i, n + i = 64 → ∀ (sz dp : Int32) (a6 a8 a9 a10 a11 a12 : Nat → Int64), (∀ p, p < i → a6 p = tm_mp c d p) → wX_find_15 post (n + 1) (nI i) h ax el 1 sz dp a1 a2 a3 a4 a5 a6 a7 a8 a9 a10 a11 a12 a13 := by
    intro n
    induction n with
    | zero =>
      intro i e sz dp a6 a8 a9 a10 a11 a12 h6
      have e' : i = 64 := by omega
      subst e'
      exact pk_le 64 64 (fun _ => H sz dp a6 a8 a9 a10 a11 a12 h6) (fun z => absurd z (by omega))
    | succ n ih =>
      intro i e sz dp a6 a8 a9 a10 a11 a12 h6
      have hi : vp_in (nI i) 64 := pk_in i 64 (by omega)
      have hcl : (nI i).toNatClampNeg = i := nI_clamp (by omega)
      have hp := tm_pa_le d
      have fill : ∀ (b : Nat → Int64) (x : Int64), (∀ p, p < i → b p = tm_mp c d p) → x = tm_mp c d i → ∀ p, p < i + 1 → vp_updL b i x p = tm_mp c d p := by
        intro b x hb hx p hp
        by_cases q : p = i
        · rw [q, pk_uLs, hx]
        · rw [pk_uLn q]
          exact hb p (by omega)
      have keep : ∀ (b : Nat → Int64) (x : Int64), (∀ p, p < i → b p = tm_mp c d p) → ∀ p, p < i → vp_updL b i x p = tm_mp c d p := by
        intro b x hb p hp
        rw [pk_uLn (by omega)]
        exact hb p (by omega)
      refine pk_le 64 i (fun z => absurd z (by omega)) (fun _ => ⟨hi, ?_⟩)
      rw [hcl]
      refine nm_e (tm_partsOf d hel hd (pk_le (tm_pa d) i (fun z => nm_r (nI_1 i) (ih (i + 1) (by omega) _ _ _ _ _ _ _ _ (fill _ _ h6 ?_))) (fun z => tm_layPart d i hel rfl hd (by omega) (fun b8 b9 b10 lp => ?_))))
      · unfold tm_mp
        rw [if_neg (by omega)]
      · refine tm_mH_q hc hd (by omega) hax tk lp hel (fun dp' b11 b12 => ⟨hi, ?_⟩)
        refine nm_e (nm_r (nI_1 i) (ih (i + 1) (by omega) _ _ _ _ _ _ _ _ (fill _ _ (keep _ _ h6) ?_)))
        unfold tm_mp
        rw [if_pos z]
  rcases hk with e | ⟨e, h6⟩
  · subst e
    exact br_t rfl ⟨65, key 64 0 (by omega) _ _ _ _ _ _ _ _ (fun p hp => absurd hp (by omega))⟩
  · subst e
    exact br_f (by decide) (H _ _ _ _ _ _ _ _ h6)
end
end
section
section
variable {h ax el kn sz dp : Int32} {a1 a2 a3 a4 a5 : Nat → Int32} {a6 : Nat → Int64} {a7 : Nat → Int32} {a8 a9 a10 a11 a12 a13 : Nat → Int64}
def tm_sum (f : Nat → Nat) : Nat → Nat
  | 0 => 0
  | n + 1 => tm_sum f n + f n
def tm_any (f : Nat → Bool) : Nat → Bool
  | 0 => false
  | n + 1 => tm_any f n || f n
theorem tm_any_t {f : Nat → Bool} {p : Nat} (hp : f p = true) : ∀ n, p < n → tm_any f n = true := by
  intro n
  induction n with
  | zero => intro h; exact absurd h (by omega)
  | succ n ih =>
    intro h
    show (tm_any f n || f n) = true
    by_cases e : p = n
    · rw [← e, hp, Bool.or_true]
    · rw [ih (by omega), Bool.true_or]
theorem tm_validTop {post : Int64 → St2 → Prop} {d p q : Nat} {t : Nat → Nat → Int64} (hh : h = nI (q + 1)) (hq : q < 6) (hd : d ≤ 3) (hp : p < 64) (lp : tm_LP d p a8 a9 a10) (wo : tm_WO_q2 d t a1 a2 (a3 q) (a4 q))
    (H : ∀ dp' b11 b12, post (tm_vo d (t p) 27) (h, ax, el, kn, nI d, dp', a1, a2, a3, a4, a5, a6, a7, a8, a9, a10, b11, b12, a13)) : wpX_validTop post (h, ax, el, kn, nI d, dp, a1, a2, a3, a4, a5, a6, a7, a8, a9, a10, a11, a12, a13) := by
  subst hh
  have e : nI (q + 1) - 1 = nI q := nI_pred q
  refine ⟨pk_in q 6 hq e, pk_in q 6 hq e, ?_⟩
  rw [e, nI_clamp (show q < 2 ^ 31 by omega)]
  exact wo p hp _ _ _ _ _ _ _ _ _ _ _ _ _ _ _ _ _ lp (fun dp' b11 b12 V => tm_validOnes rfl hd V (H dp' b11 b12))
def tm_ag (c d : Nat) (t : Nat → Nat → Int64) (p : Nat) : Nat := if tm_mp c d p = 0 then 0 else tm_pc 64 (tm_mp c d p &&& tm_vo d (t p) 27)
theorem tm_agreeing {post : Int32 → St2 → Prop} {c d q : Nat} {t : Nat → Nat → Int64} (hc : c ≤ 3) (hd : d ≤ 3) (hax : ax = nI (tm_ax c)) (hel : el = nI d) (tk : tm_TK c a1 a2 a5) (hk : kn = 0 ∨ (kn = 1 ∧ ∀ p, p < 64 → a6 p = tm_mp c d p))
    (hh : h = nI (q + 1)) (hq : q < 6) (wo : tm_WO_q2 d t a1 a2 (a3 q) (a4 q))
    (H : ∀ sz' dp' b6 b8 b9 b10 b11 b12, (∀ p, p < 64 → b6 p = tm_mp c d p) → post (nI (tm_sum (tm_ag c d t) (tm_pa d))) (h, ax, el, 1, sz', dp', a1, a2, a3, a4, a5, b6, a7, b8, b9, b10, b11, b12, a13)) : wpX_agreeing post (h, ax, el, kn, sz, dp, a1, a2, a3, a4, a5, a6, a7, a8, a9, a10, a11, a12, a13) := by
  have hp := tm_pa_le d
  have key : ∀ n i, n + i = tm_pa d → ∀ (sz dp : Int32) (a6 a8 a9 a10 a11 a12 : Nat → Int64), (∀ p, p < 64 → a6 p = tm_mp c d p) → wX_agreeing_17 post (n + 1) (nI (tm_sum (tm_ag c d t) i)) (nI i) h ax el 1 sz dp a1 a2 a3 a4 a5 a6 a7 a8 a9 a10 a11 a12 a13 := by
    intro n
    induction n with
    | zero =>
      intro i e sz dp a6 a8 a9 a10 a11 a12 h6
      have e' : i = tm_pa d := by omega
      subst e'
      rw [wX_agreeing_17]
      refine tm_partsOf d hel hd ?_
      exact pk_le (tm_pa d) (tm_pa d) (fun _ => H sz dp a6 a8 a9 a10 a11 a12 h6) (fun z => absurd z (by omega))
    | succ n ih =>
      intro i e sz dp a6 a8 a9 a10 a11 a12 h6
      have hi : vp_in (nI i) 64 := pk_in i 64 (by omega)
      have hcl : (nI i).toNatClampNeg = i := nI_clamp (by omega)
      rw [wX_agreeing_17]
      refine tm_partsOf d hel hd ?_
      refine pk_le (tm_pa d) i (fun z => absurd z (by omega)) (fun _ => ⟨hi, ?_⟩)
      rw [hcl]
      refine br_c (fun z => nm_r (nI_1 i) ?_) (fun z => tm_layPart d i hel rfl hd (by omega) (fun b8 b9 b10 lp => ⟨hi, ?_⟩))
      · have t0 := ih (i + 1) (by omega) sz dp a6 a8 a9 a10 a11 a12 h6
        have t1 : tm_sum (tm_ag c d t) (i + 1) = tm_sum (tm_ag c d t) i := by
          show tm_sum (tm_ag c d t) i + tm_ag c d t i = tm_sum (tm_ag c d t) i
          rw [h6 i (by omega)] at z
          unfold tm_ag
          rw [if_pos z, Nat.add_zero]
        rw [t1] at t0
        exact t0
      · refine tm_validTop hh hq hd (by omega) lp wo (fun dp' b11 b12 => nm_e ?_)
        refine tm_ones (nm_r ?_ (nm_r (nI_1 i) (ih (i + 1) (by omega) _ _ _ _ _ _ _ _ h6)))
        rw [nI_add, h6 i (by omega)]
        rw [h6 i (by omega)] at z
        show nI (tm_sum (tm_ag c d t) i + _) = nI (tm_sum (tm_ag c d t) i + tm_ag c d t i)
        unfold tm_ag
        rw [if_neg z]
  refine br_f (by rw [hh]; exact nI_ne0 (by omega) (by omega)) ?_
  refine tm_find hc hd hax hel tk hk (fun sz' dp' b6 b8 b9 b10 b11 b12 h6 => ?_)
  exact ⟨tm_pa d + 1, key (tm_pa d) 0 (by omega) _ _ _ _ _ _ _ _ h6⟩
theorem tm_models {post : Int32 → St2 → Prop} {c d : Nat} (hc : c ≤ 3) (hd : d ≤ 3) (hax : ax = nI (tm_ax c)) (hel : el = nI d) (tk : tm_TK c a1 a2 a5) (hk : kn = 0 ∨ (kn = 1 ∧ ∀ p, p < 64 → a6 p = tm_mp c d p))
    (H : ∀ sz' dp' b6 b8 b9 b10 b11 b12, (∀ p, p < 64 → b6 p = tm_mp c d p) → post (nI (tm_sum (fun p => tm_pc 64 (tm_mp c d p)) 64)) (h, ax, el, 1, sz', dp', a1, a2, a3, a4, a5, b6, a7, b8, b9, b10, b11, b12, a13)) : wpX_models post (h, ax, el, kn, sz, dp, a1, a2, a3, a4, a5, a6, a7, a8, a9, a10, a11, a12, a13) := by
  refine tm_find hc hd hax hel tk hk (fun sz' dp' b6 b8 b9 b10 b11 b12 h6 => ?_)
  refine pk_loop (fun n i s => wX_models_8 post h ax el 1 sz' dp' a1 a2 a3 a4 a5 b6 a7 b8 b9 b10 b11 b12 a13 n s (nI i)) (fun i s => s = nI (tm_sum (fun p => tm_pc 64 (tm_mp c d p)) i)) 64 0 0 (by omega) rfl ?_ ?_
  · exact fun n s hs => pk_le 64 64 (fun _ => by rw [hs]; exact H _ _ _ _ _ _ _ _ h6) (fun z => absurd z (by omega))
  · intro n i s hi hs hw
    have hcl : (nI i).toNatClampNeg = i := nI_clamp (by omega)
    refine pk_le 64 i (fun z => absurd z (by omega)) (fun _ => ⟨pk_in i 64 hi, ?_⟩)
    rw [hcl, h6 i hi]
    refine tm_ones (nm_r ?_ (nm_r (nI_1 i) (hw (nI (tm_sum (fun p => tm_pc 64 (tm_mp c d p)) (i + 1))) rfl)))
    rw [hs, nI_add]
    rfl
def tm_bI (b : Bool) : Int32 := if b then 1 else 0
def tm_fw (c d b p : Nat) : Bool := !(decide (tm_mp c d p &&& tm_wd b p = 0))
def tm_fo (c d b p : Nat) : Bool := !(decide (tm_mp c d p &&& (tm_wd b p ^^^ (-1)) = 0))
def tm_fr (w o : Bool) : Int32 := if w then (if o then 2 else 1) else (if o then 0 else 3)
theorem tm_f67 {post : Int32 → St2 → Prop} {J : Int32 → Int32 → Int32 → Prop} {c d b i : Nat} {o : Bool} {x z : Int32} (hi : i < 64) (h6 : a6 i = tm_mp c d i)
    (H : J z (tm_bI (o || tm_fo c d b i)) (nI (i + 1))) : wX_forced_67 post J x (tm_bI o) (nI i) (tm_wd b i) z h ax el kn sz dp a1 a2 a3 a4 a5 a6 a7 a8 a9 a10 a11 a12 a13 := by
  have hcl : (nI i).toNatClampNeg = i := nI_clamp (by omega)
  unfold wX_forced_67
  rw [hcl, h6]
  cases o with
  | true =>
    rw [Bool.true_or] at H
    exact br_f (by decide) (nm_r (nI_1 i) H)
  | false =>
    rw [Bool.false_or] at H
    refine br_t rfl ⟨pk_in i 64 hi, br_c (fun g => nm_r (nI_1 i) ?_) (fun g => nm_r (nI_1 i) ?_)⟩
    · have e : tm_fo c d b i = false := by unfold tm_fo; rw [decide_eq_true g]; rfl
      rw [e] at H
      exact H
    · have e : tm_fo c d b i = true := by unfold tm_fo; rw [decide_eq_false g]; rfl
      rw [e] at H
      exact H
theorem tm_forced {post : Int32 → St2 → Prop} {c d b : Nat} {x : Int32} (hx : x = nI b) (hb : b < d + d * d) (hc : c ≤ 3) (hd : d ≤ 3) (hax : ax = nI (tm_ax c)) (hel : el = nI d) (tk : tm_TK c a1 a2 a5) (hk : kn = 0 ∨ (kn = 1 ∧ ∀ p, p < 64 → a6 p = tm_mp c d p))
    (H : ∀ sz' dp' b6 b8 b9 b10 b11 b12, (∀ p, p < 64 → b6 p = tm_mp c d p) → post (tm_fr (tm_any (tm_fw c d b) 64) (tm_any (tm_fo c d b) 64)) (h, ax, el, 1, sz', dp', a1, a2, a3, a4, a5, b6, a7, b8, b9, b10, b11, b12, a13)) : wpX_forced post (h, ax, el, kn, sz, dp, a1, a2, a3, a4, a5, a6, a7, a8, a9, a10, a11, a12, a13) x := by
  subst hx hel
  have hdd : d * d ≤ 3 * 3 := Nat.mul_le_mul hd hd
  refine br_f (nI_pos (by omega)) ?_
  refine pk_lt b (d + d * d) (fun _ => ?_) (fun z => absurd z (by omega)) rfl (by rw [pk_mul, nI_add])
  refine tm_find hc hd hax rfl tk hk (fun sz' dp' b6 b8 b9 b10 b11 b12 h6 => ?_)
  refine pk_loop (σ := Unit) (fun n i _ => wX_forced_28 post (nI b) h ax (nI d) 1 sz' dp' a1 a2 a3 a4 a5 b6 a7 b8 b9 b10 b11 b12 a13 n (tm_bI (tm_any (tm_fw c d b) i)) (tm_bI (tm_any (tm_fo c d b) i)) (nI i)) (fun _ _ => True) 64 0 () (by omega) trivial ?_ ?_
  · intro n _ _
    have h' := H sz' dp' b6 b8 b9 b10 b11 b12 h6
    refine pk_le 64 64 (fun _ => ?_) (fun z => absurd z (by omega))
    generalize tm_any (tm_fw c d b) 64 = w at h' ⊢
    generalize tm_any (tm_fo c d b) 64 = o at h' ⊢
    cases w with
    | false =>
      cases o with
      | false => exact br_t rfl (br_t rfl (br_t rfl h'))
      | true => exact br_t rfl (br_t rfl (br_f (by decide) h'))
    | true =>
      cases o with
      | false => exact br_f (by decide) (br_t rfl (br_f (by decide) h'))
      | true => exact br_f (by decide) (br_f (by decide) h')
  · intro n i _ hi _ hw
    have hcl : (nI i).toNatClampNeg = i := nI_clamp (by omega)
    have hw' : wX_forced_28 post (nI b) h ax (nI d) 1 sz' dp' a1 a2 a3 a4 a5 b6 a7 b8 b9 b10 b11 b12 a13 n (tm_bI (tm_any (tm_fw c d b) i || tm_fw c d b i)) (tm_bI (tm_any (tm_fo c d b) i || tm_fo c d b i)) (nI (i + 1)) := hw () trivial
    refine pk_le 64 i (fun z => absurd z (by omega)) (fun _ => tm_withDigit b i rfl rfl (by omega) hi ?_)
    generalize tm_any (tm_fw c d b) i = w at hw' ⊢
    rw [hcl, h6 i hi]
    cases w with
    | true =>
      rw [Bool.true_or] at hw'
      exact br_f (by decide) (tm_f67 hi (h6 i hi) hw')
    | false =>
      rw [Bool.false_or] at hw'
      refine br_t rfl ⟨pk_in i 64 hi, br_c (fun g => ?_) (fun g => ?_)⟩
      · have e : tm_fw c d b i = false := by simp [tm_fw, g]
        rw [e] at hw'
        exact tm_f67 hi (h6 i hi) hw'
      · have e : tm_fw c d b i = true := by simp [tm_fw, g]
        rw [e] at hw'
        exact tm_f67 hi (h6 i hi) hw'
theorem tm_smallest {post : Int32 → St2 → Prop} {c : Nat} (hc : c ≤ 3) (hax : ax = nI (tm_ax c)) (tk : tm_TK c a1 a2 a5) (hn : ¬ tm_mb c 1 0 = 0)
    (H : ∀ sz' dp' b8 b9 b10 b11 b12, post 1 (h, ax, el, kn, sz', dp', a1, a2, a3, a4, a5, a6, a7, b8, b9, b10, b11, b12, a13)) : wpX_smallest post (h, ax, el, kn, sz, dp, a1, a2, a3, a4, a5, a6, a7, a8, a9, a10, a11, a12, a13) := by
  refine ⟨1, br_f (by decide) ⟨1, ?_⟩⟩
  rw [wX_smallest_9]
  refine tm_partsOf 1 rfl (by omega) ?_
  refine pk_le 1 0 (fun z => absurd z (by omega)) (fun _ => tm_layPart 1 0 rfl rfl (by omega) (by omega) (fun b8 b9 b10 lp => ?_))
  exact tm_mH_q2 hc (by omega) (by omega) hax tk lp rfl (fun dp' b11 b12 => br_f hn (H _ _ _ _ _ _ _))
end
end
section
section
variable {h ax el kn sz dp : Int32} {a1 a2 a3 a4 a5 : Nat → Int32} {a6 : Nat → Int64} {a7 : Nat → Int32} {a8 a9 a10 a11 a12 a13 : Nat → Int64}
def tm_im (q e : Nat) : Nat := if e = 2 then (if q < 2 then 2 else if q < 4 then 1 else 0) else if q % 2 = e then (if q < 4 then 0 else 1) else (if q < 2 then 1 else 2)
def tm_IM (a7 : Nat → Int32) : Prop := ∀ q e, q < 6 → e < 3 → a7 (3 * q + e) = nI (tm_im q e)
def tm_mq (d : Nat) : Nat := if d = 1 then 1 else if d = 2 then 2 else 6
theorem tm_mq_le (d : Nat) : tm_mq d ≤ 6 ∧ 1 ≤ tm_mq d := by
  unfold tm_mq
  split
  · omega
  · split <;> omega
theorem tm_mapsOf {post : Int32 → Prop} {x : Int32} (d : Nat) (hx : x = nI d) (hd : d ≤ 3) (H : post (nI (tm_mq d))) : wpX_mapsOf post () x := by
  subst hx
  unfold wpX_mapsOf
  refine pk_eq d 1 (fun z => by subst z; exact H) (fun z => pk_eq d 2 (fun z2 => by subst z2; exact H) (fun z2 => ?_))
  have e : tm_mq d = 6 := by simp [tm_mq, z, z2]
  rw [e] at H
  exact H
theorem tm_im_lt : ∀ d, d < 4 → 1 ≤ d → ∀ q, q < tm_mq d → ∀ e, e < d → tm_im q e < d := by decide +kernel
def tm_sf (d p q e : Nat) (w : Int64) : Nat → Int64
  | 0 => w
  | f + 1 => tm_sf d p q e w f &&& ((tm_g9 d p (3 * e + f) ^^^ tm_g9 d p (3 * tm_im q e + tm_im q f)) ^^^ (-1))
def tm_se (d p q : Nat) : Nat → Int64
  | 0 => -1
  | e + 1 => tm_sf d p q e (tm_se d p q e &&& ((tm_wd e p ^^^ tm_wd (tm_im q e) p) ^^^ (-1))) d
theorem tm_still54 {post : Int64 → Prop} {J : Int64 → Int32 → Prop} {d p q e : Nat} {w : Int64} (hd1 : 1 ≤ d) (hd : d ≤ 3) (hq : q < tm_mq d) (he : e < d) (im : tm_IM a7) (lp : tm_LP d p a8 a9 a10)
    (H : J (tm_sf d p q e w d) (nI (e + 1))) : ∃ n, wX_stillUnder_54 post J (nI q) (nI e) (nI (tm_im q e)) h ax el kn (nI d) dp a1 a2 a3 a4 a5 a6 a7 a8 a9 a10 a11 a12 a13 n w 0 := by
  have hq6 := tm_mq_le d
  refine pk_loop (fun n i s => wX_stillUnder_54 post J (nI q) (nI e) (nI (tm_im q e)) h ax el kn (nI d) dp a1 a2 a3 a4 a5 a6 a7 a8 a9 a10 a11 a12 a13 n s (nI i)) (fun i s => s = tm_sf d p q e w i) d 0 w (by omega) rfl ?_ ?_
  · exact fun n s hs => pk_le d d (fun _ => nm_r (nI_1 e) (by rw [hs]; exact H)) (fun z => absurd z (by omega))
  · intro n i s hi hs hw
    have l1 := tm_im_lt d (by omega) hd1 q hq e he
    have l2 := tm_im_lt d (by omega) hd1 q hq i hi
    refine pk_le d i (fun z => absurd z (by omega)) (fun _ => ?_)
    rw [tm_cl3 (e := q) (f := i) (by omega), im q i (by omega) (by omega), tm_cl3 (e := e) (f := i) (by omega), tm_cl3 (e := tm_im q e) (f := tm_im q i) (by omega), lp.2.1 e i he hi, lp.2.1 _ _ l1 l2]
    refine ⟨pk_in (3 * e + i) 9 (by omega) (tm_ix 3 e i), pk_in (3 * q + i) 18 (by omega) (tm_ix 3 q i), pk_in (3 * tm_im q e + tm_im q i) 9 (by omega) (tm_ix 3 _ _), nm_e (nm_r (nI_1 i) (hw _ ?_))⟩
    rw [hs]
    rfl
theorem tm_stillUnder {post : Int64 → Prop} {d p q : Nat} (hd1 : 1 ≤ d) (hd : d ≤ 3) (hq : q < tm_mq d) (im : tm_IM a7) (lp : tm_LP d p a8 a9 a10)
    (H : post (tm_se d p q d)) : wpX_stillUnder post (h, ax, el, kn, nI d, dp, a1, a2, a3, a4, a5, a6, a7, a8, a9, a10, a11, a12, a13) (nI q) := by
  have hq6 := tm_mq_le d
  refine pk_loop (fun n i s => wX_stillUnder_7 post (nI q) h ax el kn (nI d) dp a1 a2 a3 a4 a5 a6 a7 a8 a9 a10 a11 a12 a13 n s (nI i)) (fun i s => s = tm_se d p q i) d 0 (-1) (by omega) rfl ?_ ?_
  · exact fun n s hs => pk_le d d (fun _ => by rw [hs]; exact H) (fun z => absurd z (by omega))
  · intro n i s hi hs hw
    have l1 := tm_im_lt d (by omega) hd1 q hq i hi
    have hc1 : (nI i).toNatClampNeg = i := nI_clamp (by omega)
    have hc2 : (nI (tm_im q i)).toNatClampNeg = tm_im q i := nI_clamp (by omega)
    refine pk_le d i (fun z => absurd z (by omega)) (fun _ => ?_)
    rw [tm_cl3 (e := q) (f := i) (by omega), im q i (by omega) (by omega)]
    refine ⟨pk_in (3 * q + i) 18 (by omega) (tm_ix 3 q i), nm_e ⟨pk_in i 3 (by omega), pk_in (tm_im q i) 3 (by omega), ?_⟩⟩
    rw [hc1, hc2, lp.1 i hi, lp.1 _ l1]
    refine nm_e (tm_still54 hd1 hd hq hi im lp (hw _ ?_))
    rw [hs]
    rfl
def tm_fx (d p : Nat) (w : Int64) : Nat := tm_sum (fun q => tm_pc 64 (w &&& tm_se d p q d)) (tm_mq d)
theorem tm_fixedHere {post : Int32 → Prop} {d p : Nat} {w : Int64} (hd1 : 1 ≤ d) (hd : d ≤ 3) (im : tm_IM a7) (lp : tm_LP d p a8 a9 a10)
    (H : post (nI (tm_fx d p w))) : wpX_fixedHere post (h, ax, el, kn, nI d, dp, a1, a2, a3, a4, a5, a6, a7, a8, a9, a10, a11, a12, a13) (nI (tm_mq d)) w := by
  have hq6 := tm_mq_le d
  refine pk_loop (fun n i s => wX_fixedHere_6 post (nI (tm_mq d)) w h ax el kn (nI d) dp a1 a2 a3 a4 a5 a6 a7 a8 a9 a10 a11 a12 a13 n s (nI i)) (fun i s => s = nI (tm_sum (fun q => tm_pc 64 (w &&& tm_se d p q d)) i)) (tm_mq d) 0 0 (by omega) rfl ?_ ?_
  · exact fun n s hs => pk_le (tm_mq d) (tm_mq d) (fun _ => by rw [hs]; exact H) (fun z => absurd z (by omega))
  · intro n i s hi hs hw
    refine pk_le (tm_mq d) i (fun z => absurd z (by omega)) (fun _ => tm_stillUnder hd1 hd hi im lp (nm_e (tm_ones (nm_r ?_ (nm_r (nI_1 i) (hw (nI (tm_sum (fun q => tm_pc 64 (w &&& tm_se d p q d)) (i + 1))) rfl))))))
    rw [hs, nI_add]
    rfl
def tm_sh (c d p : Nat) : Nat := if tm_mp c d p = 0 then 0 else tm_fx d p (tm_mp c d p)
theorem tm_shapes {post : Int32 → St2 → Prop} {c d : Nat} (hd1 : 1 ≤ d) (hc : c ≤ 3) (hd : d ≤ 3) (hax : ax = nI (tm_ax c)) (hel : el = nI d) (tk : tm_TK c a1 a2 a5) (hk : kn = 0 ∨ (kn = 1 ∧ ∀ p, p < 64 → a6 p = tm_mp c d p)) (im : tm_IM a7)
    (H : ∀ sz' dp' b6 b8 b9 b10 b11 b12, (∀ p, p < 64 → b6 p = tm_mp c d p) → post (nI (tm_sum (tm_sh c d) (tm_pa d)) / nI (tm_mq d)) (h, ax, el, 1, sz', dp', a1, a2, a3, a4, a5, b6, a7, b8, b9, b10, b11, b12, a13)) : wpX_shapes post (h, ax, el, kn, sz, dp, a1, a2, a3, a4, a5, a6, a7, a8, a9, a10, a11, a12, a13) := by
  have hp := tm_pa_le d
  have hq6 := tm_mq_le d
  have hq0 : ¬ nI (tm_mq d) = 0 := nI_ne0 (by omega) (by omega)
  have key : ∀ n i, n + i = tm_pa d → ∀ (sz dp : Int32) (a6 a8 a9 a10 a11 a12 : Nat → Int64), (∀ p, p < 64 → a6 p = tm_mp c d p) → wX_shapes_16 post (nI (tm_mq d)) (n + 1) (nI (tm_sum (tm_sh c d) i)) (nI i) h ax el 1 sz dp a1 a2 a3 a4 a5 a6 a7 a8 a9 a10 a11 a12 a13 := by
    intro n
    induction n with
    | zero =>
      intro i e sz dp a6 a8 a9 a10 a11 a12 h6
      have e' : i = tm_pa d := by omega
      subst e'
      rw [wX_shapes_16]
      refine tm_partsOf d hel hd ?_
      exact pk_le (tm_pa d) (tm_pa d) (fun _ => br_f hq0 ⟨hq0, H sz dp a6 a8 a9 a10 a11 a12 h6⟩) (fun z => absurd z (by omega))
    | succ n ih =>
      intro i e sz dp a6 a8 a9 a10 a11 a12 h6
      have hi : vp_in (nI i) 64 := pk_in i 64 (by omega)
      have hcl : (nI i).toNatClampNeg = i := nI_clamp (by omega)
      rw [wX_shapes_16]
      refine tm_partsOf d hel hd ?_
      refine pk_le (tm_pa d) i (fun z => absurd z (by omega)) (fun _ => ⟨hi, ?_⟩)
      rw [hcl]
      refine br_c (fun z => nm_r (nI_1 i) ?_) (fun z => tm_layPart d i hel rfl hd (by omega) (fun b8 b9 b10 lp => ⟨hi, ?_⟩))
      · have t0 := ih (i + 1) (by omega) sz dp a6 a8 a9 a10 a11 a12 h6
        have t1 : tm_sum (tm_sh c d) (i + 1) = tm_sum (tm_sh c d) i := by
          show tm_sum (tm_sh c d) i + tm_sh c d i = tm_sum (tm_sh c d) i
          rw [h6 i (by omega)] at z
          unfold tm_sh
          rw [if_pos z, Nat.add_zero]
        rw [t1] at t0
        exact t0
      · refine tm_fixedHere hd1 hd im lp (nm_r ?_ (nm_r (nI_1 i) (ih (i + 1) (by omega) _ _ _ _ _ _ _ _ h6)))
        rw [nI_add, h6 i (by omega)]
        rw [h6 i (by omega)] at z
        show nI (tm_sum (tm_sh c d) i + _) = nI (tm_sum (tm_sh c d) i + tm_sh c d i)
        unfold tm_sh
        rw [if_neg z]
  refine tm_find hc hd hax hel tk hk (fun sz' dp' b6 b8 b9 b10 b11 b12 h6 => ?_)
  refine tm_mapsOf d hel hd ?_
  exact ⟨tm_pa d + 1, key (tm_pa d) 0 (by omega) _ _ _ _ _ _ _ _ h6⟩
def tm_df (d : Nat) (t t' : Nat → Int64) : Nat → Int64
  | 0 => 0
  | l + 1 => if tm_vl d l = true then tm_df d t t' l ||| (t l ^^^ t' l) else tm_df d t t' l
theorem tm_differing {post : Int64 → St2 → Prop} {d p : Nat} {t t' : Nat → Nat → Int64} (hh : h = nI 2) (hd : d ≤ 3) (hp : p < 64) (lp : tm_LP d p a8 a9 a10) (wo : tm_WO_q2 d t a1 a2 (a3 0) (a4 0)) (wo' : tm_WO_q2 d t' a1 a2 (a3 1) (a4 1))
    (H : ∀ dp' b11 b12 b13, post (tm_df d (t p) (t' p) 27) (h, ax, el, kn, nI d, dp', a1, a2, a3, a4, a5, a6, a7, a8, a9, a10, b11, b12, b13)) : wpX_differing post (h, ax, el, kn, nI d, dp, a1, a2, a3, a4, a5, a6, a7, a8, a9, a10, a11, a12, a13) := by
  subst hh
  refine ⟨pk_in 0 6 (by omega), pk_in 0 6 (by omega), ?_⟩
  rw [show (nI 2 - 2).toNatClampNeg = 0 from rfl]
  refine wo p hp _ _ _ _ _ _ _ _ _ _ _ _ _ _ _ _ _ lp (fun dp' b11 b12 V => ?_)
  refine pk_loop (fun n i s => wX_differing_28 post (nI 2) ax el kn (nI d) dp' n (nI i) a1 a2 a3 a4 a5 a6 a7 a8 a9 a10 b11 b12 s) (fun i s => ∀ l, l < i → s l = b11 l) 27 0 a13 (by omega) (fun l hl => absurd hl (by omega)) ?_ ?_
  · intro n s hs
    refine pk_le 27 27 (fun _ => ⟨pk_in 1 6 (by omega), pk_in 1 6 (by omega), ?_⟩) (fun z => absurd z (by omega))
    rw [show (nI 2 - 1).toNatClampNeg = 1 from rfl]
    refine wo' p hp _ _ _ _ _ _ _ _ _ _ _ _ _ _ _ _ _ lp (fun dp'' c11 c12 V' => ?_)
    refine pk_loop (fun n i w => wX_differing_82 post (nI 2) ax el kn (nI d) dp'' a1 a2 a3 a4 a5 a6 a7 a8 a9 a10 c11 c12 s n w (nI i)) (fun i w => w = tm_df d (t p) (t' p) i) 27 0 0 (by omega) rfl ?_ ?_
    · exact fun n w hw => pk_le 27 27 (fun _ => by rw [hw]; exact H dp'' c11 c12 s) (fun z => absurd z (by omega))
    · intro n i w hi hw hx
      have hc : (nI i).toNatClampNeg = i := nI_clamp (by omega)
      refine pk_le 27 i (fun z => absurd z (by omega)) (fun _ => tm_isList d i rfl rfl hd hi (fun hv => br_f (by decide) ⟨pk_in i 27 hi, pk_in i 378 (by omega), ?_⟩) (fun hv => br_t rfl (nm_r (nI_1 i) (hx w ?_))))
      · rw [hc, hs i hi, V i hi hv, V' i hi hv]
        refine nm_e (nm_r (nI_1 i) (hx _ ?_))
        show w ||| (t p i ^^^ t' p i) = if tm_vl d i = true then tm_df d (t p) (t' p) i ||| (t p i ^^^ t' p i) else tm_df d (t p) (t' p) i
        rw [if_pos hv, hw]
      · show w = if tm_vl d i = true then tm_df d (t p) (t' p) i ||| (t p i ^^^ t' p i) else tm_df d (t p) (t' p) i
        rw [if_neg (by rw [hv]; decide), hw]
  · intro n i s hi hs hw
    have hc : (nI i).toNatClampNeg = i := nI_clamp (by omega)
    refine pk_le 27 i (fun z => absurd z (by omega)) (fun _ => ⟨pk_in i 378 (by omega), pk_in i 27 hi, ?_⟩)
    rw [hc]
    refine nm_e (nm_r (nI_1 i) (hw _ ?_))
    intro l hl
    by_cases q : l = i
    · rw [q, pk_uLs]
    · rw [pk_uLn q]
      exact hs l (by omega)
theorem tm_alike {post : Int32 → St2 → Prop} {c d : Nat} {t t' : Nat → Nat → Int64} (hc : c ≤ 3) (hd : d ≤ 3) (hax : ax = nI (tm_ax c)) (hel : el = nI d) (tk : tm_TK c a1 a2 a5) (hk : kn = 0 ∨ (kn = 1 ∧ ∀ p, p < 64 → a6 p = tm_mp c d p))
    (hh : h = nI 2) (wo : tm_WO_q2 d t a1 a2 (a3 0) (a4 0)) (wo' : tm_WO_q2 d t' a1 a2 (a3 1) (a4 1)) (hs : ∀ p, p < tm_pa d → (tm_mp c d p = 0 ∨ tm_df d (t p) (t' p) 27 &&& tm_mp c d p = 0))
    (H : ∀ sz' dp' b6 b8 b9 b10 b11 b12 b13, (∀ p, p < 64 → b6 p = tm_mp c d p) → post 1 (h, ax, el, 1, sz', dp', a1, a2, a3, a4, a5, b6, a7, b8, b9, b10, b11, b12, b13)) : wpX_alike post (h, ax, el, kn, sz, dp, a1, a2, a3, a4, a5, a6, a7, a8, a9, a10, a11, a12, a13) := by
  have hp := tm_pa_le d
  have key : ∀ n i, n + i = tm_pa d → ∀ (sz dp : Int32) (a6 a8 a9 a10 a11 a12 a13 : Nat → Int64), (∀ p, p < 64 → a6 p = tm_mp c d p) → wX_alike_16 post (n + 1) (nI i) h ax el 1 sz dp a1 a2 a3 a4 a5 a6 a7 a8 a9 a10 a11 a12 a13 := by
    intro n
    induction n with
    | zero =>
      intro i e sz dp a6 a8 a9 a10 a11 a12 a13 h6
      have e' : i = tm_pa d := by omega
      subst e'
      rw [wX_alike_16]
      refine tm_partsOf d hel hd ?_
      exact pk_le (tm_pa d) (tm_pa d) (fun _ => H sz dp a6 a8 a9 a10 a11 a12 a13 h6) (fun z => absurd z (by omega))
    | succ n ih =>
      intro i e sz dp a6 a8 a9 a10 a11 a12 a13 h6
      have hi : vp_in (nI i) 64 := pk_in i 64 (by omega)
      have hcl : (nI i).toNatClampNeg = i := nI_clamp (by omega)
      rw [wX_alike_16]
      refine tm_partsOf d hel hd ?_
      refine pk_le (tm_pa d) i (fun z => absurd z (by omega)) (fun _ => ⟨hi, ?_⟩)
      rw [hcl]
      refine br_c (fun z => nm_r (nI_1 i) (ih (i + 1) (by omega) _ _ _ _ _ _ _ _ _ h6)) (fun z => tm_layPart d i hel rfl hd (by omega) (fun b8 b9 b10 lp => ?_))
      refine tm_differing hh hd (by omega) lp wo wo' (fun dp' b11 b12 b13 => ⟨hi, ?_⟩)
      rw [h6 i (by omega)] at z ⊢
      exact br_t ((hs i (by omega)).resolve_left z) (nm_r (nI_1 i) (ih (i + 1) (by omega) _ _ _ _ _ _ _ _ _ h6))
  refine br_t (by rw [hh]; decide) ?_
  refine tm_find hc hd hax hel tk hk (fun sz' dp' b6 b8 b9 b10 b11 b12 h6 => ?_)
  exact ⟨tm_pa d + 1, key (tm_pa d) 0 (by omega) _ _ _ _ _ _ _ _ _ h6⟩
def tm_bad (c d p : Nat) : Bool := !(decide (tm_mo c d p = 0)) && !(decide (tm_mo c d p &&& tm_V0 d p = tm_mo c d p))
theorem tm_independent {post : Int32 → St2 → Prop} {c d : Nat} (hc1 : 1 ≤ c) (hc : c ≤ 3) (hd : d ≤ 3) (hax : ax = nI (tm_ax c)) (hel : el = nI d) (tk : tm_TK c a1 a2 a5)
    (H : ∀ sz' dp' b8 b9 b10 b11 b12, post (tm_bI (tm_any (tm_bad c d) (tm_pa d))) (h, ax, el, kn, sz', dp', a1, a2, a3, a4, a5, a6, a7, b8, b9, b10, b11, b12, a13)) : wpX_independent post (h, ax, el, kn, sz, dp, a1, a2, a3, a4, a5, a6, a7, a8, a9, a10, a11, a12, a13) 0 := by
  have hp := tm_pa_le d
  have key : ∀ n i, n + i = tm_pa d → ∀ (sz dp : Int32) (a8 a9 a10 a11 a12 : Nat → Int64), tm_any (tm_bad c d) i = false → wX_independent_16 post 0 (n + 1) (nI i) h ax el kn sz dp a1 a2 a3 a4 a5 a6 a7 a8 a9 a10 a11 a12 a13 := by
    intro n
    induction n with
    | zero =>
      intro i e sz dp a8 a9 a10 a11 a12 hb
      have e' : i = tm_pa d := by omega
      subst e'
      rw [wX_independent_16]
      refine tm_partsOf d hel hd ?_
      rw [hb] at H
      exact pk_le (tm_pa d) (tm_pa d) (fun _ => H sz dp a8 a9 a10 a11 a12) (fun z => absurd z (by omega))
    | succ n ih =>
      intro i e sz dp a8 a9 a10 a11 a12 hb
      rw [wX_independent_16]
      refine tm_partsOf d hel hd ?_
      refine pk_le (tm_pa d) i (fun z => absurd z (by omega)) (fun _ => tm_layPart d i hel rfl hd (by omega) (fun b8 b9 b10 lp => ?_))
      refine tm_mH0_q2 hc1 hc hd (by omega) hax tk lp hel (fun dp' b11 b12 => br_c (fun z => nm_r (nI_1 i) (ih (i + 1) (by omega) _ _ _ _ _ _ _ ?_)) (fun z => tm_vA0_q2 hc1 hd (by omega) tk lp (fun dp'' c11 c12 => nm_e (br_c (fun z2 => nm_r (nI_1 i) (ih (i + 1) (by omega) _ _ _ _ _ _ _ ?_)) (fun z2 => ?_)))))
      · show (tm_any (tm_bad c d) i || tm_bad c d i) = false
        rw [hb, Bool.false_or]
        unfold tm_bad
        rw [decide_eq_true z]
        rfl
      · show (tm_any (tm_bad c d) i || tm_bad c d i) = false
        rw [hb, Bool.false_or]
        unfold tm_bad
        rw [decide_eq_true z2, Bool.not_true, Bool.and_false]
      · have g : tm_bad c d i = true := by
          unfold tm_bad
          rw [decide_eq_false z, decide_eq_false z2]
          rfl
        have g' := tm_any_t g (tm_pa d) (by omega)
        rw [g'] at H
        exact H _ _ _ _ _ _ _
  have hx : (0 : Int32) < ax := by
    rw [hax]
    unfold tm_ax
    split
    · exact nI_lt (a := 0) (by omega) (by omega)
    · decide
  exact br_f (by decide) (br_t hx ⟨tm_pa d + 1, key (tm_pa d) 0 (by omega) _ _ _ _ _ _ _ rfl⟩)
theorem tm_cntI : ∀ d, d < 4 → (1 : Int32) <<< ((nI d + nI d * nI d) &&& 31) = nI (2 ^ (d + d * d)) := by decide +kernel
theorem tm_cnt_lt : ∀ d, d < 4 → 2 ^ (d + d * d) ≤ 4096 := by decide +kernel
def tm_bit (w : Int64) (M : Nat) : Int32 := (((w.toUInt64 >>> ((nI M &&& 63).toInt64.toUInt64 &&& Int64.toUInt64 63)).toInt64).toInt32) &&& 1
theorem tm_holds {post : Int32 → St2 → Prop} {d q M l : Nat} {x y : Int32} {t : Nat → Nat → Int64} (hd : d ≤ 3) (hel : el = nI d) (hh : h = nI (q + 1)) (hq : q < 6) (wo : tm_WO_q2 d t a1 a2 (a3 q) (a4 q))
    (hx : x = nI M) (hy : y = nI l) (hM : M < 2 ^ (d + d * d)) (hl : l < 27)
    (H : ∀ sz' dp' b8 b9 b10 b11 b12, post (if tm_vl d l = true then tm_bit (t (M / 64) l) M else -1) (h, ax, el, kn, sz', dp', a1, a2, a3, a4, a5, a6, a7, b8, b9, b10, b11, b12, a13)) : wpX_holds post (h, ax, el, kn, sz, dp, a1, a2, a3, a4, a5, a6, a7, a8, a9, a10, a11, a12, a13) x y := by
  subst hx hy hel hh
  have hb := tm_cnt_lt d (by omega)
  have e : nI (q + 1) - 1 = nI q := nI_pred q
  refine br_f (nI_ne0 (by omega) (by omega)) (br_f (nI_pos (by omega)) ?_)
  refine pk_le (2 ^ (d + d * d)) M (fun z => absurd z (by omega)) (fun _ => br_f (by decide) (br_f (nI_pos (by omega)) (pk_lt l 27 (fun _ => ?_) (fun z => absurd z (by omega))))) (tm_cntI d (by omega))
  refine tm_layPart d (M / 64) rfl (pk_shrN (by omega) _ 6 (by decide)) hd (by omega) (fun b8 b9 b10 lp => ?_)
  refine tm_isList d l rfl rfl hd hl (fun hv => br_f (by decide) ⟨pk_in q 6 hq e, pk_in q 6 hq e, ?_⟩) (fun hv => br_t rfl ?_)
  · rw [e, nI_clamp (show q < 2 ^ 31 by omega)]
    refine wo (M / 64) (by omega) _ _ _ _ _ _ _ _ _ _ _ _ _ _ _ _ _ lp (fun dp' b11 b12 V => ⟨pk_in l 378 (by omega), ?_⟩)
    rw [nI_clamp (show l < 2 ^ 31 by omega), V l hl hv]
    have t0 := H (nI d) dp' b8 b9 b10 b11 b12
    rw [if_pos hv] at t0
    exact t0
  · have t0 := H (nI d) dp b8 b9 b10 a11 a12
    rw [if_neg (by rw [hv]; decide)] at t0
    exact t0
theorem tm_holdsL {post : Int32 → St2 → Prop} {d q M : Nat} {x : Int32} (hd : d ≤ 3) (hel : el = nI d) (hh : h = nI (q + 1)) (hq : q < 6)
    (hx : x = nI M) (hM : M < 2 ^ (d + d * d)) (H : post (-1) (h, ax, el, kn, sz, dp, a1, a2, a3, a4, a5, a6, a7, a8, a9, a10, a11, a12, a13)) : wpX_holds post (h, ax, el, kn, sz, dp, a1, a2, a3, a4, a5, a6, a7, a8, a9, a10, a11, a12, a13) x 27 := by
  subst hx hel hh
  have hb := tm_cnt_lt d (by omega)
  refine br_f (nI_ne0 (by omega) (by omega)) (br_f (nI_pos (by omega)) ?_)
  exact pk_le (2 ^ (d + d * d)) M (fun z => absurd z (by omega)) (fun _ => br_f (by decide) (br_f (by decide) (br_f (by decide) H))) (tm_cntI d (by omega))
theorem tm_holdsM {post : Int32 → St2 → Prop} {d q : Nat} {x y : Int32} (hd : d ≤ 3) (hel : el = nI d) (hh : h = nI (q + 1)) (hq : q < 6)
    (hx : x = nI (2 ^ (d + d * d))) (H : post (-1) (h, ax, el, kn, sz, dp, a1, a2, a3, a4, a5, a6, a7, a8, a9, a10, a11, a12, a13)) : wpX_holds post (h, ax, el, kn, sz, dp, a1, a2, a3, a4, a5, a6, a7, a8, a9, a10, a11, a12, a13) x y := by
  subst hx hel hh
  have hb := tm_cnt_lt d (by omega)
  refine br_f (nI_ne0 (by omega) (by omega)) (br_f (nI_pos (by omega)) ?_)
  exact pk_le (2 ^ (d + d * d)) (2 ^ (d + d * d)) (fun z => br_t rfl H) (fun z => absurd z (by omega)) (tm_cntI d (by omega))
end
end
section
section
/-- what the kernel works out: the counts for each domain d and each set of axioms c -/
def tm_bt (d : Nat) : Nat := if d = 3 then 8 else d
def tm_lo (c d : Nat) : Int32 := if c = 1 then (1 : Int32) <<< (nI d &&& 31) else 1
theorem tm_fa : ∀ d, d < 4 → 1 ≤ d → nI (tm_sum (tm_ag 0 d (tm_T0 d)) (tm_pa d)) * nI (tm_bt d) = nI (2 ^ (d + d * d)) := by decide +kernel
theorem tm_fb : ∀ c, c < 4 → 1 ≤ c → ∀ d, d < 4 → 1 ≤ d → nI (tm_sum (fun p => tm_pc 64 (tm_mp c d p)) 64) = (((1 : Int32) <<< (nI d &&& 31)) * tm_lo c d) * nI (tm_bt d) := by decide +kernel
theorem tm_fc : ∀ c, c < 4 → 1 ≤ c → ∀ d, d < 4 → 1 ≤ d → tm_fr (tm_any (tm_fw c d d) 64) (tm_any (tm_fo c d d) 64) = nI (if c = 1 then 2 else if c = 2 then 1 else 0) := by decide +kernel
theorem tm_fc0 : ∀ c, c < 4 → 1 ≤ c → ∀ d, d < 4 → 1 ≤ d → tm_fr (tm_any (tm_fw c d 0) 64) (tm_any (tm_fo c d 0) 64) = 2 := by decide +kernel
theorem tm_fd : ∀ c, c < 4 → ¬ tm_mb c 1 0 = 0 := by decide +kernel
def tm_shn (c d : Nat) : Int32 := if c = 1 then (if d = 1 then 4 else if d = 2 then 20 else 120) else (if d = 1 then 2 else if d = 2 then 6 else 20)
theorem tm_fe : ∀ c, c < 4 → 1 ≤ c → ∀ d, d < 4 → 1 ≤ d → nI (tm_sum (tm_sh c d) (tm_pa d)) / nI (tm_mq d) = tm_shn c d := by decide +kernel
theorem tm_ff : ∀ c, c < 4 → 1 ≤ c → ∀ d, d < 4 → 1 ≤ d → nI (tm_sum (tm_ag c d (fun p => tm_tP (tm_rr d p) 1)) (tm_pa d)) = (((1 : Int32) <<< (nI d &&& 31)) * tm_lo c d) * (if d = 3 then 4 else 1) := by decide +kernel
theorem tm_fh : ∀ c, c < 4 → 1 ≤ c → ∀ d, d < 4 → 1 ≤ d → tm_bI (tm_any (tm_bad c d) (tm_pa d)) = if d ≤ 1 then 0 else 1 := by decide +kernel
theorem tm_fi0 : ∀ d, d < 4 → ∀ x, x < d → ∀ y, y < d → ∀ a, a < 64 → ∀ b, b < 64 → tm_bit (tm_tP (tm_g9 d a) 1 (x + 3 * y)) (64 * a + b) = (nI (64 * a + b) >>> (((nI d + nI d * nI x) + nI y) &&& 31)) &&& 1 := by decide +kernel
theorem tm_fj0 : ∀ d, d < 4 → ∀ x, x < d → ∀ a, a < 64 → ∀ b, b < 64 → ¬ tm_bit (tm_tq 10 d 1 (tm_tP (tm_g9 d a) 1) x) (64 * a + b) = (if (nI (64 * a + b) >>> ((nI d + nI d * nI x) &&& 31)) &&& (((1 : Int32) <<< (nI d &&& 31)) - 1) = 0 then 1 else 0) := by decide +kernel
theorem tm_fi {d x y M : Nat} (hd : d ≤ 3) (hx : x < d) (hy : y < d) (hM : M < 4096) : tm_bit (tm_tP (tm_g9 d (M / 64)) 1 (x + 3 * y)) M = (nI M >>> (((nI d + nI d * nI x) + nI y) &&& 31)) &&& 1 := by
  have t := tm_fi0 d (by omega) x hx y hy (M / 64) (by omega) (M % 64) (by omega)
  rw [show 64 * (M / 64) + M % 64 = M by omega] at t
  exact t
theorem tm_fj {d x M : Nat} (hd : d ≤ 3) (hx : x < d) (hM : M < 4096) : ¬ tm_bit (tm_tq 10 d 1 (tm_tP (tm_g9 d (M / 64)) 1) x) M = (if (nI M >>> ((nI d + nI d * nI x) &&& 31)) &&& (((1 : Int32) <<< (nI d &&& 31)) - 1) = 0 then 1 else 0) := by
  have t := tm_fj0 d (by omega) x hx (M / 64) (by omega) (M % 64) (by omega)
  rw [show 64 * (M / 64) + M % 64 = M by omega] at t
  exact t
end
end
section
section
def tm_nal (c d p : Nat) : Bool := !(decide (tm_mp c d p = 0) || decide (tm_df d (tm_tP (tm_rr d p) 1) (tm_tP (tm_rr d p) 3) 27 &&& tm_mp c d p = 0))
theorem tm_fg0 : ∀ c, c < 4 → 1 ≤ c → ∀ d, d < 4 → 1 ≤ d → tm_any (tm_nal c d) (tm_pa d) = false := by decide +kernel
theorem tm_fg (c : Nat) (hc : c < 4) (hc1 : 1 ≤ c) (d : Nat) (hd : d < 4) (hd1 : 1 ≤ d) (p : Nat) (hp : p < tm_pa d) : tm_mp c d p = 0 ∨ tm_df d (tm_tP (tm_rr d p) 1) (tm_tP (tm_rr d p) 3) 27 &&& tm_mp c d p = 0 := by
  have f := tm_fg0 c hc hc1 d hd hd1
  by_cases z : tm_mp c d p = 0
  · exact Or.inl z
  · by_cases z2 : tm_df d (tm_tP (tm_rr d p) 1) (tm_tP (tm_rr d p) 3) 27 &&& tm_mp c d p = 0
    · exact Or.inr z2
    · have g : tm_nal c d p = true := by
        unfold tm_nal
        rw [decide_eq_false z, decide_eq_false z2]
        rfl
      rw [tm_any_t g _ hp] at f
      exact absurd f (by decide)
end
end
section
section
variable {h ax el kn sz dp : Int32} {a1 a2 a3 a4 a5 : Nat → Int32} {a6 : Nat → Int64} {a7 : Nat → Int32} {a8 a9 a10 a11 a12 a13 : Nat → Int64}
theorem tm_map34 {post : St2 → Prop} {q : Nat} {x2 x3 x4 : Int32} (hq : q < 6)
    (H : post (h, ax, el, kn, sz, dp, a1, a2, a3, a4, a5, a6, upd (upd (upd a7 (3 * q) (if q % 2 = 0 then x2 else x3)) (3 * q + 1) (if q % 2 = 0 then x3 else x2)) (3 * q + 2) x4, a8, a9, a10, a11, a12, a13)) : wX_layMap_34 post (nI q) x2 x3 x4 h ax el kn sz dp a1 a2 a3 a4 a5 a6 a7 a8 a9 a10 a11 a12 a13 := by
  have e : nI q - nI q / 2 * 2 = nI (q % 2) := pk_rem (d := 2) (by omega) (by omega) (by omega)
  have e0 : (3 : Int32) * nI q = nI (3 * q) := pk_mul 3 q
  have e1 : (3 : Int32) * nI q + 1 = nI (3 * q + 1) := tm_ix 3 q 1
  have e2 : (3 : Int32) * nI q + 2 = nI (3 * q + 2) := tm_ix 3 q 2
  unfold wX_layMap_34 wX_layMap_52 wX_layMap_73
  rw [e, e2, e1, e0, nI_clamp (show 3 * q < 2 ^ 31 by omega), nI_clamp (show 3 * q + 1 < 2 ^ 31 by omega), nI_clamp (show 3 * q + 2 < 2 ^ 31 by omega)]
  by_cases z : q % 2 = 0
  · rw [if_pos z, if_pos z] at H
    rw [z]
    exact ⟨by decide, br_t rfl ⟨pk_in (3 * q) 18 (by omega), nm_e ⟨by decide, br_t rfl ⟨pk_in (3 * q + 1) 18 (by omega), nm_e ⟨pk_in (3 * q + 2) 18 (by omega), nm_e H⟩⟩⟩⟩⟩
  · rw [if_neg z, if_neg z] at H
    rw [show q % 2 = 1 by omega]
    exact ⟨by decide, br_f (by decide) ⟨pk_in (3 * q) 18 (by omega), nm_e ⟨by decide, br_f (by decide) ⟨pk_in (3 * q + 1) 18 (by omega), nm_e ⟨pk_in (3 * q + 2) 18 (by omega), nm_e H⟩⟩⟩⟩⟩
theorem tm_imA : ∀ q, q < 2 → (nI (tm_im q 0) = (if q % 2 = 0 then 0 else 1) ∧ nI (tm_im q 1) = (if q % 2 = 0 then 1 else 0) ∧ nI (tm_im q 2) = 2) := by decide +kernel
theorem tm_imB : ∀ q, q < 4 → 2 ≤ q → (nI (tm_im q 0) = (if q % 2 = 0 then 0 else 2) ∧ nI (tm_im q 1) = (if q % 2 = 0 then 2 else 0) ∧ nI (tm_im q 2) = 1) := by decide +kernel
theorem tm_imC : ∀ q, q < 6 → 4 ≤ q → (nI (tm_im q 0) = (if q % 2 = 0 then 1 else 2) ∧ nI (tm_im q 1) = (if q % 2 = 0 then 2 else 1) ∧ nI (tm_im q 2) = 0) := by decide +kernel
theorem tm_layMap {post : St2 → Prop} {q : Nat} (hq : q < 6)
    (H : post (h, ax, el, kn, sz, dp, a1, a2, a3, a4, a5, a6, upd (upd (upd a7 (3 * q) (nI (tm_im q 0))) (3 * q + 1) (nI (tm_im q 1))) (3 * q + 2) (nI (tm_im q 2)), a8, a9, a10, a11, a12, a13)) : wpX_layMap post (h, ax, el, kn, sz, dp, a1, a2, a3, a4, a5, a6, a7, a8, a9, a10, a11, a12, a13) (nI q) := by
  refine pk_lt q 4 (fun z => pk_lt q 2 (fun z2 => tm_map34 hq ?_) (fun z2 => tm_map34 hq ?_)) (fun z => tm_map34 hq ?_)
  · have t := tm_imA q z2
    rw [t.1, t.2.1, t.2.2] at H
    exact H
  · have t := tm_imB q z z2
    rw [t.1, t.2.1, t.2.2] at H
    exact H
  · have t := tm_imC q hq z
    rw [t.1, t.2.1, t.2.2] at H
    exact H
theorem tm_init {post : St2 → Prop} {mc ms : Nat} (hmc : 13 ≤ mc) (hms : 1129 ≤ ms)
    (H : ∀ b7, tm_IM b7 → post (0, 0, 2, 0, 0, 0, fun _ => 0, fun _ => 0, fun _ => 0, fun _ => 0, fun _ => 0, fun _ => 0, b7, fun _ => 0, fun _ => 0, fun _ => 0, fun _ => 0, fun _ => 0, fun _ => 0)) : wpX_init post mc ms (0, 0, 0, 0, 0, 0) := by
  refine ⟨by omega, by omega, by omega, by omega, by omega, by omega, by omega, by omega, by omega, by omega, by omega, by omega, by omega, by omega, by omega, by omega, by omega, by omega, by omega, by omega, by omega, by omega, by omega, by omega, by omega, by omega, ?_⟩
  refine pk_loop (fun n i s => wX_init_117 post mc ms 13 1129 n (nI i) 0 0 2 0 0 0 (fun _ => 0) (fun _ => 0) (fun _ => 0) (fun _ => 0) (fun _ => 0) (fun _ => 0) s (fun _ => 0) (fun _ => 0) (fun _ => 0) (fun _ => 0) (fun _ => 0) (fun _ => 0)) (fun i s => ∀ q e, q < i → e < 3 → s (3 * q + e) = nI (tm_im q e)) 6 0 (fun _ => 0) (by omega) (fun q e hq => absurd hq (by omega)) ?_ ?_
  · exact fun n s hs => pk_le 6 6 (fun _ => H s hs) (fun z => absurd z (by omega))
  · intro n i s hi hs hw
    refine pk_le 6 i (fun z => absurd z (by omega)) (fun _ => tm_layMap hi (nm_r (nI_1 i) (hw _ ?_)))
    intro q e hq he
    by_cases g : q = i
    · subst g
      rcases (show e = 0 ∨ e = 1 ∨ e = 2 by omega) with rfl | rfl | rfl
      · rw [pk_un (by omega), pk_un (by omega), Nat.add_zero, pk_us]
      · rw [pk_un (by omega), pk_us]
      · rw [pk_us]
    · rw [pk_un (by omega), pk_un (by omega), pk_un (by omega)]
      exact hs q e (by omega) he
theorem tm_domain {post : Int32 → St2 → Prop} {d : Nat} (hd1 : 1 ≤ d) (hd : d ≤ 3) (H : post (nI (2 ^ (d + d * d))) (h, ax, nI d, 0, sz, dp, a1, a2, a3, a4, a5, a6, a7, a8, a9, a10, a11, a12, a13)) : wpX_domain post (h, ax, el, kn, sz, dp, a1, a2, a3, a4, a5, a6, a7, a8, a9, a10, a11, a12, a13) (nI d) := by
  have e := tm_cntI d (by omega)
  refine pk_lt d 1 (fun z => absurd z (by omega)) (fun _ => pk_le d 3 (fun _ => ?_) (fun z => absurd z (by omega)))
  show post ((1 : Int32) <<< ((nI d + nI d * nI d) &&& 31)) _
  rw [e]
  exact H
theorem tm_tok0 {post : Int32 → St2 → Prop} {q E k : Nat} {a : Int32} (hk : k ≤ 3) (hf : ∀ P : Int32 → Prop, P 1 → wpX_fits P () (nI k) a) (hh : h = nI q) (hq : q < 6) (hE : E < 288) (he : (q = 0 ∧ E = 0) ∨ (0 < q ∧ a3 (q - 1) + a4 (q - 1) = nI E))
    (H : post (nI (q + 1)) (nI (q + 1), ax, el, kn, sz, dp, upd a1 E (nI k), upd a2 E a, upd a3 q (nI E), upd a4 q 1, a5, a6, a7, a8, a9, a10, a11, a12, a13)) : wpX_token post (h, ax, el, kn, sz, dp, a1, a2, a3, a4, a5, a6, a7, a8, a9, a10, a11, a12, a13) (nI k) a := by
  subst hh
  have k0 : ¬ nI k < 0 := nI_pos (by omega)
  have k11 : ¬ (11 : Int32) < nI k := nI_nlt (a := 11) (by omega) (by omega)
  have hz : nI q - 0 = nI q := pk_sub (b := 0) (by omega)
  have hqc : (nI q).toNatClampNeg = q := nI_clamp (by omega)
  have body : wX_token_134 post (nI k) a 0 1 (nI E) (nI q) ax el kn sz dp a1 a2 a3 a4 a5 a6 a7 a8 a9 a10 a11 a12 a13 := by
    refine ⟨pk_in E 288 hE, ?_⟩
    rw [nI_clamp (show E < 2 ^ 31 by omega)]
    refine nm_e ⟨pk_in E 288 hE, nm_e (nm_r hz (br_t rfl ⟨pk_in q 6 hq, ?_⟩))⟩
    rw [hqc]
    refine nm_e ⟨pk_in q 6 hq, ?_⟩
    rw [hqc]
    exact nm_e (nm_r (nI_1 q) H)
  refine br_f k0 (br_f k11 (hf _ (br_f (by decide) ?_)))
  refine tm_taken0 hk (pk_le 0 q (fun _ => br_t rfl (pk_lt q 6 (fun _ => nm_r hz ⟨1, ?_⟩) (fun z => absurd z (by omega)))) (fun z => absurd z (by omega)))
  refine pk_le q q (fun _ => br_t (by decide) ?_) (fun z => absurd z (by omega))
  rcases he with ⟨e1, e2⟩ | ⟨e1, e2⟩
  · subst e1 e2
    exact br_t rfl body
  · have hp : nI q - 1 = nI (q - 1) := pk_sub (b := 1) (by omega)
    refine br_f (nI_ne0 e1 (by omega)) ⟨pk_in (q - 1) 6 (by omega) hp, pk_in (q - 1) 6 (by omega) hp, ?_⟩
    rw [hp, nI_clamp (show q - 1 < 2 ^ 31 by omega), e2]
    exact body
theorem tm_taken1 {post : Int32 → Prop} {k : Nat} (hk : k = 4 ∨ k = 9 ∨ k = 10) (H : post 1) : wpX_taken post () (nI k) := by
  rcases hk with rfl | rfl | rfl
  · exact br_t (by decide) (br_t (by decide) H)
  · exact br_t (by decide) (br_f (by decide) (br_f (by decide) H))
  · exact br_t (by decide) (br_f (by decide) (br_f (by decide) H))
theorem tm_tok1 {post : Int32 → St2 → Prop} {q E W k : Nat} {a : Int32} (hk : k = 4 ∨ k = 9 ∨ k = 10) (hf : ∀ P : Int32 → Prop, P 1 → wpX_fits P () (nI k) a) (hh : h = nI (q + 1)) (hq : q < 6) (hE : E < 288) (hW : W ≤ 24) (he : a3 q + a4 q = nI E) (hw : 1 + a4 q = nI W)
    (H : post (nI (q + 1)) (nI (q + 1), ax, el, kn, sz, dp, upd a1 E (nI k), upd a2 E a, a3, upd a4 q (nI W), a5, a6, a7, a8, a9, a10, a11, a12, a13)) : wpX_token post (h, ax, el, kn, sz, dp, a1, a2, a3, a4, a5, a6, a7, a8, a9, a10, a11, a12, a13) (nI k) a := by
  subst hh
  have k0 : ¬ nI k < 0 := nI_pos (by omega)
  have k11 : ¬ (11 : Int32) < nI k := nI_nlt (a := 11) (by omega) (by omega)
  have hz : nI (q + 1) - 1 = nI q := nI_pred q
  have hqc : (nI q).toNatClampNeg = q := nI_clamp (by omega)
  have body : wX_token_134 post (nI k) a 1 (nI W) (nI E) (nI (q + 1)) ax el kn sz dp a1 a2 a3 a4 a5 a6 a7 a8 a9 a10 a11 a12 a13 := by
    refine ⟨pk_in E 288 hE, ?_⟩
    rw [nI_clamp (show E < 2 ^ 31 by omega)]
    refine nm_e ⟨pk_in E 288 hE, nm_e (nm_r hz (br_f (by decide) ⟨pk_in q 6 hq, ?_⟩))⟩
    rw [hqc]
    exact nm_e (nm_r (nI_1 q) H)
  refine br_f k0 (br_f k11 (hf _ (br_f (by decide) ?_)))
  refine tm_taken1 hk (pk_le 1 (q + 1) (fun _ => br_f (by decide) (nm_r hz ⟨2, ?_⟩)) (fun z => absurd z (by omega)))
  refine pk_le (q + 1) q (fun z => absurd z (by omega)) (fun _ => ⟨pk_in q 6 hq, ?_⟩)
  rw [hqc, hw]
  refine nm_e (nm_r (nI_1 q) ?_)
  refine pk_le (q + 1) (q + 1) (fun _ => pk_le W 24 (fun _ => ?_) (fun z => absurd z (by omega))) (fun z => absurd z (by omega))
  refine br_f (nI_ne0 (by omega) (by omega)) ⟨pk_in q 6 (by omega) hz, pk_in q 6 (by omega) hz, ?_⟩
  rw [hz, hqc, he]
  exact body
theorem tm_tok2 {post : Int32 → St2 → Prop} {E W : Nat} {a : Int32} (hf : ∀ P : Int32 → Prop, P 1 → wpX_fits P () 7 a) (hh : h = nI 2) (hE : E < 288) (hW : W ≤ 24) (he : a3 1 + a4 1 = nI E) (hw : 1 + a4 0 + a4 1 = nI W)
    (H : post 1 (1, ax, el, kn, sz, dp, upd a1 E 7, upd a2 E a, a3, upd a4 0 (nI W), a5, a6, a7, a8, a9, a10, a11, a12, a13)) : wpX_token post (h, ax, el, kn, sz, dp, a1, a2, a3, a4, a5, a6, a7, a8, a9, a10, a11, a12, a13) 7 a := by
  subst hh
  have body : wX_token_134 post 7 a 2 (nI W) (nI E) (nI 2) ax el kn sz dp a1 a2 a3 a4 a5 a6 a7 a8 a9 a10 a11 a12 a13 := by
    refine ⟨pk_in E 288 hE, ?_⟩
    rw [nI_clamp (show E < 2 ^ 31 by omega)]
    refine nm_e ⟨pk_in E 288 hE, nm_e (nm_r (show nI 2 - 2 = nI 0 from rfl) (br_f (by decide) ⟨pk_in 0 6 (by omega), ?_⟩))⟩
    rw [show (nI 0).toNatClampNeg = 0 from rfl]
    exact nm_e (nm_r (show nI 0 + 1 = (1 : Int32) from rfl) H)
  refine br_f (by decide) (br_f (by decide) (hf _ (br_f (by decide) ?_)))
  refine br_t (by decide) (br_f (by decide) (br_t (by decide) ?_))
  refine br_t (by decide) (br_f (by decide) (nm_r (show nI 2 - 2 = nI 0 from rfl) ⟨3, ?_⟩))
  refine br_f (by decide) ⟨pk_in 0 6 (by omega), ?_⟩
  rw [show (nI 0).toNatClampNeg = 0 from rfl]
  refine nm_e (nm_r (show nI 0 + 1 = nI 1 from rfl) ?_)
  refine br_f (by decide) ⟨pk_in 1 6 (by omega), ?_⟩
  rw [show (nI 1).toNatClampNeg = 1 from rfl, hw]
  refine nm_e (nm_r (show nI 1 + 1 = nI 2 from rfl) ?_)
  refine br_t (by decide) (pk_le W 24 (fun _ => ?_) (fun z => absurd z (by omega)))
  refine br_f (by decide) ⟨pk_in 1 6 (by omega), pk_in 1 6 (by omega), ?_⟩
  rw [show (nI 2 - 1).toNatClampNeg = 1 from rfl, he]
  exact body
theorem tm_copy {post : St2 → Prop} {F G c : Nat} (hFG : F + c ≤ G) (hG : G + c ≤ 288)
    (H : ∀ b1 b2, (∀ j, j < c → b1 (G + j) = a1 (F + j)) → (∀ j, j < c → b2 (G + j) = a2 (F + j)) → (∀ j, j < G → b1 j = a1 j) → (∀ j, j < G → b2 j = a2 j) → post (h, ax, el, kn, sz, dp, b1, b2, a3, a4, a5, a6, a7, a8, a9, a10, a11, a12, a13)) : wpX_copy post (h, ax, el, kn, sz, dp, a1, a2, a3, a4, a5, a6, a7, a8, a9, a10, a11, a12, a13) (nI F) (nI G) (nI c) := by
  refine pk_loop (σ := (Nat → Int32) × (Nat → Int32)) (fun n i s => wX_copy_3 post (nI F) (nI G) (nI c) h ax el kn sz dp n (nI i) (s.1) (s.2) a3 a4 a5 a6 a7 a8 a9 a10 a11 a12 a13)
    (fun i s => (∀ j, j < i → s.1 (G + j) = a1 (F + j)) ∧ (∀ j, j < i → s.2 (G + j) = a2 (F + j)) ∧ (∀ j, j < G → s.1 j = a1 j) ∧ (∀ j, j < G → s.2 j = a2 j)) c 0 (a1, a2) (by omega) ⟨fun j hj => absurd hj (by omega), fun j hj => absurd hj (by omega), fun _ _ => rfl, fun _ _ => rfl⟩ ?_ ?_
  · exact fun n s hs => pk_le c c (fun _ => H s.1 s.2 hs.1 hs.2.1 hs.2.2.1 hs.2.2.2) (fun z => absurd z (by omega))
  · intro n i s hi hs hw
    have hF : (nI F + nI i).toNatClampNeg = F + i := pk_cl (F + i) (nI_add F i)
    have hGc : (nI G + nI i).toNatClampNeg = G + i := pk_cl (G + i) (nI_add G i)
    have iF : vp_in (nI F + nI i) 288 := pk_in (F + i) 288 (by omega) (nI_add F i)
    have iG : vp_in (nI G + nI i) 288 := pk_in (G + i) 288 (by omega) (nI_add G i)
    obtain ⟨h1, h2, h3, h4⟩ := hs
    refine pk_le c i (fun z => absurd z (by omega)) (fun _ => ⟨iF, iG, ?_⟩)
    rw [hF, hGc]
    refine nm_e ⟨iF, iG, nm_e (nm_r (nI_1 i) (hw (_, _) ⟨?_, ?_, ?_, ?_⟩))⟩
    · intro j hj
      show upd s.1 (G + i) (s.1 (F + i)) (G + j) = a1 (F + j)
      by_cases g : j = i
      · rw [g, pk_us, h3 (F + i) (by omega)]
      · rw [pk_un (by omega)]
        exact h1 j (by omega)
    · intro j hj
      show upd s.2 (G + i) (s.2 (F + i)) (G + j) = a2 (F + j)
      by_cases g : j = i
      · rw [g, pk_us, h4 (F + i) (by omega)]
      · rw [pk_un (by omega)]
        exact h2 j (by omega)
    · intro j hj
      show upd s.1 (G + i) (s.1 (F + i)) j = a1 j
      rw [pk_un (by omega)]
      exact h3 j hj
    · intro j hj
      show upd s.2 (G + i) (s.2 (F + i)) j = a2 j
      rw [pk_un (by omega)]
      exact h4 j hj
theorem tm_axiom {post : Int32 → St2 → Prop} {n c : Nat} (hh : h = 1) (hax : ax = nI n) (hn : n < 6) (h3 : a3 0 = nI 0) (h4 : a4 0 = nI c) (hc : c ≤ 24)
    (H : ∀ b1 b2, (∀ j, j < c → b1 (144 + 24 * n + j) = a1 j) → (∀ j, j < c → b2 (144 + 24 * n + j) = a2 j) → (∀ j, j < 144 + 24 * n → b1 j = a1 j) → (∀ j, j < 144 + 24 * n → b2 j = a2 j) → post (nI (n + 1)) (0, nI (n + 1), el, 0, sz, dp, b1, b2, a3, a4, upd a5 n (nI c), a6, a7, a8, a9, a10, a11, a12, a13)) : wpX_axiom post (h, ax, el, kn, sz, dp, a1, a2, a3, a4, a5, a6, a7, a8, a9, a10, a11, a12, a13) := by
  subst hh hax
  have hnc : (nI n).toNatClampNeg = n := nI_clamp (by omega)
  have e : (144 : Int32) + 24 * nI n = nI (144 + 24 * n) := by
    show nI 144 + nI 24 * nI n = nI (144 + 24 * n)
    rw [pk_mul, nI_add]
  refine br_f (by decide) (pk_lt n 6 (fun _ => nm_r (show (1 : Int32) - 1 = 0 from rfl) ⟨pk_in 0 6 (by omega), pk_in 0 6 (by omega), ?_⟩) (fun z => absurd z (by omega)))
  rw [show (0 : Int32).toNatClampNeg = 0 from rfl, h3, h4, e]
  refine tm_copy (by omega) (by omega) (fun b1 b2 k1 k2 k3 k4 => ⟨pk_in 0 6 (by omega), pk_in n 6 hn, ?_⟩)
  rw [show (0 : Int32).toNatClampNeg = 0 from rfl, h4, hnc]
  refine nm_e (nm_r (nI_1 n) (H b1 b2 (fun j hj => ?_) (fun j hj => ?_) k3 k4))
  · rw [k1 j hj, Nat.zero_add]
  · rw [k2 j hj, Nat.zero_add]
end
end
section
section
variable {h ax el kn sz dp : Int32} {a1 a2 a3 a4 a5 : Nat → Int32} {a6 : Nat → Int64} {a7 : Nat → Int32} {a8 a9 a10 a11 a12 a13 : Nat → Int64}
variable {post : Int32 → St0 → Prop} {mc ms kc ks c d : Nat}
theorem tm_TK_cg {b1 b2 : Nat → Int32} (u : ∀ j, 144 ≤ j → b1 j = a1 j) (v : ∀ j, 144 ≤ j → b2 j = a2 j) (tk : tm_TK c a1 a2 a5) : tm_TK c b1 b2 a5 := by
  refine ⟨fun hc => ?_, fun hc => ?_⟩
  · obtain ⟨⟨k1, k2, k3, k4, k5, k6, k7, k8, k9⟩, k⟩ := tk.1 hc
    exact ⟨⟨(u _ (by omega)).trans k1, (v _ (by omega)).trans k2, (u _ (by omega)).trans k3, (v _ (by omega)).trans k4, (u _ (by omega)).trans k5, (u _ (by omega)).trans k6, (v _ (by omega)).trans k7, (u _ (by omega)).trans k8, (v _ (by omega)).trans k9⟩, k⟩
  · obtain ⟨k1, k2, k3, k4⟩ := tk.2 hc
    exact ⟨(u _ (by omega)).trans k1, (v _ (by omega)).trans k2, fun e => (u _ (by omega)).trans (k3 e), k4⟩
theorem tm_TK_up {E : Nat} {x y : Int32} (hE : E < 144) (tk : tm_TK c a1 a2 a5) : tm_TK c (upd a1 E x) (upd a2 E y) a5 :=
  tm_TK_cg (fun j hj => pk_un (by omega)) (fun j hj => pk_un (by omega)) tk
theorem tm_L592 {z0 z1 : Int32} (hc1 : 1 ≤ c) (hc : c ≤ 3) (hd1 : 1 ≤ d) (hd : d ≤ 3) (hax : ax = nI (tm_ax c)) (hel : el = nI d) (tk : tm_TK c a1 a2 a5) (hh : h = nI 2) (hz : ¬ z1 = z0) (H : post 1 ()) : wL_lawOf_592 post mc ms (nI d) z0 z1 kc ks h ax el kn sz dp a1 a2 a3 a4 a5 a6 a7 a8 a9 a10 a11 a12 a13 := by
  subst hh
  refine br_f hz ?_
  refine br_f (by decide) (nm_r (show nI 2 - 1 = nI 1 from rfl) (br_t rfl ?_))
  refine tm_independent hc1 hc hd hax hel tk (fun sz' dp' b8 b9 b10 b11 b12 => ?_)
  rw [tm_fh c (by omega) hc1 d (by omega) hd1]
  refine pk_le d 1 (fun z => ?_) (fun z => ?_)
  · rw [if_pos z]
    exact br_t rfl H
  · rw [if_neg (by omega)]
    exact br_t rfl H
theorem tm_L564 {x M : Nat} {z0 : Int32} (hc1 : 1 ≤ c) (hc : c ≤ 3) (hd1 : 1 ≤ d) (hd : d ≤ 3) (hax : ax = nI (tm_ax c)) (hel : el = nI d) (tk : tm_TK c a1 a2 a5) (hh : h = nI 2) (hx : x < 3) (hM : M < 2 ^ (d + d * d))
    (wo : tm_WO_q2 d (fun p => tm_tq 10 d 1 (tm_tP (tm_g9 d p) 1)) a1 a2 (a3 1) (a4 1)) (hz : x < d → z0 = (nI M >>> ((nI d + nI d * nI x) &&& 31)) &&& (((1 : Int32) <<< (nI d &&& 31)) - 1)) (H : post 1 ()) : wL_lawOf_564 post mc ms (nI d) (nI M) (nI x) z0 kc ks h ax el kn sz dp a1 a2 a3 a4 a5 a6 a7 a8 a9 a10 a11 a12 a13 := by
  have hb := tm_cnt_lt d (by omega)
  unfold wL_lawOf_564
  refine tm_holds (q := 1) (M := M) (l := x) hd hel hh (by omega) wo rfl rfl hM (by omega) (fun sz' dp' b8 b9 b10 b11 b12 => ?_)
  refine pk_le d x (fun z => ?_) (fun z => ?_)
  · rw [if_neg (by rw [tm_vl_f (Or.inl (by omega))]; decide)]
    exact tm_L592 hc1 hc hd1 hd hax hel tk hh (by decide) H
  · rw [if_pos (tm_vl_t (by omega) (by omega) (by omega))]
    have f := tm_fj hd z (show M < 4096 by omega)
    rw [← hz z] at f
    refine br_c (fun g => ?_) (fun g => ?_)
    · rw [if_pos g] at f
      exact tm_L592 hc1 hc hd1 hd hax hel tk hh f H
    · rw [if_neg g] at f
      exact tm_L592 hc1 hc hd1 hd hax hel tk hh f H
theorem tm_fit_10_1 : ∀ P : Int32 → Prop, P 1 → wpX_fits P () (nI 10) 1 := by
  intro P hP
  unfold wpX_fits wX_fits_64 wX_fits_79
  repeat (first | exact hP | refine br_t (by decide) ?_ | refine br_f (by decide) ?_)
theorem tm_fit_4_0 : ∀ P : Int32 → Prop, P 1 → wpX_fits P () (nI 4) 0 := by
  intro P hP
  unfold wpX_fits wX_fits_64 wX_fits_79
  repeat (first | exact hP | refine br_t (by decide) ?_ | refine br_f (by decide) ?_)
theorem tm_fit_7_0 : ∀ P : Int32 → Prop, P 1 → wpX_fits P () 7 0 := by
  intro P hP
  unfold wpX_fits wX_fits_64 wX_fits_79
  repeat (first | exact hP | refine br_t (by decide) ?_ | refine br_f (by decide) ?_)
theorem tm_fit_9_0 : ∀ P : Int32 → Prop, P 1 → wpX_fits P () (nI 9) 0 := by
  intro P hP
  unfold wpX_fits wX_fits_64 wX_fits_79
  repeat (first | exact hP | refine br_t (by decide) ?_ | refine br_f (by decide) ?_)
theorem tm_fit_9_1 : ∀ P : Int32 → Prop, P 1 → wpX_fits P () (nI 9) 1 := by
  intro P hP
  unfold wpX_fits wX_fits_64 wX_fits_79
  repeat (first | exact hP | refine br_t (by decide) ?_ | refine br_f (by decide) ?_)
theorem tm_fit_1_1 : ∀ P : Int32 → Prop, P 1 → wpX_fits P () (nI 1) 1 := by
  intro P hP
  unfold wpX_fits wX_fits_64 wX_fits_79
  repeat (first | exact hP | refine br_t (by decide) ?_ | refine br_f (by decide) ?_)
theorem tm_fit_1_3 : ∀ P : Int32 → Prop, P 1 → wpX_fits P () (nI 1) 3 := by
  intro P hP
  unfold wpX_fits wX_fits_64 wX_fits_79
  repeat (first | exact hP | refine br_t (by decide) ?_ | refine br_f (by decide) ?_)
theorem tm_fit_1_4 : ∀ P : Int32 → Prop, P 1 → wpX_fits P () (nI 1) 4 := by
  intro P hP
  unfold wpX_fits wX_fits_64 wX_fits_79
  repeat (first | exact hP | refine br_t (by decide) ?_ | refine br_f (by decide) ?_)
theorem tm_fit_3_1 : ∀ P : Int32 → Prop, P 1 → wpX_fits P () (nI 3) 1 := by
  intro P hP
  unfold wpX_fits wX_fits_64 wX_fits_79
  repeat (first | exact hP | refine br_t (by decide) ?_ | refine br_f (by decide) ?_)
theorem tm_fit_3_3 : ∀ P : Int32 → Prop, P 1 → wpX_fits P () (nI 3) 3 := by
  intro P hP
  unfold wpX_fits wX_fits_64 wX_fits_79
  repeat (first | exact hP | refine br_t (by decide) ?_ | refine br_f (by decide) ?_)
theorem tm_L496 {x M : Nat} {z0 z1 : Int32} (hc1 : 1 ≤ c) (hc : c ≤ 3) (hd1 : 1 ≤ d) (hd : d ≤ 3) (hax : ax = nI (tm_ax c)) (hel : el = nI d) (tk : tm_TK c a1 a2 a5) (hh : h = nI 2) (hx : x < 3) (hM : M < 2 ^ (d + d * d))
    (k1 : a1 1 = 1) (k2 : a2 1 = 1) (k3 : a3 1 = nI 1) (k4 : a4 1 = nI 1) (hz : z1 = z0) (H : post 1 ()) : wL_lawOf_496 post mc ms (nI d) (nI (2 ^ (d + d * d))) (nI M) (nI x) z0 z1 kc ks h ax el kn sz dp a1 a2 a3 a4 a5 a6 a7 a8 a9 a10 a11 a12 a13 := by
  refine br_t hz ?_
  refine tm_holdsL (q := 1) hd hel hh (by omega) rfl hM (br_t rfl ?_)
  refine tm_holdsM (q := 1) hd hel hh (by omega) rfl (br_t rfl ?_)
  refine tm_tok1 (q := 1) (E := 2) (W := 2) (k := 10) (Or.inr (Or.inr rfl)) tm_fit_10_1 hh (by omega) (by omega) (by omega) (by rw [k3, k4]; rfl) (by rw [k4]; rfl) ?_
  have wo : tm_WO_q2 d (fun p => tm_tq 10 d 1 (tm_tP (tm_g9 d p) 1)) (upd a1 2 (nI 10)) (upd a2 2 1) (a3 1) (upd a4 1 (nI 2) 1) := by
    rw [k3, pk_us]
    exact tm_FS_q2 (F := 1) (a := 1) (v := 1) hd (by omega) (by omega) (by omega) ((pk_un (by omega)).trans k1) ((pk_un (by omega)).trans k2) pk_us pk_us
  exact pk_le d x (fun z => tm_L564 hc1 hc hd1 hd hax hel (tm_TK_up (by omega) tk) rfl hx hM wo (fun z' => absurd z' (by omega)) H) (fun z => tm_L564 hc1 hc hd1 hd hax hel (tm_TK_up (by omega) tk) rfl hx hM wo (fun _ => rfl) H)
theorem tm_vl_xy {x y : Nat} (hx : x < 3) (hy : y < 3) (hd1 : 1 ≤ d) : tm_vl d (x + 3 * y) = true ↔ (x < d ∧ y < d) := by
  have e1 : (x + 3 * y) % 3 = x := by omega
  have e2 : (x + 3 * y) / 3 % 3 = y := by omega
  have e3 : (x + 3 * y) / 9 = 0 := by omega
  constructor
  · intro t
    have t' := tm_vl_e t
    rw [e1, e2] at t'
    exact ⟨t'.1, t'.2.1⟩
  · intro t
    exact tm_vl_t (by omega) (by omega) (by omega)
theorem tm_L461 {x y M : Nat} {x15 z0 : Int32} (hc1 : 1 ≤ c) (hc : c ≤ 3) (hd1 : 1 ≤ d) (hd : d ≤ 3) (hax : ax = nI (tm_ax c)) (hel : el = nI d) (tk : tm_TK c a1 a2 a5) (hh : h = nI 1) (hx : x < 3) (hy : y < 3) (hM : M < 2 ^ (d + d * d))
    (k3 : a3 0 = nI 0) (k4 : a4 0 = nI 1) (hz : (x15 = 0 ∧ ¬ (x < d ∧ y < d)) ∨ (¬ x15 = 0 ∧ (x < d ∧ y < d) ∧ z0 = (nI M >>> (((nI d + nI d * nI x) + nI y) &&& 31)) &&& 1)) (H : post 1 ()) : wL_lawOf_461 post mc ms (nI d) (nI (2 ^ (d + d * d))) (nI M) (nI x) (nI y) x15 z0 kc ks h ax el kn sz dp a1 a2 a3 a4 a5 a6 a7 a8 a9 a10 a11 a12 a13 := by
  have hb := tm_cnt_lt d (by omega)
  unfold wL_lawOf_461
  refine tm_tok0 (q := 1) (E := 1) (k := 1) (by omega) tm_fit_1_1 hh (by omega) (by omega) (Or.inr ⟨by omega, by show a3 0 + a4 0 = nI 1; rw [k3, k4]; rfl⟩) ?_
  have wo : tm_WO_q2 d (fun p => tm_tP (tm_g9 d p) 1) (upd a1 1 (nI 1)) (upd a2 1 1) (upd a3 1 (nI 1) 1) (upd a4 1 1 1) := by
    rw [pk_us, pk_us]
    exact tm_FP_q2 (F := 1) (a := 1) hd (by omega) (by omega) pk_us pk_us
  refine tm_holds (q := 1) (M := M) (l := x + 3 * y) hd hel rfl (by omega) wo rfl ?_ hM (by omega) (fun sz' dp' b8 b9 b10 b11 b12 => ?_)
  · rw [show (3 : Int32) * nI y = nI (3 * y) from pk_mul 3 y, nI_add]
  · rcases hz with ⟨g, g'⟩ | ⟨g, g', g''⟩
    · rw [if_neg (fun t => g' ((tm_vl_xy hx hy hd1).mp t))]
      exact br_t g (tm_L496 hc1 hc hd1 hd hax hel (tm_TK_up (by omega) tk) rfl hx hM pk_us pk_us pk_us pk_us rfl H)
    · rw [if_pos ((tm_vl_xy hx hy hd1).mpr g')]
      exact br_f g (tm_L496 hc1 hc hd1 hd hax hel (tm_TK_up (by omega) tk) rfl hx hM pk_us pk_us pk_us pk_us ((tm_fi hd g'.1 g'.2 (by omega)).trans g''.symm) H)
theorem tm_L434 {x y M : Nat} {z0 : Int32} (hc1 : 1 ≤ c) (hc : c ≤ 3) (hd1 : 1 ≤ d) (hd : d ≤ 3) (hax : ax = nI (tm_ax c)) (hel : el = nI d) (tk : tm_TK c a1 a2 a5) (hh : h = nI 1) (hx : x < 3) (hy : y < 3) (hM : M < 2 ^ (d + d * d))
    (k3 : a3 0 = nI 0) (k4 : a4 0 = nI 1) (hz : (z0 = 0 ∧ ¬ (x < d ∧ y < d)) ∨ (z0 = 1 ∧ (x < d ∧ y < d))) (H : post 1 ()) : wL_lawOf_434 post mc ms (nI d) (nI (2 ^ (d + d * d))) (nI M) (nI x) (nI y) z0 kc ks h ax el kn sz dp a1 a2 a3 a4 a5 a6 a7 a8 a9 a10 a11 a12 a13 := by
  rcases hz with ⟨g, g'⟩ | ⟨g, g'⟩
  · exact br_t g (tm_L461 hc1 hc hd1 hd hax hel tk hh hx hy hM k3 k4 (Or.inl ⟨g, g'⟩) H)
  · exact br_f (by rw [g]; decide) (tm_L461 hc1 hc hd1 hd hax hel tk hh hx hy hM k3 k4 (Or.inr ⟨by rw [g]; decide, g', rfl⟩) H)
theorem tm_msk : ∀ d, d < 4 → (nI (2 ^ (d + d * d)) - 1).toBitVec.toNat = 2 ^ (d + d * d) - 1 := by decide +kernel
theorem tm_rem3 (x : Int32) : ∃ j, j < 3 ∧ (x &&& 7) - (x &&& 7) / 3 * 3 = nI j := by
  obtain ⟨j, hj, e⟩ := pk_andE x (m := 7) 3 (by decide)
  refine ⟨j % 3, by omega, ?_⟩
  rw [e]
  exact pk_rem (d := 3) (by omega) (by omega) (by omega)
theorem tm_L354 {x2 x3 z0 z1 z2 : Int32} (hc1 : 1 ≤ c) (hc : c ≤ 3) (hd1 : 1 ≤ d) (hd : d ≤ 3) (hax : ax = nI (tm_ax c)) (hel : el = nI d) (tk : tm_TK c a1 a2 a5) (hk : kn = 0 ∨ (kn = 1 ∧ ∀ p, p < 64 → a6 p = tm_mp c d p)) (hh : h = nI 1)
    (k1 : a1 0 = 3) (k2 : a2 0 = 1) (k3 : a3 0 = nI 0) (k4 : a4 0 = nI 1) (hz : z2 = z1 * z0) (H : post 1 ()) : wL_lawOf_354 post mc ms x2 x3 (nI d) (nI (2 ^ (d + d * d))) z0 z1 z2 kc ks h ax el kn sz dp a1 a2 a3 a4 a5 a6 a7 a8 a9 a10 a11 a12 a13 := by
  refine br_t hz ?_
  refine tm_tok0 (q := 1) (E := 1) (k := 3) (by omega) tm_fit_3_3 hh (by omega) (by omega) (Or.inr ⟨by omega, by show a3 0 + a4 0 = nI 1; rw [k3, k4]; rfl⟩) (br_t rfl ?_)
  have wo : tm_WO_q2 d (fun p => tm_tP (tm_rr d p) 1) (upd a1 1 (nI 3)) (upd a2 1 3) (upd a3 1 (nI 1) 0) (upd a4 1 1 0) := by
    rw [pk_un (by omega), pk_un (by omega), k3, k4]
    exact tm_FR_q2 (F := 0) (a := 1) hd (by omega) (by omega) ((pk_un (by omega)).trans k1) ((pk_un (by omega)).trans k2)
  have wo' : tm_WO_q2 d (fun p => tm_tP (tm_rr d p) 3) (upd a1 1 (nI 3)) (upd a2 1 3) (upd a3 1 (nI 1) 1) (upd a4 1 1 1) := by
    rw [pk_us, pk_us]
    exact tm_FR_q2 (F := 1) (a := 3) hd (by omega) (by omega) pk_us pk_us
  refine tm_alike hc hd hax hel (tm_TK_up (by omega) tk) hk rfl wo wo' (tm_fg c (by omega) hc1 d (by omega) hd1) (fun sz' dp' b6 b8 b9 b10 b11 b12 b13 h6 => br_t rfl ?_)
  refine br_f (by decide) (nm_r (show nI (1 + 1) - 1 = nI 1 from rfl) (br_t rfl ?_))
  obtain ⟨M, hM, eM⟩ := pk_andE x2 (d + d * d) (tm_msk d (by omega))
  obtain ⟨x, hx, ex⟩ := tm_rem3 x3
  obtain ⟨y, hy, ey⟩ := tm_rem3 (x3 >>> ((3 : Int32) &&& 31))
  refine nm_r eM ⟨by decide, nm_r ex ⟨by decide, nm_r ey ?_⟩⟩
  have k3' : upd a3 1 (nI 1) 0 = nI 0 := (pk_un (by omega)).trans k3
  have k4' : upd a4 1 1 0 = nI 1 := (pk_un (by omega)).trans k4
  refine pk_le d x (fun z => ?_) (fun z => pk_le d y (fun z2 => ?_) (fun z2 => ?_))
  · exact tm_L434 hc1 hc hd1 hd hax hel (tm_TK_up (by omega) tk) rfl hx hy hM k3' k4' (Or.inl ⟨rfl, by omega⟩) H
  · exact tm_L434 hc1 hc hd1 hd hax hel (tm_TK_up (by omega) tk) rfl hx hy hM k3' k4' (Or.inl ⟨rfl, by omega⟩) H
  · exact tm_L434 hc1 hc hd1 hd hax hel (tm_TK_up (by omega) tk) rfl hx hy hM k3' k4' (Or.inr ⟨rfl, z, z2⟩) H
theorem tm_L309 {x2 x3 z0 : Int32} (hc1 : 1 ≤ c) (hc : c ≤ 3) (hd1 : 1 ≤ d) (hd : d ≤ 3) (hax : ax = nI (tm_ax c)) (hel : el = nI d) (tk : tm_TK c a1 a2 a5) (hk : kn = 0 ∨ (kn = 1 ∧ ∀ p, p < 64 → a6 p = tm_mp c d p)) (im : tm_IM a7) (hh : h = nI 0)
    (hz : tm_shn c d = z0) (H : post 1 ()) : wL_lawOf_309 post mc ms x2 x3 (nI d) (nI (2 ^ (d + d * d))) (tm_lo c d) z0 kc ks h ax el kn sz dp a1 a2 a3 a4 a5 a6 a7 a8 a9 a10 a11 a12 a13 := by
  unfold wL_lawOf_309
  refine tm_shapes hd1 hc hd hax hel tk hk im (fun sz' dp' b6 b8 b9 b10 b11 b12 h6 => ?_)
  refine br_t ((tm_fe c (by omega) hc1 d (by omega) hd1).trans hz) ?_
  refine tm_tok0 (q := 0) (E := 0) (k := 3) (by omega) tm_fit_3_1 hh (by omega) (by omega) (Or.inl ⟨rfl, rfl⟩) ?_
  have wo : tm_WO_q2 d (fun p => tm_tP (tm_rr d p) 1) (upd a1 0 (nI 3)) (upd a2 0 1) (upd a3 0 (nI 0) 0) (upd a4 0 1 0) := by
    rw [pk_us, pk_us]
    exact tm_FR_q2 (F := 0) (a := 1) hd (by omega) (by omega) pk_us pk_us
  refine tm_agreeing (q := 0) hc hd hax hel (tm_TK_up (by omega) tk) (Or.inr ⟨rfl, h6⟩) rfl (by omega) wo (fun sz'' dp'' c6 c8 c9 c10 c11 c12 h6' => ?_)
  have f := tm_ff c (by omega) hc1 d (by omega) hd1
  refine pk_eq d 3 (fun z => ?_) (fun z => ?_)
  · rw [if_pos z] at f
    exact tm_L354 hc1 hc hd1 hd hax hel (tm_TK_up (by omega) tk) (Or.inr ⟨rfl, h6'⟩) rfl pk_us pk_us pk_us pk_us f H
  · rw [if_neg z] at f
    exact tm_L354 hc1 hc hd1 hd hax hel (tm_TK_up (by omega) tk) (Or.inr ⟨rfl, h6'⟩) rfl pk_us pk_us pk_us pk_us f H
theorem tm_L231 {x2 x3 z0 z1 : Int32} (hc1 : 1 ≤ c) (hc : c ≤ 3) (hd1 : 1 ≤ d) (hd : d ≤ 3) (hax : ax = nI (tm_ax c)) (hel : el = nI d) (tk : tm_TK c a1 a2 a5) (hk : kn = 0 ∨ (kn = 1 ∧ ∀ p, p < 64 → a6 p = tm_mp c d p)) (im : tm_IM a7) (hh : h = nI 0)
    (hz : z1 = z0) (H : post 1 ()) : wL_lawOf_231 post mc ms x2 x3 (nI d) (nI (c - 1)) (nI (2 ^ (d + d * d))) (tm_lo c d) z0 z1 kc ks h ax el kn sz dp a1 a2 a3 a4 a5 a6 a7 a8 a9 a10 a11 a12 a13 := by
  refine br_t hz ?_
  refine tm_forced (b := 0) rfl (by omega) hc hd hax hel tk hk (fun sz' dp' b6 b8 b9 b10 b11 b12 h6 => ?_)
  refine br_t (tm_fc0 c (by omega) hc1 d (by omega) hd1) ?_
  refine tm_smallest hc hax tk (tm_fd c (by omega)) (fun sz'' dp'' c8 c9 c10 c11 c12 => br_t rfl ?_)
  refine pk_eq (c - 1) 0 (fun z => ?_) (fun z => ?_)
  · refine pk_eq d 1 (fun z1 => tm_L309 hc1 hc hd1 hd hax hel tk (Or.inr ⟨rfl, h6⟩) im hh ?_ H) (fun z1 => pk_eq d 2 (fun z2 => tm_L309 hc1 hc hd1 hd hax hel tk (Or.inr ⟨rfl, h6⟩) im hh ?_ H) (fun z2 => tm_L309 hc1 hc hd1 hd hax hel tk (Or.inr ⟨rfl, h6⟩) im hh ?_ H))
    · unfold tm_shn
      rw [if_pos (by omega), if_pos z1]
    · unfold tm_shn
      rw [if_pos (by omega), if_neg z1, if_pos z2]
    · unfold tm_shn
      rw [if_pos (by omega), if_neg z1, if_neg z2]
  · refine pk_eq d 1 (fun z1 => tm_L309 hc1 hc hd1 hd hax hel tk (Or.inr ⟨rfl, h6⟩) im hh ?_ H) (fun z1 => pk_eq d 2 (fun z2 => tm_L309 hc1 hc hd1 hd hax hel tk (Or.inr ⟨rfl, h6⟩) im hh ?_ H) (fun z2 => tm_L309 hc1 hc hd1 hd hax hel tk (Or.inr ⟨rfl, h6⟩) im hh ?_ H))
    · unfold tm_shn
      rw [if_neg (by omega), if_pos z1]
    · unfold tm_shn
      rw [if_neg (by omega), if_neg z1, if_pos z2]
    · unfold tm_shn
      rw [if_neg (by omega), if_neg z1, if_neg z2]
theorem tm_L182 {x2 x3 : Int32} (hc1 : 1 ≤ c) (hc : c ≤ 3) (hd1 : 1 ≤ d) (hd : d ≤ 3) (hax : ax = nI (tm_ax c)) (hel : el = nI d) (tk : tm_TK c a1 a2 a5) (hk : kn = 0 ∨ (kn = 1 ∧ ∀ p, p < 64 → a6 p = tm_mp c d p)) (im : tm_IM a7) (hh : h = nI 0)
    (H : post 1 ()) : wL_lawOf_182 post mc ms x2 x3 (nI d) (nI (c - 1)) (nI (2 ^ (d + d * d))) (nI (tm_bt d)) (tm_lo c d) kc ks h ax el kn sz dp a1 a2 a3 a4 a5 a6 a7 a8 a9 a10 a11 a12 a13 := by
  have hdd : 1 * 1 ≤ d * d := Nat.mul_le_mul hd1 hd1
  refine nm_e ?_
  refine tm_models hc hd hax hel tk hk (fun sz' dp' b6 b8 b9 b10 b11 b12 h6 => ?_)
  refine br_t (tm_fb c (by omega) hc1 d (by omega) hd1) ?_
  refine tm_forced (b := d) rfl (by omega) hc hd hax hel tk (Or.inr ⟨rfl, h6⟩) (fun sz'' dp'' c6 c8 c9 c10 c11 c12 h6' => ?_)
  have f := tm_fc c (by omega) hc1 d (by omega) hd1
  refine pk_eq (c - 1) 0 (fun z => ?_) (fun z => pk_eq (c - 1) 1 (fun z2 => ?_) (fun z2 => ?_))
  · rw [if_pos (by omega)] at f
    exact tm_L231 hc1 hc hd1 hd hax hel tk (Or.inr ⟨rfl, h6'⟩) im hh f H
  · rw [if_neg (by omega), if_pos (by omega)] at f
    exact tm_L231 hc1 hc hd1 hd hax hel tk (Or.inr ⟨rfl, h6'⟩) im hh f H
  · rw [if_neg (by omega), if_neg (by omega)] at f
    exact tm_L231 hc1 hc hd1 hd hax hel tk (Or.inr ⟨rfl, h6'⟩) im hh f H
theorem tm_L168 {x2 x3 : Int32} (hc2 : 2 ≤ c) (hc : c ≤ 3) (hd1 : 1 ≤ d) (hd : d ≤ 3) (hax : ax = nI 1) (hel : el = nI d) (tk : tm_TK 1 a1 a2 a5) (im : tm_IM a7) (hh : h = 1)
    (k1 : a1 0 = 1) (k2 : a2 0 = 4) (k3 : a3 0 = nI 0) (k4 : a4 0 = nI (c - 1)) (k5 : c = 3 → a1 1 = 4) (H : post 1 ()) : wL_lawOf_168 post mc ms x2 x3 (nI d) (nI (c - 1)) (nI (2 ^ (d + d * d))) (nI (tm_bt d)) kc ks h ax el kn sz dp a1 a2 a3 a4 a5 a6 a7 a8 a9 a10 a11 a12 a13 := by
  unfold wL_lawOf_168
  refine tm_axiom (n := 1) (c := c - 1) hh hax (by omega) k3 k4 (by omega) (fun b1 b2 e1 e2 e3 e4 => br_t rfl ?_)
  have lo : tm_lo c d = 1 := by
    unfold tm_lo
    rw [if_neg (by omega)]
  have ha : tm_ax c = 2 := by
    unfold tm_ax
    rw [if_neg (by omega)]
  have tk' : tm_TK c b1 b2 (upd a5 1 (nI (c - 1))) := by
    refine ⟨fun _ => ?_, fun _ => ?_⟩
    · obtain ⟨⟨k1, k2, k3, k4, k5, k6, k7, k8, k9⟩, k⟩ := tk.1 (by omega)
      exact ⟨⟨(e3 _ (by omega)).trans k1, (e4 _ (by omega)).trans k2, (e3 _ (by omega)).trans k3, (e4 _ (by omega)).trans k4, (e3 _ (by omega)).trans k5, (e3 _ (by omega)).trans k6, (e4 _ (by omega)).trans k7, (e3 _ (by omega)).trans k8, (e4 _ (by omega)).trans k9⟩, (pk_un (by omega)).trans k⟩
    · exact ⟨(e1 0 (by omega)).trans k1, (e2 0 (by omega)).trans k2, fun e => (e1 1 (by omega)).trans (k5 e), pk_us⟩
  have t := tm_L182 (post := post) (mc := mc) (ms := ms) (kc := kc) (ks := ks) (x2 := x2) (x3 := x3) (h := 0) (ax := nI 2) (kn := 0) (sz := sz) (dp := dp) (a3 := a3) (a4 := a4) (a6 := a6) (a8 := a8) (a9 := a9) (a10 := a10) (a11 := a11) (a12 := a12) (a13 := a13) (by omega) hc hd1 hd (by rw [ha]) hel tk' (Or.inl rfl) im rfl H
  rw [lo] at t
  exact t
theorem tm_L118 {x2 x3 z0 z1 : Int32} (hc1 : 1 ≤ c) (hc : c ≤ 3) (hd1 : 1 ≤ d) (hd : d ≤ 3) (hax : ax = nI 0) (hel : el = nI d) (im : tm_IM a7) (hh : h = 1)
    (k0 : tm_K0 0 a1 a2) (k3 : a3 0 = nI 0) (k4 : a4 0 = nI 5) (hz : z1 * z0 = nI (2 ^ (d + d * d))) (H : post 1 ()) : wL_lawOf_118 post mc ms x2 x3 (nI d) (nI (c - 1)) (nI (2 ^ (d + d * d))) (nI (tm_bt d)) z0 z1 kc ks h ax el kn sz dp a1 a2 a3 a4 a5 a6 a7 a8 a9 a10 a11 a12 a13 := by
  refine br_t hz ?_
  refine tm_axiom (n := 0) (c := 5) hh hax (by omega) k3 k4 (by omega) (fun b1 b2 e1 e2 e3 e4 => br_t rfl (nm_e ?_))
  have tk : tm_TK 1 b1 b2 (upd a5 0 (nI 5)) := by
    obtain ⟨k1, k2, k3, k4, k5, k6, k7, k8, k9⟩ := k0
    exact ⟨fun _ => ⟨⟨(e1 0 (by omega)).trans k1, (e2 0 (by omega)).trans k2, (e1 1 (by omega)).trans k3, (e2 1 (by omega)).trans k4, (e1 2 (by omega)).trans k5, (e1 3 (by omega)).trans k6, (e2 3 (by omega)).trans k7, (e1 4 (by omega)).trans k8, (e2 4 (by omega)).trans k9⟩, pk_us⟩, fun z => absurd z (by omega)⟩
  refine pk_le (c - 1) 0 (fun z => ?_) (fun z => ?_)
  · have e : c = 1 := by omega
    subst e
    have lo : tm_lo 1 d = (1 : Int32) <<< (nI d &&& 31) := rfl
    rw [← lo]
    exact tm_L182 (by omega) hc hd1 hd rfl hel tk (Or.inl rfl) im rfl H
  · refine tm_tok0 (q := 0) (E := 0) (k := 1) (by omega) tm_fit_1_4 rfl (by omega) (by omega) (Or.inl ⟨rfl, rfl⟩) ?_
    refine pk_eq (c - 1) 2 (fun z2 => ?_) (fun z2 => ?_)
    · refine tm_tok1 (q := 0) (E := 1) (W := 2) (k := 4) (Or.inl rfl) tm_fit_4_0 rfl (by omega) (by omega) (by omega) (by rw [pk_us, pk_us]; rfl) (by rw [pk_us]; rfl) ?_
      have t4 : nI 2 = nI (c - 1) := by rw [z2]
      exact tm_L168 (by omega) hc hd1 hd rfl hel (tm_TK_up (by omega) (tm_TK_up (by omega) tk)) im rfl ((pk_un (by omega)).trans pk_us) ((pk_un (by omega)).trans pk_us) pk_us (pk_us.trans t4) (fun _ => pk_us) H
    · have t4 : (1 : Int32) = nI (c - 1) := by
        rw [show c - 1 = 1 by omega]
        rfl
      exact tm_L168 (by omega) hc hd1 hd rfl hel (tm_TK_up (by omega) tk) im rfl pk_us pk_us pk_us (pk_us.trans t4) (fun e => absurd e (by omega)) H
theorem tm_L49 {x2 x3 : Int32} (hc1 : 1 ≤ c) (hc : c ≤ 3) (hd1 : 1 ≤ d) (hd : d ≤ 3) (hax : ax = nI 0) (hel : el = nI d) (hk : kn = 0) (im : tm_IM a7) (hh : h = nI 0) (H : post 1 ()) : wL_lawOf_49 post mc ms x2 x3 (nI d) (nI (c - 1)) (nI (2 ^ (d + d * d))) (nI (tm_bt d)) kc ks h ax el kn sz dp a1 a2 a3 a4 a5 a6 a7 a8 a9 a10 a11 a12 a13 := by
  unfold wL_lawOf_49
  refine tm_tok0 (q := 0) (E := 0) (k := 1) (by omega) tm_fit_1_1 hh (by omega) (by omega) (Or.inl ⟨rfl, rfl⟩) ?_
  refine tm_tok0 (q := 1) (E := 1) (k := 1) (by omega) tm_fit_1_3 rfl (by omega) (by omega) (Or.inr ⟨by omega, rfl⟩) ?_
  refine tm_tok2 (E := 2) (W := 3) tm_fit_7_0 rfl (by omega) (by omega) rfl rfl ?_
  refine tm_tok1 (q := 0) (E := 3) (W := 4) (k := 9) (Or.inr (Or.inl rfl)) tm_fit_9_0 rfl (by omega) (by omega) (by omega) rfl rfl (br_t rfl ?_)
  refine tm_tok1 (q := 0) (E := 4) (W := 5) (k := 9) (Or.inr (Or.inl rfl)) tm_fit_9_1 rfl (by omega) (by omega) (by omega) rfl rfl (br_t rfl ?_)
  have k0 : tm_K0 0 (upd (upd (upd (upd (upd a1 0 (nI 1)) 1 (nI 1)) 2 7) 3 (nI 9)) 4 (nI 9)) (upd (upd (upd (upd (upd a2 0 1) 1 3) 2 0) 3 0) 4 1) := ⟨rfl, rfl, rfl, rfl, rfl, rfl, rfl, rfl, rfl⟩
  refine tm_agreeing (c := 0) (q := 0) (by omega) hd hax hel ⟨fun z => absurd z (by omega), fun z => absurd z (by omega)⟩ (Or.inl hk) rfl (by omega) (tm_F0_q2 (F := 0) hd (by omega) k0) (fun sz' dp' b6 b8 b9 b10 b11 b12 h6 => ?_)
  have f := tm_fa d (by omega) hd1
  refine pk_eq d 3 (fun z => ?_) (fun z => ?_)
  · have e : nI (tm_bt d) = 8 := by
      subst z
      rfl
    rw [e] at f
    exact tm_L118 hc1 hc hd1 hd hax hel im rfl k0 rfl rfl f H
  · have e : tm_bt d = d := by
      unfold tm_bt
      rw [if_neg z]
    have f' := f
    rw [e] at f'
    exact tm_L118 hc1 hc hd1 hd hax hel im rfl k0 rfl rfl f' H
theorem tm_cell {P : Int32 → Prop} {L : Nat} {xs : Nat → Int32} (k : Nat) {x : Int32} (hx : x = nI k) (hL : L ≤ 4) (hk : k < 4) (H : ∀ r, P r) : wpL_cellAt P L xs () x := by
  subst hx
  exact pk_le L k (fun _ => H 0) (fun z => ⟨pk_in k L z, H _⟩)
end
theorem i_vc (xs : Nat → Int32) (L : Nat) (hL : L ≤ 4) : wpL_law (fun r => r = 1) L xs := by
  unfold wpL_law
  refine tm_cell 0 rfl hL (by omega) (fun r1 => tm_cell 1 rfl hL (by omega) (fun r2 => tm_cell 2 rfl hL (by omega) (fun r3 => tm_cell 3 rfl hL (by omega) (fun r4 => ?_))))
  refine ⟨860, 13760, by omega, by omega, by omega, by omega, 859, 13741, by omega, by omega, ?_⟩
  obtain ⟨j, hj, ej⟩ := tm_rem3 r1
  obtain ⟨k, hk, ek⟩ := tm_rem3 r2
  refine tm_init (by omega) (by omega) (fun b7 im => ⟨by decide, nm_r (show (1 : Int32) + ((r1 &&& 7) - (r1 &&& 7) / 3 * 3) = nI (1 + j) from by rw [ej]; exact nI_add 1 j) ⟨by decide, nm_r ek ?_⟩⟩)
  refine tm_domain (by omega) (by omega) ?_
  refine pk_eq (1 + j) 3 (fun z => ?_) (fun z => ?_)
  · have e : nI (tm_bt (1 + j)) = 8 := by
      rw [z]
      rfl
    have t := tm_L49 (c := k + 1) (d := 1 + j) (post := fun r _ => r = 1) (mc := 860) (ms := 13760) (kc := 1 + 859) (ks := 19 + 13741) (x2 := r3) (x3 := r4) (h := 0) (ax := 0) (el := nI (1 + j)) (kn := 0) (sz := 0) (dp := 0) (a1 := fun _ => 0) (a2 := fun _ => 0) (a3 := fun _ => 0) (a4 := fun _ => 0) (a5 := fun _ => 0) (a6 := fun _ => 0) (a7 := b7) (a8 := fun _ => 0) (a9 := fun _ => 0) (a10 := fun _ => 0) (a11 := fun _ => 0) (a12 := fun _ => 0) (a13 := fun _ => 0) (by omega) (by omega) (by omega) (by omega) rfl rfl rfl im rfl rfl
    rw [e] at t
    exact t
  · have e : tm_bt (1 + j) = 1 + j := by
      unfold tm_bt
      rw [if_neg z]
    have t := tm_L49 (c := k + 1) (d := 1 + j) (post := fun r _ => r = 1) (mc := 860) (ms := 13760) (kc := 1 + 859) (ks := 19 + 13741) (x2 := r3) (x3 := r4) (h := 0) (ax := 0) (el := nI (1 + j)) (kn := 0) (sz := 0) (dp := 0) (a1 := fun _ => 0) (a2 := fun _ => 0) (a3 := fun _ => 0) (a4 := fun _ => 0) (a5 := fun _ => 0) (a6 := fun _ => 0) (a7 := b7) (a8 := fun _ => 0) (a9 := fun _ => 0) (a10 := fun _ => 0) (a11 := fun _ => 0) (a12 := fun _ => 0) (a13 := fun _ => 0) (by omega) (by omega) (by omega) (by omega) rfl rfl rfl im rfl rfl
    rw [e] at t
    exact t
end
