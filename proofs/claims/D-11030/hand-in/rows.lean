section
/-! small rows: numbers, the two tests, an answer that is only equal -/
theorem ta_q {X : Nat} (hX : X < 2 ^ 31) : nI X / 65 = nI (X / 65) := pk_div (d := 65) hX (by decide) (by decide)
theorem ta_r {X : Nat} (hX : X < 2 ^ 31) : nI X - nI X / 65 * 65 = nI (X % 65) := pk_rem (d := 65) hX (by decide) (by decide)
theorem ta_65 : ¬ (65 : Int32) = 0 := by decide
theorem ta_pe {post : Int32 → St2 → Prop} {x y : Int32} {s : St2} (e : x = y) (h : post y s) : post x s := e ▸ h
theorem ta_p1 {post : Int32 → Prop} {x y : Int32} (e : x = y) (h : post y) : post x := e ▸ h
theorem ta_sum {t n : Nat} {x : Int32} (hx : x = nI n) : 32 * nI t + x = nI (32 * t + n) := by
  rw [hx]
  show nI 32 * nI t + nI n = nI (32 * t + n)
  rw [pk_mul, nI_add]
theorem ta_trk {post : Int32 → Prop} {u : St0} {t : Nat} (ht : t < 3) (h : post 1) : wpX_isTrack post u (nI t) :=
  pk_lt t 0 (fun z => absurd z (by omega)) (fun _ => pk_lt 2 t (fun z => absurd z (by omega)) (fun _ => h))
theorem ta_ntrk {post : Int32 → Prop} {u : St0} {x : Int32} (hx : x < 0 ∨ 2 < x) (h : post 0) : wpX_isTrack post u x := by
  by_cases c : x < 0
  · exact br_t c h
  · rcases hx with d | d
    · exact absurd d c
    · exact br_f c (br_t d h)
theorem ta_str {post : Int32 → Prop} {u : St0} {X : Nat} (hX : X < 2 ^ 31) (hi : X / 65 < X % 65) (h : post 1) : wpX_isStretch post u (nI X) :=
  br_f (nI_pos hX) ⟨ta_65, ta_65, pk_le (X % 65) (X / 65) (fun z => absurd z (by omega)) (fun _ => h) (ta_r hX) (ta_q hX)⟩
/-- not a stretch -/
def ta_no (x : Int32) : Prop := ∀ X : Nat, X < 2 ^ 31 → x = nI X → ¬ X / 65 < X % 65
theorem ta_nstr {post : Int32 → Prop} {u : St0} {x : Int32} (hx : ta_no x) (h : post 0) : wpX_isStretch post u x := by
  by_cases c : x < 0
  · exact br_t c h
  · obtain ⟨X, hX, rfl⟩ := nI_of c
    exact br_f c ⟨ta_65, ta_65, pk_le (X % 65) (X / 65) (fun _ => h) (fun z => absurd z (hx X hX rfl)) (ta_r hX) (ta_q hX)⟩
/-! pictures of a track: none, one, two stretches -/
def ta_P0 (t : Nat) (a3 : Nat → Int32) : Prop := a3 t = nI 0
def ta_P1 (t s e : Nat) (a1 a2 a3 : Nat → Int32) : Prop := a3 t = nI 1 ∧ a1 (32 * t) = nI s ∧ a2 (32 * t) = nI e
def ta_P2 (t s e v w : Nat) (a1 a2 a3 : Nat → Int32) : Prop := a3 t = nI 2 ∧ a1 (32 * t) = nI s ∧ a2 (32 * t) = nI e ∧ a1 (32 * t + 1) = nI v ∧ a2 (32 * t + 1) = nI w
section
variable {fr fo fh fb : Int32} {a1 a2 a3 a4 a5 a6 a7 a8 a9 a10 a11 a12 a13 a14 : Nat → Int32}
/-! insert, behind all others -/
theorem ta_99 {post : St2 → Prop} {t k n : Nat} {x2 x3 : Int32} (ht : t < 3) (hk : k < 96) (h3 : a3 t = nI n)
    (hp : post (fr, fo, fh, -1, upd a1 k x2, upd a2 k x3, upd a3 t (nI (n + 1)), a4, a5, a6, a7, a8, a9, a10, a11, a12, a13, a14)) : wX_insert_99 post (nI t) x2 x3 (nI k) fr fo fh fb a1 a2 a3 a4 a5 a6 a7 a8 a9 a10 a11 a12 a13 a14 :=
  ⟨pk_in k 96 hk, nm_r (e' := upd a1 k x2) (by rw [nI_clamp (by omega)]) ⟨pk_in k 96 hk, nm_r (e' := upd a2 k x3) (by rw [nI_clamp (by omega)]) ⟨pk_in t 3 ht, pk_in t 3 ht, nm_r (e' := upd a3 t (nI (n + 1))) (by rw [nI_clamp (by omega), h3, nI_1]) hp⟩⟩⟩
theorem ta_ins {post : St2 → Prop} {t n s : Nat} {x3 : Int32} (ht : t < 3) (hn : n < 32) (hs : s ≤ 64) (h3 : a3 t = nI n) (hq : n = 0 ∨ ∃ q, q < s ∧ a1 (32 * t + n - 1) = nI q)
    (hp : post (fr, fo, fh, -1, upd a1 (32 * t + n) (nI s), upd a2 (32 * t + n) x3, upd a3 t (nI (n + 1)), a4, a5, a6, a7, a8, a9, a10, a11, a12, a13, a14)) : wpX_insert post (fr, fo, fh, fb, a1, a2, a3, a4, a5, a6, a7, a8, a9, a10, a11, a12, a13, a14) (nI t) (nI s) x3 := by
  refine ⟨pk_in t 3 ht, nm_r (e' := nI (32 * t + n)) (ta_sum (by rw [nI_clamp (by omega), h3])) ⟨0 + 1, ?_⟩⟩
  refine pk_le (32 * t + n) (32 * t) (fun _ => ta_99 ht (by omega) h3 hp) (fun z => ?_) rfl (pk_mul 32 t)
  rcases hq with h0 | ⟨q, hq, e⟩
  · exact absurd z (by omega)
  · have ei : nI (32 * t + n) - 1 = nI (32 * t + n - 1) := pk_sub (b := 1) (by omega)
    have ea : a1 (nI (32 * t + n) - 1).toNatClampNeg = nI q := by rw [ei, nI_clamp (by omega), e]
    exact ⟨pk_in (32 * t + n - 1) 96 (by omega) ei, pk_lt s q (fun z => absurd z (by omega)) (fun _ => ⟨pk_in (32 * t + n - 1) 96 (by omega) ei, pk_eq q s (fun z => absurd z (by omega)) (fun _ => ta_99 ht (by omega) h3 hp) ea⟩) rfl ea⟩
/-! add, into an empty track -/
theorem ta_add {post : Int32 → St2 → Prop} {t X : Nat} (ht : t < 3) (hX : X < 2 ^ 31) (hi : X / 65 < X % 65) (h3 : ta_P0 t a3)
    (hp : ∀ b1 b2 b3 : Nat → Int32, ta_P1 t (X / 65) (X % 65) b1 b2 b3 → post (nI 1) (fr, fo, fh, -1, b1, b2, b3, a4, a5, a6, a7, a8, a9, a10, a11, a12, a13, a14)) : wpX_add post (fr, fo, fh, fb, a1, a2, a3, a4, a5, a6, a7, a8, a9, a10, a11, a12, a13, a14) (nI t) (nI X) := by
  unfold wpX_add
  refine ta_trk ht (br_f (by decide) (ta_str hX hi (br_f (by decide) ⟨pk_in t 3 ht, pk_eq 0 32 (fun z => absurd z (by decide)) (fun _ => ⟨ta_65, ta_65, ?_⟩) (by rw [nI_clamp (by omega)]; exact h3)⟩)))
  rw [ta_r hX, ta_q hX]
  refine ta_ins (n := 0) ht (by decide) (by omega) h3 (Or.inl rfl) ⟨pk_in t 3 ht, ta_pe (y := nI 1) (by rw [nI_clamp (by omega), pk_us]) (hp _ _ _ ⟨pk_us, pk_us, pk_us⟩)⟩
theorem ta_add_no {post : Int32 → St2 → Prop} {t : Nat} {x : Int32} (ht : t < 3) (hx : ta_no x) (hp : post (-2) (fr, fo, fh, fb, a1, a2, a3, a4, a5, a6, a7, a8, a9, a10, a11, a12, a13, a14)) : wpX_add post (fr, fo, fh, fb, a1, a2, a3, a4, a5, a6, a7, a8, a9, a10, a11, a12, a13, a14) (nI t) x := by
  unfold wpX_add
  exact ta_trk ht (br_f (by decide) (ta_nstr hx (br_t rfl hp)))
/-! takeRuns: a step that opens a run, the end; over none, one, two stretches -/
theorem ta_take_x {post : St2 → Prop} {t n f : Nat} (ht : t < 3) (hn : n ≤ 32) (h3 : a3 t = nI n) (hp : post (nI n, fo, fh, fb, a1, a2, a3, a4, a5, a6, a7, a8, a9, a10, a11, a12, a13, a14)) : wX_takeRuns_10 post (nI t) fo fh fb (f + 1) (nI (32 * t + n)) (nI n) a1 a2 a3 a4 a5 a6 a7 a8 a9 a10 a11 a12 a13 a14 :=
  ⟨pk_in t 3 ht, pk_le (32 * t + n) (32 * t + n) (fun _ => hp) (fun z => absurd z (by omega)) (ta_sum (by rw [nI_clamp (by omega), h3]))⟩
theorem ta_take_s {post : St2 → Prop} {t n i s e f : Nat} (ht : t < 3) (hn : n ≤ 32) (hi : i < n) (hs : s ≤ 64) (h3 : a3 t = nI n) (h1 : a1 (32 * t + i) = nI s) (h2 : a2 (32 * t + i) = nI e) (hq : i = 0 ∨ ∃ q, q < s ∧ a11 (i - 1) = nI q)
    (H : wX_takeRuns_10 post (nI t) fo fh fb f (nI (32 * t + i + 1)) (nI (i + 1)) a1 a2 a3 a4 a5 a6 a7 a8 a9 (upd a10 i (nI s)) (upd a11 i (nI e)) a12 a13 a14) : wX_takeRuns_10 post (nI t) fo fh fb (f + 1) (nI (32 * t + i)) (nI i) a1 a2 a3 a4 a5 a6 a7 a8 a9 a10 a11 a12 a13 a14 := by
  have e1 : a1 (nI (32 * t + i)).toNatClampNeg = nI s := by rw [nI_clamp (by omega), h1]
  have e2 : a2 (nI (32 * t + i)).toNatClampNeg = nI e := by rw [nI_clamp (by omega), h2]
  have ei : (nI i).toNatClampNeg = i := nI_clamp (by omega)
  have G : wX_takeRuns_106 post (wX_takeRuns_10 post (nI t) fo fh fb f) (nI t) (nI (32 * t + i)) (nI i) fo fh fb a1 a2 a3 a4 a5 a6 a7 a8 a9 a10 a11 a12 a13 a14 :=
    ⟨pk_in (32 * t + i) 96 (by omega), pk_in i 32 (by omega), nm_r (e' := upd a10 i (nI s)) (by rw [e1, ei]) ⟨pk_in (32 * t + i) 96 (by omega), pk_in i 32 (by omega), nm_r (e' := upd a11 i (nI e)) (by rw [e2, ei]) (nm_r (nI_1 i) (nm_r (nI_1 (32 * t + i)) H))⟩⟩
  refine ⟨pk_in t 3 ht, pk_le (32 * t + n) (32 * t + i) (fun z => absurd z (by omega)) (fun _ => ?_) (ta_sum (by rw [nI_clamp (by omega), h3]))⟩
  refine pk_le i 0 (fun _ => G) (fun z => ?_)
  rcases hq with h0 | ⟨q, hq, eq⟩
  · exact absurd z (by omega)
  · have ej : nI i - 1 = nI (i - 1) := pk_sub (b := 1) (by omega)
    exact ⟨pk_in (32 * t + i) 96 (by omega), pk_in (i - 1) 32 (by omega) ej, pk_lt q s (fun _ => G) (fun z => absurd z (by omega)) (by rw [ej, nI_clamp (by omega), eq]) e1⟩
theorem ta_take0 {post : St2 → Prop} {t : Nat} (ht : t < 3) (h : ta_P0 t a3) (hp : post (nI 0, fo, fh, fb, a1, a2, a3, a4, a5, a6, a7, a8, a9, a10, a11, a12, a13, a14)) : wpX_takeRuns post (fr, fo, fh, fb, a1, a2, a3, a4, a5, a6, a7, a8, a9, a10, a11, a12, a13, a14) (nI t) :=
  nm_r (e' := nI (32 * t)) (pk_mul 32 t) ⟨0 + 1, ta_take_x (n := 0) ht (by decide) h hp⟩
theorem ta_take1 {post : St2 → Prop} {t s e : Nat} (ht : t < 3) (hs : s ≤ 64) (h : ta_P1 t s e a1 a2 a3) (hp : post (nI 1, fo, fh, fb, a1, a2, a3, a4, a5, a6, a7, a8, a9, upd a10 0 (nI s), upd a11 0 (nI e), a12, a13, a14)) : wpX_takeRuns post (fr, fo, fh, fb, a1, a2, a3, a4, a5, a6, a7, a8, a9, a10, a11, a12, a13, a14) (nI t) :=
  nm_r (e' := nI (32 * t)) (pk_mul 32 t) ⟨0 + 1 + 1, ta_take_s (n := 1) (i := 0) ht (by decide) (by decide) hs h.1 h.2.1 h.2.2 (Or.inl rfl) (ta_take_x (n := 1) ht (by decide) h.1 hp)⟩
theorem ta_take2 {post : St2 → Prop} {t s e v w : Nat} (ht : t < 3) (hs : s ≤ 64) (hv : v ≤ 64) (hev : e < v) (h : ta_P2 t s e v w a1 a2 a3) (hp : post (nI 2, fo, fh, fb, a1, a2, a3, a4, a5, a6, a7, a8, a9, upd (upd a10 0 (nI s)) 1 (nI v), upd (upd a11 0 (nI e)) 1 (nI w), a12, a13, a14)) : wpX_takeRuns post (fr, fo, fh, fb, a1, a2, a3, a4, a5, a6, a7, a8, a9, a10, a11, a12, a13, a14) (nI t) :=
  nm_r (e' := nI (32 * t)) (pk_mul 32 t) ⟨0 + 1 + 1 + 1, ta_take_s (n := 2) (i := 0) ht (by decide) (by decide) hs h.1 h.2.1 h.2.2.1 (Or.inl rfl) (ta_take_s (n := 2) (i := 1) ht (by decide) (by decide) hv h.1 h.2.2.2.1 h.2.2.2.2 (Or.inr ⟨e, hev, pk_us⟩) (ta_take_x (n := 2) ht (by decide) h.1 hp))⟩
end
end
section
section
variable {fr fo fh fb : Int32} {a1 a2 a3 a4 a5 a6 a7 a8 a9 a10 a11 a12 a13 a14 : Nat → Int32}
/-! complement: the loop's roads (a run that begins where we stand; a gap ahead of a run; the end with and without a last gap) -/
theorem ta_82 {post : Int32 → St2 → Prop} {t m : Nat} (ht : t < 3) (h3 : a3 t = nI m) (hp : post (nI m) (fr, fo, fh, -1, a1, a2, a3, a4, a5, a6, a7, a8, a9, a10, a11, a12, a13, a14)) : wX_complement_82 post (nI t) fr fo fh fb a1 a2 a3 a4 a5 a6 a7 a8 a9 a10 a11 a12 a13 a14 :=
  ⟨pk_in t 3 ht, ta_pe (y := nI m) (by rw [nI_clamp (by omega), h3]) hp⟩
theorem ta_c_x0 {post : Int32 → St2 → Prop} {t m n f : Nat} (ht : t < 3) (hn : n ≤ 32) (h3 : a3 t = nI m) (hp : post (nI m) (nI n, fo, fh, -1, a1, a2, a3, a4, a5, a6, a7, a8, a9, a10, a11, a12, a13, a14)) : wX_complement_25 post (nI t) (f + 1) (nI 64) (nI n) (nI n) fo fh fb a1 a2 a3 a4 a5 a6 a7 a8 a9 a10 a11 a12 a13 a14 :=
  pk_le n n (fun _ => pk_le 64 64 (fun _ => ta_82 ht h3 hp) (fun z => absurd z (by decide))) (fun z => absurd z (by omega))
theorem ta_c_x1 {post : Int32 → St2 → Prop} {t m n g f : Nat} (ht : t < 3) (hn : n ≤ 32) (hm : m < 32) (hg : g < 64) (h3 : a3 t = nI m) (hq : m = 0 ∨ ∃ q, q < g ∧ a1 (32 * t + m - 1) = nI q)
    (hp : post (nI (m + 1)) (nI n, fo, fh, -1, upd a1 (32 * t + m) (nI g), upd a2 (32 * t + m) (nI 64), upd a3 t (nI (m + 1)), a4, a5, a6, a7, a8, a9, a10, a11, a12, a13, a14)) : wX_complement_25 post (nI t) (f + 1) (nI g) (nI n) (nI n) fo fh fb a1 a2 a3 a4 a5 a6 a7 a8 a9 a10 a11 a12 a13 a14 :=
  pk_le n n (fun _ => pk_le 64 g (fun z => absurd z (by omega)) (fun _ => ta_ins ht hm (by omega) h3 hq (ta_82 (m := m + 1) ht pk_us hp))) (fun z => absurd z (by omega))
theorem ta_c_sk {post : Int32 → St2 → Prop} {t n k s e g f : Nat} (hn : n ≤ 32) (hk : k < n) (hg : g ≤ 64) (hs : s ≤ g) (h1 : a10 k = nI s) (h2 : a11 k = nI e)
    (H : wX_complement_25 post (nI t) f (nI e) (nI (k + 1)) (nI n) fo fh fb a1 a2 a3 a4 a5 a6 a7 a8 a9 a10 a11 a12 a13 a14) : wX_complement_25 post (nI t) (f + 1) (nI g) (nI k) (nI n) fo fh fb a1 a2 a3 a4 a5 a6 a7 a8 a9 a10 a11 a12 a13 a14 :=
  pk_le n k (fun z => absurd z (by omega)) (fun _ => ⟨pk_in k 32 (by omega), pk_le s g (fun _ => ⟨pk_in k 32 (by omega), nm_r (e' := nI e) (by rw [nI_clamp (by omega), h2]) (nm_r (nI_1 k) H)⟩) (fun z => absurd z (by omega)) (by rw [nI_clamp (by omega), h1])⟩)
theorem ta_c_in {post : Int32 → St2 → Prop} {t m n k s e g f : Nat} (ht : t < 3) (hn : n ≤ 32) (hk : k < n) (hm : m < 32) (hs : s ≤ 64) (hg : g < s) (h1 : a10 k = nI s) (h2 : a11 k = nI e) (h3 : a3 t = nI m) (hq : m = 0 ∨ ∃ q, q < g ∧ a1 (32 * t + m - 1) = nI q)
    (H : wX_complement_25 post (nI t) f (nI e) (nI (k + 1)) (nI n) fo fh (-1) (upd a1 (32 * t + m) (nI g)) (upd a2 (32 * t + m) (nI s)) (upd a3 t (nI (m + 1))) a4 a5 a6 a7 a8 a9 a10 a11 a12 a13 a14) : wX_complement_25 post (nI t) (f + 1) (nI g) (nI k) (nI n) fo fh fb a1 a2 a3 a4 a5 a6 a7 a8 a9 a10 a11 a12 a13 a14 := by
  have e1 : a10 (nI k).toNatClampNeg = nI s := by rw [nI_clamp (by omega), h1]
  refine pk_le n k (fun z => absurd z (by omega)) (fun _ => ⟨pk_in k 32 (by omega), pk_le s g (fun z => absurd z (by omega)) (fun _ => ⟨pk_in k 32 (by omega), ?_⟩) e1⟩)
  rw [e1]
  exact ta_ins ht hm (by omega) h3 hq ⟨pk_in k 32 (by omega), nm_r (e' := nI e) (by rw [nI_clamp (by omega), h2]) (nm_r (nI_1 k) H)⟩
/-! complement of nothing: all -/
theorem ta_comp0 {post : Int32 → St2 → Prop} {t : Nat} (ht : t < 3) (h : ta_P0 t a3)
    (hp : ∀ (g : Int32) (b1 b2 b3 b10 b11 : Nat → Int32), ta_P1 t 0 64 b1 b2 b3 → post (nI 1) (g, fo, fh, -1, b1, b2, b3, a4, a5, a6, a7, a8, a9, b10, b11, a12, a13, a14)) : wpX_complement post (fr, fo, fh, fb, a1, a2, a3, a4, a5, a6, a7, a8, a9, a10, a11, a12, a13, a14) (nI t) := by
  unfold wpX_complement
  refine ta_trk ht (br_f (by decide) (ta_take0 ht h ⟨pk_in t 3 ht, nm_r (e' := upd a3 t (nI 0)) (by rw [nI_clamp (by omega), nI_0]) ⟨0 + 1, ?_⟩⟩))
  exact ta_c_x1 (n := 0) (m := 0) (g := 0) ht (by decide) (by decide) (by decide) pk_us (Or.inl rfl) (hp _ _ _ _ _ _ ⟨pk_us, pk_us, pk_us⟩)
/-! complement of one stretch: what lies ahead of it, what lies behind it -/
def ta_C (t s e : Nat) (a1 a2 a3 : Nat → Int32) : Prop := (s = 0 ∧ e = 64 ∧ ta_P0 t a3) ∨ (s = 0 ∧ e < 64 ∧ ta_P1 t e 64 a1 a2 a3) ∨ (0 < s ∧ s < e ∧ e = 64 ∧ ta_P1 t 0 s a1 a2 a3) ∨ (0 < s ∧ s < e ∧ e < 64 ∧ ta_P2 t 0 s e 64 a1 a2 a3)
/-- how many -/
def ta_m (s e : Nat) : Nat := (if 0 < s then 1 else 0) + (if e < 64 then 1 else 0)
theorem ta_comp1 {post : Int32 → St2 → Prop} {t s e : Nat} (ht : t < 3) (hse : s < e) (he : e ≤ 64) (h : ta_P1 t s e a1 a2 a3)
    (hp : ∀ (g : Int32) (b1 b2 b3 b10 b11 : Nat → Int32), ta_C t s e b1 b2 b3 → post (nI (ta_m s e)) (g, fo, fh, -1, b1, b2, b3, a4, a5, a6, a7, a8, a9, b10, b11, a12, a13, a14)) : wpX_complement post (fr, fo, fh, fb, a1, a2, a3, a4, a5, a6, a7, a8, a9, a10, a11, a12, a13, a14) (nI t) := by
  unfold wpX_complement
  refine ta_trk ht (br_f (by decide) (ta_take1 ht (by omega) h ⟨pk_in t 3 ht, nm_r (e' := upd a3 t (nI 0)) (by rw [nI_clamp (by omega), nI_0]) ⟨0 + 1 + 1, ?_⟩⟩))
  by_cases hs : 0 < s
  · refine ta_c_in (n := 1) (k := 0) (m := 0) (g := 0) ht (by decide) (by decide) (by decide) (by omega) hs pk_us pk_us pk_us (Or.inl rfl) ?_
    by_cases hl : e < 64
    · have hm : ta_m s e = 2 := by unfold ta_m; rw [if_pos hs, if_pos hl]
      rw [hm] at hp
      refine ta_c_x1 (n := 1) (m := 1) (g := e) ht (by decide) (by decide) hl pk_us (Or.inr ⟨0, by omega, pk_us⟩) (hp _ _ _ _ _ _ (Or.inr (Or.inr (Or.inr ⟨hs, hse, hl, pk_us, ?_, ?_, pk_us, pk_us⟩))))
      · rw [pk_un (by omega)]
        exact pk_us
      · rw [pk_un (by omega)]
        exact pk_us
    · have hm : ta_m s e = 1 := by unfold ta_m; rw [if_pos hs, if_neg hl]
      have e64 : e = 64 := by omega
      subst e64
      rw [hm] at hp
      exact ta_c_x0 (n := 1) (m := 1) ht (by decide) pk_us (hp _ _ _ _ _ _ (Or.inr (Or.inr (Or.inl ⟨hs, hse, rfl, pk_us, pk_us, pk_us⟩))))
  · have s0 : s = 0 := by omega
    subst s0
    refine ta_c_sk (n := 1) (k := 0) (g := 0) (by decide) (by decide) (by decide) (Nat.le_refl 0) pk_us pk_us ?_
    by_cases hl : e < 64
    · have hm : ta_m 0 e = 1 := by unfold ta_m; rw [if_neg hs, if_pos hl]
      rw [hm] at hp
      exact ta_c_x1 (n := 1) (m := 0) (g := e) ht (by decide) (by decide) hl pk_us (Or.inl rfl) (hp _ _ _ _ _ _ (Or.inr (Or.inl ⟨rfl, hl, pk_us, pk_us, pk_us⟩)))
    · have hm : ta_m 0 e = 0 := by unfold ta_m; rw [if_neg hs, if_neg hl]
      have e64 : e = 64 := by omega
      subst e64
      rw [hm] at hp
      exact ta_c_x0 (n := 1) (m := 0) ht (by decide) pk_us (hp _ _ _ _ _ _ (Or.inl ⟨rfl, rfl, pk_us⟩))
/-! complement of what lies ahead and what lies behind: the stretch -/
theorem ta_comp2 {post : Int32 → St2 → Prop} {t s e : Nat} (ht : t < 3) (hs : 0 < s) (hse : s < e) (he : e < 64) (h : ta_P2 t 0 s e 64 a1 a2 a3)
    (hp : ∀ (g : Int32) (b1 b2 b3 b10 b11 : Nat → Int32), ta_P1 t s e b1 b2 b3 → post (nI 1) (g, fo, fh, -1, b1, b2, b3, a4, a5, a6, a7, a8, a9, b10, b11, a12, a13, a14)) : wpX_complement post (fr, fo, fh, fb, a1, a2, a3, a4, a5, a6, a7, a8, a9, a10, a11, a12, a13, a14) (nI t) := by
  unfold wpX_complement
  refine ta_trk ht (br_f (by decide) (ta_take2 ht (by omega) (by omega) hse h ⟨pk_in t 3 ht, nm_r (e' := upd a3 t (nI 0)) (by rw [nI_clamp (by omega), nI_0]) ⟨0 + 1 + 1 + 1, ?_⟩⟩))
  refine ta_c_sk (n := 2) (k := 0) (g := 0) (s := 0) (e := s) (by decide) (by decide) (by decide) (Nat.le_refl 0) (by rw [pk_un (by decide)]; exact pk_us) (by rw [pk_un (by decide)]; exact pk_us) ?_
  refine ta_c_in (n := 2) (k := 1) (m := 0) (g := s) (s := e) (e := 64) ht (by decide) (by decide) (by decide) (by omega) hse pk_us pk_us pk_us (Or.inl rfl) ?_
  exact ta_c_x0 (n := 2) (m := 1) ht (by decide) pk_us (hp _ _ _ _ _ _ ⟨pk_us, pk_us, pk_us⟩)
/-! the second complement: what the first one left gives the stretch back -/
theorem ta_back {post : Int32 → St2 → Prop} {t s e : Nat} (ht : t < 3) (hse : s < e) (he : e ≤ 64) (h : ta_C t s e a1 a2 a3)
    (hp : ∀ (g : Int32) (b1 b2 b3 b10 b11 : Nat → Int32), ta_P1 t s e b1 b2 b3 → post (nI 1) (g, fo, fh, -1, b1, b2, b3, a4, a5, a6, a7, a8, a9, b10, b11, a12, a13, a14)) : wpX_complement post (fr, fo, fh, fb, a1, a2, a3, a4, a5, a6, a7, a8, a9, a10, a11, a12, a13, a14) (nI t) := by
  rcases h with ⟨rfl, rfl, h⟩ | ⟨rfl, hl, h⟩ | ⟨hs, _, rfl, h⟩ | ⟨hs, _, hl, h⟩
  · exact ta_comp0 ht h hp
  · refine ta_comp1 ht hl (by decide) h (fun g b1 b2 b3 b10 b11 hC => ?_)
    have hm : ta_m e 64 = 1 := by unfold ta_m; rw [if_pos hse, if_neg (by decide)]
    rw [hm]
    rcases hC with ⟨z, _, _⟩ | ⟨z, _, _⟩ | ⟨_, _, _, k⟩ | ⟨_, _, z, _⟩
    · exact absurd z (by omega)
    · exact absurd z (by omega)
    · exact hp _ _ _ _ _ _ k
    · exact absurd z (by decide)
  · refine ta_comp1 ht hs (by omega) h (fun g b1 b2 b3 b10 b11 hC => ?_)
    have hm : ta_m 0 s = 1 := by unfold ta_m; rw [if_neg (by decide), if_pos hse]
    rw [hm]
    rcases hC with ⟨_, z, _⟩ | ⟨_, _, k⟩ | ⟨z, _, _, _⟩ | ⟨z, _, _, _⟩
    · exact absurd z (by omega)
    · exact hp _ _ _ _ _ _ k
    · exact absurd z (by decide)
    · exact absurd z (by decide)
  · exact ta_comp2 ht hs hse hl h hp
theorem ta_back0 {post : Int32 → St2 → Prop} {t : Nat} (ht : t < 3) (h : ta_P1 t 0 64 a1 a2 a3)
    (hp : ∀ (g : Int32) (b1 b2 b3 b10 b11 : Nat → Int32), ta_P0 t b3 → post (nI 0) (g, fo, fh, -1, b1, b2, b3, a4, a5, a6, a7, a8, a9, b10, b11, a12, a13, a14)) : wpX_complement post (fr, fo, fh, fb, a1, a2, a3, a4, a5, a6, a7, a8, a9, a10, a11, a12, a13, a14) (nI t) := by
  refine ta_comp1 ht (by decide) (by decide) h (fun g b1 b2 b3 b10 b11 hC => ?_)
  rw [show ta_m 0 64 = 0 from rfl]
  rcases hC with ⟨_, _, k⟩ | ⟨_, z, _⟩ | ⟨z, _, _, _⟩ | ⟨z, _, _, _⟩
  · exact hp _ _ _ _ _ _ k
  · exact absurd z (by decide)
  · exact absurd z (by decide)
  · exact absurd z (by decide)
end
end
section
/-! steps: a stretch adds one at its start and takes one at its end -/
def ta_st (g : Nat → Int32) (s e : Nat) : Nat → Int32 := upd (upd g s (g s + 1)) e (upd g s (g s + 1) e - 1)
theorem ta_st_s {g : Nat → Int32} {s e : Nat} (h : s ≠ e) : ta_st g s e s = g s + 1 := by
  unfold ta_st
  rw [pk_un h, pk_us]
theorem ta_st_e {g : Nat → Int32} {s e : Nat} (h : s ≠ e) : ta_st g s e e = g e - 1 := by
  unfold ta_st
  rw [pk_us, pk_un (Ne.symm h)]
theorem ta_st_n {g : Nat → Int32} {s e p : Nat} (h1 : p ≠ s) (h2 : p ≠ e) : ta_st g s e p = g p := by
  unfold ta_st
  rw [pk_un h2, pk_un h1]
theorem ta_fill {s : Nat → Int32} {i k : Nat} (hk : k = i) (h : ∀ j, j < i → s j = 0) : ∀ j, j < i + 1 → upd s k 0 j = 0 := by
  intro j hj
  rw [hk]
  by_cases e : j = i
  · rw [e, pk_us]
  · rw [pk_un e]
    exact h j (by omega)
/-- the count that holds ahead of place i, where all but [s, e) is covered once -/
def ta_c (s e i : Nat) : Nat := if i = 0 then 0 else if s < i ∧ i ≤ e then 0 else 1
/-- how many places ahead of i are covered -/
def ta_g (s e i : Nat) : Nat := i - (min i e - min i s)
theorem ta_c_le (s e i : Nat) : ta_c s e i ≤ 1 := by
  unfold ta_c
  split
  · omega
  · split <;> omega
theorem ta_g_s {s e i : Nat} (h : s ≤ e) : ta_g s e (i + 1) = ta_g s e i + ta_c s e (i + 1) := by
  unfold ta_g ta_c
  rw [if_neg (by omega)]
  split <;> omega
theorem ta_c_1 {s e i : Nat} (h0 : 0 < i) (h : i ≤ s ∨ e < i) : ta_c s e i = 1 := by
  unfold ta_c
  rw [if_neg (by omega), if_neg (by omega)]
theorem ta_c_0 {s e i : Nat} (h : s < i ∧ i ≤ e) : ta_c s e i = 0 := by
  unfold ta_c
  rw [if_neg (by omega), if_pos h]
theorem ta_c_00 (s e : Nat) : ta_c s e 0 = 0 := rfl
theorem ta_c_eq {s e v i : Nat} (h : i ≤ e) (h' : i ≤ v) : ta_c s e i = ta_c s v i := by
  by_cases z : i = 0
  · subst z
    rfl
  · by_cases c : s < i
    · rw [ta_c_0 ⟨c, h⟩, ta_c_0 ⟨c, h'⟩]
    · rw [ta_c_1 (e := e) (by omega) (Or.inl (by omega)), ta_c_1 (e := v) (by omega) (Or.inl (by omega))]
/-- steps that fit -/
def ta_D (s e : Nat) (g : Nat → Int32) : Prop := ∀ p, p < 64 → nI (ta_c s e p) + g p = nI (ta_c s e (p + 1))
theorem ta_D0 {g : Nat → Int32} (h : ∀ j, j < 65 → g j = 0) : ta_D 0 64 g := by
  intro p hp
  rw [h p (by omega)]
  rw [ta_c_0 (show 0 < p + 1 ∧ p + 1 ≤ 64 by omega)]
  by_cases e : p = 0
  · subst e
    rfl
  · rw [ta_c_0 (show 0 < p ∧ p ≤ 64 by omega)]
    rfl
theorem ta_D1 {g : Nat → Int32} {e : Nat} (he : e < 64) (h : ∀ j, j < 65 → g j = 0) : ta_D 0 e (ta_st g e 64) := by
  intro p hp
  by_cases c : p = e
  · subst c
    rw [ta_st_s (by omega), h p (by omega), ta_c_1 (i := p + 1) (by omega) (by omega)]
    by_cases z : p = 0
    · subst z
      rfl
    · rw [ta_c_0 (show 0 < p ∧ p ≤ p by omega)]
      rfl
  · rw [ta_st_n c (by omega), h p (by omega)]
    by_cases d : p < e
    · rw [ta_c_0 (show 0 < p + 1 ∧ p + 1 ≤ e by omega)]
      by_cases z : p = 0
      · subst z
        rfl
      · rw [ta_c_0 (show 0 < p ∧ p ≤ e by omega)]
        rfl
    · rw [ta_c_1 (i := p + 1) (by omega) (by omega), ta_c_1 (i := p) (by omega) (by omega)]
      rfl
theorem ta_D2 {g : Nat → Int32} {s : Nat} (hs : 0 < s) (hs' : s < 64) (h : ∀ j, j < 65 → g j = 0) : ta_D s 64 (ta_st g 0 s) := by
  intro p hp
  by_cases z : p = 0
  · subst z
    rw [ta_st_s (by omega), h 0 (by omega), ta_c_1 (i := 0 + 1) (by omega) (by omega)]
    rfl
  · by_cases c : p = s
    · subst c
      rw [ta_st_e (by omega), h p (by omega), ta_c_1 (i := p) (by omega) (by omega), ta_c_0 (show p < p + 1 ∧ p + 1 ≤ 64 by omega)]
      rfl
    · rw [ta_st_n z c, h p (by omega)]
      by_cases d : p < s
      · rw [ta_c_1 (i := p + 1) (by omega) (by omega), ta_c_1 (i := p) (by omega) (by omega)]
        rfl
      · rw [ta_c_0 (show s < p + 1 ∧ p + 1 ≤ 64 by omega), ta_c_0 (show s < p ∧ p ≤ 64 by omega)]
        rfl
theorem ta_D3 {g : Nat → Int32} {s e : Nat} (hs : 0 < s) (hse : s < e) (he : e < 64) (h : ∀ j, j < 65 → g j = 0) : ta_D s e (ta_st (ta_st g 0 s) e 64) := by
  intro p hp
  by_cases c : p = e
  · subst c
    rw [ta_st_s (by omega), ta_st_n (by omega) (by omega), h p (by omega), ta_c_1 (i := p + 1) (by omega) (by omega), ta_c_0 (show s < p ∧ p ≤ p by omega)]
    rfl
  · rw [ta_st_n c (by omega)]
    by_cases d : p < e
    · have k := ta_D2 hs (by omega) h p hp
      rw [ta_c_eq (i := p) (e := 64) (v := e) (by omega) (by omega), ta_c_eq (i := p + 1) (e := 64) (v := e) (by omega) (by omega)] at k
      exact k
    · rw [ta_st_n (by omega) (by omega), h p (by omega), ta_c_1 (i := p + 1) (by omega) (by omega), ta_c_1 (i := p) (by omega) (by omega)]
      rfl
section
variable {fr fo fh fb : Int32} {a1 a2 a3 a4 a5 a6 a7 a8 a9 a10 a11 a12 a13 a14 : Nat → Int32}
/-! countSteps -/
theorem ta_k_z {post : St2 → Prop} {t : Nat} (H : ∀ g : Nat → Int32, (∀ j, j < 65 → g j = 0) → ∃ n, wX_countSteps_26 post (nI t) fr fo fh fb n (nI (32 * t)) a1 a2 a3 a4 a5 a6 a7 a8 a9 a10 a11 a12 a13 g) : wpX_countSteps post (fr, fo, fh, fb, a1, a2, a3, a4, a5, a6, a7, a8, a9, a10, a11, a12, a13, a14) (nI t) :=
  pk_loop (fun n i s => wX_countSteps_2 post (nI t) fr fo fh fb n (nI i) a1 a2 a3 a4 a5 a6 a7 a8 a9 a10 a11 a12 a13 s) (fun i s => ∀ j, j < i → s j = 0) 65 0 a14 (by decide) (fun j hj => absurd hj (by omega))
    (fun n s h => pk_lt 64 65 (fun _ => nm_r (pk_mul 32 t) (H s h)) (fun z => absurd z (by decide)))
    (fun n i s hi h hw => pk_lt 64 i (fun z => absurd z (by omega)) (fun _ => ⟨pk_in i 65 (by omega), nm_e (nm_r (nI_1 i) (hw _ (ta_fill (nI_clamp (by omega)) h)))⟩))
theorem ta_k_x {post : St2 → Prop} {t n f : Nat} (ht : t < 3) (hn : n ≤ 32) (h3 : a3 t = nI n) (hp : post (fr, fo, fh, fb, a1, a2, a3, a4, a5, a6, a7, a8, a9, a10, a11, a12, a13, a14)) : wX_countSteps_26 post (nI t) fr fo fh fb (f + 1) (nI (32 * t + n)) a1 a2 a3 a4 a5 a6 a7 a8 a9 a10 a11 a12 a13 a14 :=
  ⟨pk_in t 3 ht, pk_le (32 * t + n) (32 * t + n) (fun _ => hp) (fun z => absurd z (by omega)) (ta_sum (by rw [nI_clamp (by omega), h3]))⟩
theorem ta_k_s {post : St2 → Prop} {t n i s e f : Nat} (ht : t < 3) (hn : n ≤ 32) (hi : i < n) (hs : s ≤ 64) (he : e ≤ 64) (h3 : a3 t = nI n) (h1 : a1 (32 * t + i) = nI s) (h2 : a2 (32 * t + i) = nI e)
    (H : wX_countSteps_26 post (nI t) fr fo fh fb f (nI (32 * t + i + 1)) a1 a2 a3 a4 a5 a6 a7 a8 a9 a10 a11 a12 a13 (ta_st a14 s e)) : wX_countSteps_26 post (nI t) fr fo fh fb (f + 1) (nI (32 * t + i)) a1 a2 a3 a4 a5 a6 a7 a8 a9 a10 a11 a12 a13 a14 := by
  have e1 : a1 (nI (32 * t + i)).toNatClampNeg = nI s := by rw [nI_clamp (by omega), h1]
  have e2 : a2 (nI (32 * t + i)).toNatClampNeg = nI e := by rw [nI_clamp (by omega), h2]
  have es : (nI s).toNatClampNeg = s := nI_clamp (by omega)
  have ee : (nI e).toNatClampNeg = e := nI_clamp (by omega)
  refine ⟨pk_in t 3 ht, pk_le (32 * t + n) (32 * t + i) (fun z => absurd z (by omega)) (fun _ => ?_) (ta_sum (by rw [nI_clamp (by omega), h3]))⟩
  exact ⟨pk_in (32 * t + i) 96 (by omega), pk_in s 65 (by omega) e1, pk_in s 65 (by omega) e1, nm_r (e' := upd a14 s (a14 s + 1)) (by rw [e1, es]) ⟨pk_in (32 * t + i) 96 (by omega), pk_in e 65 (by omega) e2, pk_in e 65 (by omega) e2, nm_r (e' := ta_st a14 s e) (by rw [e2, ee]; rfl) (nm_r (nI_1 (32 * t + i)) H)⟩⟩
/-! covered(t, 1) -/
theorem ta_cov {post : Int32 → St2 → Prop} {s e : Nat} (hse : s ≤ e) (he : e ≤ 64) (hD : ta_D s e a14) (hp : post (nI (64 - (e - s))) (fr, fo, fh, fb, a1, a2, a3, a4, a5, a6, a7, a8, a9, a10, a11, a12, a13, a14)) : ∃ n, wX_covered_35 post 1 fr fo fh fb a1 a2 a3 a4 a5 a6 a7 a8 a9 a10 a11 a12 a13 a14 n 0 0 0 := by
  have hg : ta_g s e 64 = 64 - (e - s) := by unfold ta_g; omega
  refine Exists.elim (pk_loop (σ := Unit) (fun n i _ => wX_covered_35 post 1 fr fo fh fb a1 a2 a3 a4 a5 a6 a7 a8 a9 a10 a11 a12 a13 a14 n (nI (ta_c s e i)) (nI (ta_g s e i)) (nI i)) (fun _ _ => True) 64 0 () (by decide) trivial ?_ ?_) (fun n hn => ?_)
  rotate_left 2
  · have hn' : wX_covered_35 post 1 fr fo fh fb a1 a2 a3 a4 a5 a6 a7 a8 a9 a10 a11 a12 a13 a14 n (nI (ta_c s e 0)) (nI (ta_g s e 0)) (nI 0) := hn
    rw [show ta_c s e 0 = 0 from rfl, show ta_g s e 0 = 0 by unfold ta_g; omega] at hn'
    exact ⟨n, hn'⟩
  · intro n _ _
    exact pk_le 64 64 (fun _ => by rw [hg]; exact hp) (fun z => absurd z (by decide))
  · intro n i _ hi _ hw
    have k : wX_covered_35 post 1 fr fo fh fb a1 a2 a3 a4 a5 a6 a7 a8 a9 a10 a11 a12 a13 a14 n (nI (ta_c s e (i + 1))) (nI (ta_g s e (i + 1))) (nI (i + 1)) := hw () trivial
    have hc := ta_c_le s e (i + 1)
    rw [ta_g_s hse] at k
    refine pk_le 64 i (fun z => absurd z (by omega)) (fun _ => ⟨pk_in i 65 (by omega), nm_r (e' := nI (ta_c s e (i + 1))) (by rw [nI_clamp (by omega)]; exact hD i hi) ?_⟩)
    refine pk_lt (ta_c s e (i + 1)) 1 (fun z => nm_r (e' := nI (ta_g s e i + ta_c s e (i + 1))) ?_ (nm_r (nI_1 i) k)) (fun z => nm_r (e' := nI (ta_g s e i + ta_c s e (i + 1))) ?_ (nm_r (nI_1 i) k))
    · rw [show ta_c s e (i + 1) = 0 by omega]
      exact nI_add _ 0
    · rw [show ta_c s e (i + 1) = 1 by omega]
      exact nI_add _ 1
theorem ta_covered {post : Int32 → St2 → Prop} {t s e : Nat} (ht : t < 3) (hse : s ≤ e) (he : e ≤ 64) (h : ta_C t s e a1 a2 a3) (hp : ∀ g : Nat → Int32, post (nI (64 - (e - s))) (fr, fo, fh, fb, a1, a2, a3, a4, a5, a6, a7, a8, a9, a10, a11, a12, a13, g)) : wpX_covered post (fr, fo, fh, fb, a1, a2, a3, a4, a5, a6, a7, a8, a9, a10, a11, a12, a13, a14) (nI t) 1 := by
  unfold wpX_covered
  refine ta_trk ht (br_f (by decide) (br_f (by decide) (br_t (by decide) (ta_k_z (fun g hg => ?_)))))
  rcases h with ⟨rfl, rfl, h⟩ | ⟨rfl, hl, h⟩ | ⟨hs, hx, rfl, h⟩ | ⟨hs, hx, hl, h⟩
  · exact ⟨0 + 1, ta_k_x (n := 0) ht (by decide) h (ta_cov hse he (ta_D0 hg) (hp _))⟩
  · exact ⟨0 + 1 + 1, ta_k_s (n := 1) (i := 0) ht (by decide) (by decide) (by omega) (by decide) h.1 h.2.1 h.2.2 (ta_k_x (n := 1) ht (by decide) h.1 (ta_cov hse he (ta_D1 hl hg) (hp _)))⟩
  · exact ⟨0 + 1 + 1, ta_k_s (n := 1) (i := 0) ht (by decide) (by decide) (by omega) (by omega) h.1 h.2.1 h.2.2 (ta_k_x (n := 1) ht (by decide) h.1 (ta_cov hse he (ta_D2 hs hx hg) (hp _)))⟩
  · exact ⟨0 + 1 + 1 + 1, ta_k_s (n := 2) (i := 0) ht (by decide) (by decide) (by omega) (by omega) h.1 h.2.1 h.2.2.1 (ta_k_s (n := 2) (i := 1) ht (by decide) (by decide) (by omega) (by decide) h.1 h.2.2.2.1 h.2.2.2.2 (ta_k_x (n := 2) ht (by decide) h.1 (ta_cov hse he (ta_D3 hs hx hl hg) (hp _))))⟩
end
end
section
theorem ta_m10 : (-1 : Int32) + 1 = nI 0 := by decide
theorem ta_m1c : ((-1 : Int32) + 1).toNatClampNeg = 0 := by decide
theorem ta_m1 {t : Nat} (ht : t < 3) : ¬ (-1 : Int32) = nI t := by
  rcases (show t = 0 ∨ t = 1 ∨ t = 2 by omega) with rfl | rfl | rfl <;> decide
theorem ta_sh : (nI 0 + nI 1) >>> ((1 : Int32) &&& 31) = nI 0 := by decide
theorem ta_n0 : ¬ nI 0 ≤ -1 := by decide
theorem ta_n1 : ¬ nI 1 ≤ -1 := by decide
section
variable {fr fo fh fb : Int32} {a1 a2 a3 a4 a5 a6 a7 a8 a9 a10 a11 a12 a13 a14 : Nat → Int32}
/-! build -/
theorem ta_140_x {post : St2 → Prop} {J : Int32 → Int32 → (Nat → Int32) → (Nat → Int32) → (Nat → Int32) → (Nat → Int32) → (Nat → Int32) → (Nat → Int32) → (Nat → Int32) → (Nat → Int32) → (Nat → Int32) → (Nat → Int32) → (Nat → Int32) → (Nat → Int32) → (Nat → Int32) → (Nat → Int32) → Prop} {x4 : Int32} {t n w v j f : Nat}
    (ht : t < 3) (hn : n ≤ 32) (h3 : a3 t = nI n) (hj : j < 33) (hx : x4 + 1 = nI j) (h6 : a6 j = nI v) (hv : v ≤ w) (H : J (nI w) (nI j) a1 a2 a3 a4 a5 a6 (upd a7 j (nI (w - v))) a8 a9 a10 a11 a12 a13 a14) : wX_build_140 post J (nI t) x4 fr fo fh fb (f + 1) (nI w) (nI n) a1 a2 a3 a4 a5 a6 a7 a8 a9 a10 a11 a12 a13 a14 := by
  have ec : (x4 + 1).toNatClampNeg = j := by rw [hx, nI_clamp (by omega)]
  exact ⟨pk_in t 3 ht, pk_le n n (fun _ => ⟨pk_in j 33 hj hx, pk_in j 33 hj hx, nm_r (e' := upd a7 j (nI (w - v))) (by rw [ec, h6, pk_sub hv]) (nm_r hx H)⟩) (fun z => absurd z (by omega)) (by rw [nI_clamp (by omega), h3])⟩
theorem ta_140_s {post : St2 → Prop} {J : Int32 → Int32 → (Nat → Int32) → (Nat → Int32) → (Nat → Int32) → (Nat → Int32) → (Nat → Int32) → (Nat → Int32) → (Nat → Int32) → (Nat → Int32) → (Nat → Int32) → (Nat → Int32) → (Nat → Int32) → (Nat → Int32) → (Nat → Int32) → (Nat → Int32) → Prop} {x4 : Int32} {t n w i f : Nat}
    (ht : t < 3) (hn : n ≤ 32) (hi : i < n) (hw : w < 32) (h3 : a3 t = nI n) (h4 : a4 i = x4) (H : wX_build_140 post J (nI t) x4 fr fo fh fb f (nI (w + 1)) (nI (i + 1)) a1 a2 a3 a4 (upd a5 w (nI i)) a6 a7 a8 a9 a10 a11 a12 a13 a14) : wX_build_140 post J (nI t) x4 fr fo fh fb (f + 1) (nI w) (nI i) a1 a2 a3 a4 a5 a6 a7 a8 a9 a10 a11 a12 a13 a14 :=
  ⟨pk_in t 3 ht, pk_le n i (fun z => absurd z (by omega)) (fun _ => ⟨pk_in i 32 (by omega), br_t (by rw [nI_clamp (by omega), h4]) ⟨pk_in w 32 hw, nm_r (e' := upd a5 w (nI i)) (by rw [nI_clamp (by omega)]) (nm_r (nI_1 w) (nm_r (nI_1 i) H))⟩⟩) (by rw [nI_clamp (by omega), h3])⟩
theorem ta_113_x {post : St2 → Prop} {x3 : Int32} {t n f : Nat} (ht : t < 3) (hn : n ≤ 32) (h3 : a3 t = nI n) (hp : post (fr, fo, fh, fb, a1, a2, a3, a4, a5, a6, a7, a8, a9, a10, a11, a12, a13, a14)) : wX_build_113 post (nI t) fr fo fh fb (f + 1) x3 (nI n) a1 a2 a3 a4 a5 a6 a7 a8 a9 a10 a11 a12 a13 a14 :=
  ⟨pk_in t 3 ht, pk_le n n (fun _ => hp) (fun z => absurd z (by omega)) (by rw [nI_clamp (by omega), h3])⟩
theorem ta_113_s {post : St2 → Prop} {x3 x4 : Int32} {t n j f : Nat} (ht : t < 3) (h3 : a3 t = nI n) (hl : ¬ nI n ≤ x4) (hj : j < 33) (hx : x4 + 1 = nI j)
    (H : ∃ m, wX_build_140 post (wX_build_113 post (nI t) fr fo fh fb f) (nI t) x4 fr fo fh fb m x3 (nI j) a1 a2 a3 a4 a5 (upd a6 j x3) a7 a8 a9 a10 a11 a12 a13 a14) : wX_build_113 post (nI t) fr fo fh fb (f + 1) x3 x4 a1 a2 a3 a4 a5 a6 a7 a8 a9 a10 a11 a12 a13 a14 :=
  ⟨pk_in t 3 ht, br_f (by rw [nI_clamp (by omega), h3]; exact hl) ⟨pk_in j 33 hj hx, nm_r (e' := upd a6 j x3) (by rw [hx, nI_clamp (by omega)]) (nm_r hx H)⟩⟩
theorem ta_build0 {post : St2 → Prop} {t : Nat} (ht : t < 3) (h : ta_P0 t a3) (hp : ∀ b6 b7 : Nat → Int32, b6 0 = nI 0 → b7 0 = nI 0 → post (fr, fo, fh, nI t, a1, a2, a3, a4, a5, b6, b7, a8, a9, a10, a11, a12, a13, a14)) : wpX_build post (fr, fo, fh, -1, a1, a2, a3, a4, a5, a6, a7, a8, a9, a10, a11, a12, a13, a14) (nI t) := by
  have K : wX_build_113 post (nI t) fr fo fh (nI t) (0 + 1 + 1) (nI 0) (-1) a1 a2 a3 a4 a5 a6 a7 a8 a9 a10 a11 a12 a13 a14 :=
    ta_113_s (n := 0) (j := 0) ht h ta_n0 (by decide) ta_m10 ⟨0 + 1, ta_140_x (n := 0) (w := 0) (v := 0) (j := 0) ht (by decide) h (by decide) ta_m10 pk_us (Nat.le_refl 0) (ta_113_x (n := 0) ht (by decide) h (hp _ _ pk_us pk_us))⟩
  exact br_f (ta_m1 ht) ⟨0 + 1, ⟨pk_in t 3 ht, pk_le 0 0 (fun _ => ⟨0 + 1 + 1, K⟩) (fun z => absurd z (by decide)) (by rw [nI_clamp (by omega)]; exact h)⟩⟩
theorem ta_build1 {post : St2 → Prop} {t : Nat} (ht : t < 3) (h : a3 t = nI 1) (hp : ∀ b4 b5 b6 b7 b9 : Nat → Int32, b5 0 = nI 0 → b6 0 = nI 0 → b7 0 = nI 1 → b7 1 = nI 0 → post (fr, fo, fh, nI t, a1, a2, a3, b4, b5, b6, b7, a8, b9, a10, a11, a12, a13, a14)) : wpX_build post (fr, fo, fh, -1, a1, a2, a3, a4, a5, a6, a7, a8, a9, a10, a11, a12, a13, a14) (nI t) := by
  have e3 : a3 (nI t).toNatClampNeg = nI 1 := by rw [nI_clamp (by omega)]; exact h
  have K : wX_build_113 post (nI t) fr fo fh (nI t) (0 + 1 + 1 + 1) (nI 0) (-1) a1 a2 a3 (upd a4 0 (-1)) a5 a6 a7 a8 (upd a9 0 (nI 0)) a10 a11 a12 a13 a14 :=
    ta_113_s (n := 1) (j := 0) ht h ta_n1 (by decide) ta_m10 ⟨0 + 1 + 1, ta_140_s (n := 1) (w := 0) (i := 0) ht (by decide) (by decide) (by decide) h pk_us
      (ta_140_x (n := 1) (w := 1) (v := 0) (j := 0) ht (by decide) h (by decide) ta_m10 pk_us (by decide)
        (ta_113_s (n := 1) (j := 1) ht h (nI_ge (by decide) (by decide)) (by decide) (nI_1 0) ⟨0 + 1, ta_140_x (n := 1) (w := 1) (v := 1) (j := 1) ht (by decide) h (by decide) (nI_1 0) pk_us (by decide)
          (ta_113_x (n := 1) ht (by decide) h (hp _ _ _ _ _ pk_us ((pk_un (by decide)).trans pk_us) ((pk_un (by decide)).trans pk_us) pk_us))⟩))⟩
  have M : wX_build_18 post (nI t) fr fo fh (nI t) (0 + 1) (nI 1) (nI 1) a1 a2 a3 (upd a4 0 (-1)) a5 a6 a7 a8 (upd a9 0 (nI 0)) a10 a11 a12 a13 a14 :=
    ⟨pk_in t 3 ht, pk_le 1 1 (fun _ => ⟨0 + 1 + 1 + 1, K⟩) (fun z => absurd z (by decide)) e3⟩
  have N : wX_build_28 post (wX_build_18 post (nI t) fr fo fh (nI t) (0 + 1)) (nI t) (nI 0) fr fo fh (nI t) a1 a2 a3 a4 a5 a6 a7 a8 a9 a10 a11 a12 a13 a14 (0 + 1) (nI 0) :=
    pk_le 0 0 (fun _ => pk_le 0 0 (fun _ => ⟨pk_in 0 32 (by decide), nm_r (e' := upd a4 0 (-1)) (by rw [nI_clamp (by omega)]) ⟨pk_in 0 40 (by decide), nm_r (e' := upd a9 0 (nI 0)) (by rw [nI_clamp (by omega)]) (nm_r (nI_1 0) (nm_r (nI_1 0) M))⟩⟩) (fun z => absurd z (by decide))) (fun z => absurd z (by decide))
  exact br_f (ta_m1 ht) ⟨0 + 1 + 1, ⟨pk_in t 3 ht, pk_le 1 0 (fun z => absurd z (by decide)) (fun _ => ⟨0 + 1, N⟩) e3⟩⟩
/-! firstBehind, over an empty list and a list of one -/
theorem ta_fb0 {post : Int32 → Prop} {x1 x3 : Int32} (h6 : a6 0 = nI 0) (h7 : a7 0 = nI 0) (hp : post (nI 0)) : wpX_firstBehind post (fr, fo, fh, fb, a1, a2, a3, a4, a5, a6, a7, a8, a9, a10, a11, a12, a13, a14) x1 (-1) x3 :=
  ⟨pk_in 0 33 (by decide) ta_m10, nm_r (e' := nI 0) (by rw [ta_m1c, h6]) ⟨pk_in 0 33 (by decide) ta_m10, nm_r (e' := nI 0) (by rw [ta_m1c, h7]; exact nI_add 0 0) ⟨0 + 1, pk_le 7 0 (fun z => absurd z (by decide)) (fun _ => pk_le 0 0 (fun _ => hp) (fun z => absurd z (by decide)))⟩⟩⟩
theorem ta_fb1 {post : Int32 → Prop} {t e p : Nat} (ht : t < 3) (he : e ≤ 64) (hp : p ≤ 64) (h2 : a2 (32 * t) = nI e) (h5 : a5 0 = nI 0) (h6 : a6 0 = nI 0) (h7 : a7 0 = nI 1) (H0 : e ≤ p → post (nI 1)) (H1 : p < e → post (nI 0)) : wpX_firstBehind post (fr, fo, fh, fb, a1, a2, a3, a4, a5, a6, a7, a8, a9, a10, a11, a12, a13, a14) (nI t) (-1) (nI p) := by
  have ix : 32 * nI t + a5 (nI 0).toNatClampNeg = nI (32 * t) := ta_sum (n := 0) (by rw [nI_clamp (by omega), h5])
  have e2 : a2 (32 * nI t + a5 (nI 0).toNatClampNeg).toNatClampNeg = nI e := by rw [ix, nI_clamp (by omega), h2]
  have K : ∃ n, wX_firstBehind_26 post (nI t) (nI p) fr fo fh fb a1 a2 a3 a4 a5 a6 a7 a8 a9 a10 a11 a12 a13 a14 n (nI 0) (nI 1) (nI 0) :=
    ⟨0 + 1 + 1, pk_le 7 0 (fun z => absurd z (by decide)) (fun _ => pk_le 1 0 (fun z => absurd z (by decide)) (fun _ => nm_r ta_sh ⟨pk_in 0 32 (by decide), pk_in (32 * t) 96 (by omega) ix, pk_le e p
      (fun z => nm_r (nI_1 0) (nm_r (nI_1 0) (pk_le 7 1 (fun z => absurd z (by decide)) (fun _ => pk_le 1 1 (fun _ => H0 z) (fun z => absurd z (by decide))))))
      (fun z => nm_r (nI_1 0) (pk_le 7 1 (fun z => absurd z (by decide)) (fun _ => pk_le 0 0 (fun _ => H1 z) (fun z => absurd z (by decide))))) e2⟩))⟩
  exact ⟨pk_in 0 33 (by decide) ta_m10, nm_r (e' := nI 0) (by rw [ta_m1c, h6]) ⟨pk_in 0 33 (by decide) ta_m10, nm_r (e' := nI 1) (by rw [ta_m1c, h7]; exact nI_add 0 1) K⟩⟩
/-! findHits -/
theorem ta_hit {post : St2 → Prop} (hp : post (fr, fo, nI 1, fb, a1, a2, a3, a4, a5, a6, a7, upd a8 0 (nI 0), a9, a10, a11, a12, a13, a14)) : wpX_putHit post (fr, fo, nI 0, fb, a1, a2, a3, a4, a5, a6, a7, a8, a9, a10, a11, a12, a13, a14) (nI 0) :=
  ⟨0 + 1, pk_le 0 0 (fun _ => ⟨pk_in 0 32 (by decide), nm_r (e' := upd a8 0 (nI 0)) (by rw [nI_clamp (by omega)]) (nm_r (nI_1 0) hp)⟩) (fun z => absurd z (by decide))⟩
theorem ta_23_x {post : St2 → Prop} {x1 x2 x3 : Int32} {f : Nat} (hp : post (fr, fo, fh, fb, a1, a2, a3, a4, a5, a6, a7, a8, a9, a10, a11, a12, a13, a14)) : wX_findHits_23 post x1 x2 x3 (f + 1) (nI 0) (nI 1) fr fo fh fb a1 a2 a3 a4 a5 a6 a7 a8 a9 a10 a11 a12 a13 a14 :=
  pk_lt 32 1 (fun z => absurd z (by decide)) (fun _ => pk_le 0 0 (fun _ => hp) (fun z => absurd z (by decide)))
theorem ta_78_x {post : St2 → Prop} {J : Int32 → Int32 → Int32 → Int32 → Int32 → Int32 → (Nat → Int32) → (Nat → Int32) → (Nat → Int32) → (Nat → Int32) → (Nat → Int32) → (Nat → Int32) → (Nat → Int32) → (Nat → Int32) → (Nat → Int32) → (Nat → Int32) → (Nat → Int32) → (Nat → Int32) → (Nat → Int32) → (Nat → Int32) → Prop} {x1 x2 x3 x4 : Int32} {m f : Nat} (hm : m ≤ 32) (H : J x4 (nI 1) fr fo fh fb a1 a2 a3 a4 a5 a6 a7 a8 a9 a10 a11 a12 a13 a14) : wX_findHits_78 post J x1 x2 x3 (nI 0) (nI m) (f + 1) x4 (nI m) fr fo fh fb a1 a2 a3 a4 a5 a6 a7 a8 a9 a10 a11 a12 a13 a14 :=
  pk_le m m (fun _ => nm_r (nI_1 0) H) (fun z => absurd z (by omega))
theorem ta_find0 {post : St2 → Prop} {t : Nat} {x2 x3 : Int32} (ht : t < 3) (h : ta_P0 t a3) (hp : ∀ b6 b7 b9 : Nat → Int32, post (fr, fo, nI 0, nI t, a1, a2, a3, a4, a5, b6, b7, a8, b9, a10, a11, a12, a13, a14)) : wpX_findHits post (fr, fo, fh, -1, a1, a2, a3, a4, a5, a6, a7, a8, a9, a10, a11, a12, a13, a14) (nI t) x2 x3 := by
  unfold wpX_findHits
  refine ta_build0 ht h (fun b6 b7 h6 h7 => nm_e ⟨0 + 1 + 1, ?_⟩)
  have K : wX_findHits_23 post (nI t) x2 x3 (0 + 1 + 1) (nI 1) (nI 0) fr fo (nI 0) (nI t) a1 a2 a3 a4 a5 b6 b7 a8 (upd a9 0 (-1)) a10 a11 a12 a13 a14 :=
    pk_lt 32 0 (fun z => absurd z (by decide)) (fun _ => pk_le 1 0 (fun z => absurd z (by decide)) (fun _ => nm_r (pk_m1 0) ⟨pk_in 0 40 (by decide), nm_r (e' := (-1)) (by rw [nI_clamp (by omega), pk_us]) ⟨pk_in 0 33 (by decide) ta_m10, pk_in 0 33 (by decide) ta_m10, nm_r (e' := nI 0) (by rw [ta_m1c, h6, h7]; exact nI_add 0 0)
      (ta_fb0 h6 h7 ⟨0 + 1, ta_78_x (m := 0) (by decide) (ta_23_x (hp _ _ _))⟩)⟩⟩))
  exact K
theorem ta_find1 {post : St2 → Prop} {t s e p : Nat} (ht : t < 3) (hs : s ≤ 64) (he : e ≤ 64) (hp : p ≤ 64) (h : ta_P1 t s e a1 a2 a3)
    (H0 : ¬ (s ≤ p ∧ p < e) → ∀ b4 b5 b6 b7 b9 : Nat → Int32, post (fr, fo, nI 0, nI t, a1, a2, a3, b4, b5, b6, b7, a8, b9, a10, a11, a12, a13, a14))
    (H1 : (s ≤ p ∧ p < e) → ∀ b4 b5 b6 b7 b8 b9 : Nat → Int32, b8 0 = nI 0 → post (fr, fo, nI 1, nI t, a1, a2, a3, b4, b5, b6, b7, b8, b9, a10, a11, a12, a13, a14)) : wpX_findHits post (fr, fo, fh, -1, a1, a2, a3, a4, a5, a6, a7, a8, a9, a10, a11, a12, a13, a14) (nI t) (nI p) (nI (p + 1)) := by
  unfold wpX_findHits
  refine ta_build1 ht h.1 (fun b4 b5 b6 b7 b9 h5 h6 h7 h7' => nm_e ⟨0 + 1 + 1, ?_⟩)
  have ix : 32 * nI t + b5 (nI 0).toNatClampNeg = nI (32 * t) := ta_sum (n := 0) (by rw [nI_clamp (by omega), h5])
  have e1 : a1 (32 * nI t + b5 (nI 0).toNatClampNeg).toNatClampNeg = nI s := by rw [ix, nI_clamp (by omega), h.2.1]
  have K : wX_findHits_23 post (nI t) (nI p) (nI (p + 1)) (0 + 1 + 1) (nI 1) (nI 0) fr fo (nI 0) (nI t) a1 a2 a3 b4 b5 b6 b7 a8 (upd b9 0 (-1)) a10 a11 a12 a13 a14 := by
    refine pk_lt 32 0 (fun z => absurd z (by decide)) (fun _ => pk_le 1 0 (fun z => absurd z (by decide)) (fun _ => nm_r (pk_m1 0) ⟨pk_in 0 40 (by decide), nm_r (e' := (-1)) (by rw [nI_clamp (by omega), pk_us]) ⟨pk_in 0 33 (by decide) ta_m10, pk_in 0 33 (by decide) ta_m10, nm_r (e' := nI 1) (by rw [ta_m1c, h6, h7]; exact nI_add 0 1) ?_⟩⟩))
    refine ta_fb1 ht he hp h.2.2 h5 h6 h7 (fun z => ⟨0 + 1, ta_78_x (m := 1) (by decide) (ta_23_x (H0 (fun c => absurd c.2 (by omega)) _ _ _ _ _))⟩) (fun z => ⟨0 + 1 + 1, ?_⟩)
    refine pk_le 1 0 (fun z => absurd z (by decide)) (fun _ => ⟨pk_in 0 32 (by decide), pk_in (32 * t) 96 (by omega) ix, pk_le (p + 1) s (fun y => nm_r (nI_1 0) (ta_23_x (H0 (fun c => absurd c.1 (by omega)) _ _ _ _ _))) (fun y => ⟨pk_in 0 32 (by decide), nm_r (e' := nI 0) (by rw [nI_clamp (by omega), h5]) ?_⟩) rfl e1⟩)
    refine ta_hit ⟨pk_in 1 33 (by decide) (nI_1 0), pk_le 0 0 (fun _ => nm_r (nI_1 0) (ta_78_x (m := 1) (by decide) (ta_23_x (H1 ⟨by omega, z⟩ _ _ _ _ _ _ pk_us)))) (fun z => absurd z (by decide)) (by rw [nI_1, nI_clamp (by omega), h7'])⟩
  exact K
/-! around -/
theorem ta_around_no {post : Int32 → St2 → Prop} {t : Nat} {x : Int32} (ht : t < 3) (hx : ta_no x) (hp : post (-2) (fr, fo, fh, fb, a1, a2, a3, a4, a5, a6, a7, a8, a9, a10, a11, a12, a13, a14)) : wpX_around post (fr, fo, fh, fb, a1, a2, a3, a4, a5, a6, a7, a8, a9, a10, a11, a12, a13, a14) (nI t) x := by
  unfold wpX_around
  exact ta_trk ht (br_f (by decide) (ta_nstr hx (br_t rfl hp)))
theorem ta_around0 {post : Int32 → St2 → Prop} {t Y : Nat} (ht : t < 3) (hY : Y < 2 ^ 31) (hi : Y / 65 < Y % 65) (h : ta_P0 t a3) (hp : ∀ b6 b7 b9 : Nat → Int32, post (nI 0) (fr, fo, nI 0, nI t, a1, a2, a3, a4, a5, b6, b7, a8, b9, a10, a11, a12, a13, a14)) : wpX_around post (fr, fo, fh, -1, a1, a2, a3, a4, a5, a6, a7, a8, a9, a10, a11, a12, a13, a14) (nI t) (nI Y) := by
  unfold wpX_around
  exact ta_trk ht (br_f (by decide) (ta_str hY hi (br_f (by decide) ⟨ta_65, nm_r (ta_q hY) ⟨ta_65, nm_r (ta_r hY) (ta_find0 ht h (fun b6 b7 b9 => ⟨0 + 1, pk_le 0 0 (fun _ => hp b6 b7 b9) (fun z => absurd z (by decide))⟩))⟩⟩)))
theorem ta_around1 {post : Int32 → St2 → Prop} {t s e Y : Nat} (ht : t < 3) (hs : s ≤ 64) (he : e ≤ 64) (hY : Y < 2 ^ 31) (hi : Y / 65 < Y % 65) (h : ta_P1 t s e a1 a2 a3)
    (H0 : ¬ (s ≤ Y / 65 ∧ Y % 65 ≤ e) → ∀ (g : Int32) (b4 b5 b6 b7 b8 b9 : Nat → Int32), post (nI 0) (fr, fo, g, nI t, a1, a2, a3, b4, b5, b6, b7, b8, b9, a10, a11, a12, a13, a14))
    (H1 : (s ≤ Y / 65 ∧ Y % 65 ≤ e) → ∀ (g : Int32) (b4 b5 b6 b7 b8 b9 : Nat → Int32), post (nI 1) (fr, fo, g, nI t, a1, a2, a3, b4, b5, b6, b7, b8, b9, a10, a11, a12, a13, a14)) : wpX_around post (fr, fo, fh, -1, a1, a2, a3, a4, a5, a6, a7, a8, a9, a10, a11, a12, a13, a14) (nI t) (nI Y) := by
  unfold wpX_around
  refine ta_trk ht (br_f (by decide) (ta_str hY hi (br_f (by decide) ⟨ta_65, nm_r (ta_q hY) ⟨ta_65, nm_r (ta_r hY) ?_⟩⟩)))
  rw [nI_1]
  refine ta_find1 ht hs he (by omega) h (fun c b4 b5 b6 b7 b9 => ⟨0 + 1, pk_le 0 0 (fun _ => H0 (fun d => c ⟨d.1, by omega⟩) _ _ _ _ _ _ _) (fun z => absurd z (by decide))⟩) (fun c b4 b5 b6 b7 b8 b9 h8 => ⟨0 + 1 + 1, ?_⟩)
  have ix : 32 * nI t + b8 (nI 0).toNatClampNeg = nI (32 * t) := ta_sum (n := 0) (by rw [nI_clamp (by omega), h8])
  have e2 : a2 (32 * nI t + b8 (nI 0).toNatClampNeg).toNatClampNeg = nI e := by rw [ix, nI_clamp (by omega), h.2.2]
  exact pk_le 1 0 (fun z => absurd z (by decide)) (fun _ => ⟨pk_in 0 32 (by decide), pk_in (32 * t) 96 (by omega) ix, pk_lt e (Y % 65)
    (fun z => nm_r (nI_add 0 0) (nm_r (nI_1 0) (pk_le 1 1 (fun _ => H0 (fun d => absurd d.2 (by omega)) _ _ _ _ _ _ _) (fun z => absurd z (by decide)))))
    (fun z => nm_r (nI_1 0) (nm_r (nI_1 0) (pk_le 1 1 (fun _ => H1 ⟨c.1, z⟩ _ _ _ _ _ _ _) (fun z => absurd z (by decide))))) e2⟩)
/-! clear -/
theorem ta_clear_no {post : Int32 → St2 → Prop} {t : Nat} {x : Int32} (ht : t < 3) (hx : ta_no x) (hp : post (-2) (fr, fo, fh, fb, a1, a2, a3, a4, a5, a6, a7, a8, a9, a10, a11, a12, a13, a14)) : wpX_clear post (fr, fo, fh, fb, a1, a2, a3, a4, a5, a6, a7, a8, a9, a10, a11, a12, a13, a14) (nI t) x := by
  unfold wpX_clear
  exact ta_trk ht (br_f (by decide) (ta_nstr hx (br_t rfl hp)))
theorem ta_31_x {post : Int32 → St2 → Prop} {x1 x2 x3 : Int32} {f : Nat} (hp : post x3 (fr, fo, fh, fb, a1, a2, a3, a4, a5, a6, a7, a8, a9, a10, a11, a12, a13, a14)) : wX_clear_31 post x1 x2 (f + 1) x3 (-1) fr fo fh fb a1 a2 a3 a4 a5 a6 a7 a8 a9 a10 a11 a12 a13 a14 :=
  br_t (by decide) hp
theorem ta_clear0 {post : Int32 → St2 → Prop} {t Y : Nat} (ht : t < 3) (hY : Y < 2 ^ 31) (hi : Y / 65 < Y % 65) (h : ta_P0 t a3) (hp : post (nI 0) (fr, fo, fh, fb, a1, a2, a3, a4, a5, a6, a7, a8, a9, a10, a11, a12, a13, a14)) : wpX_clear post (fr, fo, fh, fb, a1, a2, a3, a4, a5, a6, a7, a8, a9, a10, a11, a12, a13, a14) (nI t) (nI Y) := by
  unfold wpX_clear
  exact ta_trk ht (br_f (by decide) (ta_str hY hi (br_f (by decide) ⟨pk_in t 3 ht, nm_r (e' := (-1)) (by rw [nI_clamp (by omega), show a3 t = nI 0 from h]; decide) ⟨0 + 1, ta_31_x hp⟩⟩)))
theorem ta_clear1 {post : Int32 → St2 → Prop} {t s e Y : Nat} (ht : t < 3) (hs : s ≤ 64) (he : e ≤ 64) (hY : Y < 2 ^ 31) (hi : Y / 65 < Y % 65) (h : ta_P1 t s e a1 a2 a3)
    (H0 : ¬ (Y / 65 ≤ s ∧ e ≤ Y % 65) → post (nI 0) (fr, fo, fh, fb, a1, a2, a3, a4, a5, a6, a7, a8, a9, a10, a11, a12, a13, a14)) (H1 : (Y / 65 ≤ s ∧ e ≤ Y % 65) → ∀ b3 : Nat → Int32, ta_P0 t b3 → post (nI 1) (fr, fo, fh, -1, a1, a2, b3, a4, a5, a6, a7, a8, a9, a10, a11, a12, a13, a14)) : wpX_clear post (fr, fo, fh, fb, a1, a2, a3, a4, a5, a6, a7, a8, a9, a10, a11, a12, a13, a14) (nI t) (nI Y) := by
  unfold wpX_clear
  have ix : 32 * nI t + nI 0 = nI (32 * t) := ta_sum (n := 0) rfl
  have e3 : a3 (nI t).toNatClampNeg = nI 1 := by rw [nI_clamp (by omega), h.1]
  have e1 : a1 (nI (32 * t)).toNatClampNeg = nI s := by rw [nI_clamp (by omega), h.2.1]
  have e2 : a2 (nI (32 * t)).toNatClampNeg = nI e := by rw [nI_clamp (by omega), h.2.2]
  have m1 : nI 0 + (-1) = -1 := by decide
  have D : ∀ (ψ : St2 → Prop), (∀ b3 : Nat → Int32, ta_P0 t b3 → ψ (fr, fo, fh, -1, a1, a2, b3, a4, a5, a6, a7, a8, a9, a10, a11, a12, a13, a14)) → wpX_drop ψ (fr, fo, fh, fb, a1, a2, a3, a4, a5, a6, a7, a8, a9, a10, a11, a12, a13, a14) (nI t) (nI 0) := by
    intro ψ hψ
    refine nm_r (e' := nI (32 * t + 1)) (by rw [ix, nI_1]) ⟨0 + 1, ?_⟩
    exact ⟨pk_in t 3 ht, pk_le (32 * t + 1) (32 * t + 1) (fun _ => ⟨pk_in t 3 ht, pk_in t 3 ht, nm_r (e' := upd a3 t (nI 0)) (by rw [e3, nI_clamp (by omega)]; rfl) (hψ _ pk_us)⟩) (fun z => absurd z (by omega)) (ta_sum e3)⟩
  have K : wX_clear_31 post (nI t) (nI Y) (0 + 1 + 1) (nI 0) (nI 0) fr fo fh fb a1 a2 a3 a4 a5 a6 a7 a8 a9 a10 a11 a12 a13 a14 := by
    refine pk_lt 0 0 (fun z => absurd z (by decide)) (fun _ => nm_r ix ⟨ta_65, pk_in (32 * t) 96 (by omega), pk_lt s (Y / 65) (fun z => nm_r m1 (ta_31_x (H0 (fun c => absurd c.1 (by omega))))) (fun z => ⟨pk_in (32 * t) 96 (by omega), ta_65, pk_lt (Y % 65) e (fun y => nm_r m1 (ta_31_x (H0 (fun c => absurd c.2 (by omega))))) (fun y => ?_) (ta_r hY) e2⟩) e1 (ta_q hY)⟩)
    exact D _ (fun b3 hb => nm_r (nI_1 0) (nm_r m1 (ta_31_x (H1 ⟨z, y⟩ b3 hb))))
  exact ta_trk ht (br_f (by decide) (ta_str hY hi (br_f (by decide) ⟨pk_in t 3 ht, nm_r (e' := nI 0) (by rw [e3]; rfl) ⟨0 + 1 + 1, K⟩⟩)))
/-! size, stretch -/
theorem ta_size {post : Int32 → Prop} {t m : Nat} (ht : t < 3) (h3 : a3 t = nI m) (hp : post (nI m)) : wpX_size post (fr, fo, fh, fb, a1, a2, a3, a4, a5, a6, a7, a8, a9, a10, a11, a12, a13, a14) (nI t) := by
  unfold wpX_size
  exact ta_trk ht (br_f (by decide) ⟨pk_in t 3 ht, ta_p1 (y := nI m) (by rw [nI_clamp (by omega), h3]) hp⟩)
theorem ta_str_0 {post : Int32 → Prop} {t : Nat} (ht : t < 3) (h : ta_P0 t a3) (hp : post (-2)) : wpX_stretch post (fr, fo, fh, fb, a1, a2, a3, a4, a5, a6, a7, a8, a9, a10, a11, a12, a13, a14) (nI t) 0 := by
  unfold wpX_stretch
  exact ta_trk ht (br_f (by decide) (br_f (by decide) ⟨pk_in t 3 ht, pk_le 0 0 (fun _ => hp) (fun z => absurd z (by decide)) (by rw [nI_clamp (by omega)]; exact h)⟩))
theorem ta_str_n {post : Int32 → Prop} {t n s e : Nat} (ht : t < 3) (hn : 0 < n) (hn' : n ≤ 32) (h3 : a3 t = nI n) (h1 : a1 (32 * t) = nI s) (h2 : a2 (32 * t) = nI e) (hp : post (nI (65 * s + e))) : wpX_stretch post (fr, fo, fh, fb, a1, a2, a3, a4, a5, a6, a7, a8, a9, a10, a11, a12, a13, a14) (nI t) 0 := by
  unfold wpX_stretch
  have ix : 32 * nI t + 0 = nI (32 * t) := ta_sum (n := 0) rfl
  refine ta_trk ht (br_f (by decide) (br_f (by decide) ⟨pk_in t 3 ht, pk_le n 0 (fun z => absurd z (by omega)) (fun _ => ⟨pk_in (32 * t) 96 (by omega) ix, pk_in (32 * t) 96 (by omega) ix, ta_p1 (y := nI (65 * s + e)) ?_ hp⟩) (by rw [nI_clamp (by omega), h3])⟩))
  rw [ix, nI_clamp (by omega), h1, h2]
  show nI 65 * nI s + nI e = nI (65 * s + e)
  rw [pk_mul, nI_add]
end
end
section
/-! what the third int asks: no stretch, or a stretch -/
def ta_A (x2 x5 : Int32) : Prop := (x5 = 0 ∧ ta_no x2) ∨ (x5 = 1 ∧ ∃ Y : Nat, Y < 2 ^ 31 ∧ Y / 65 < Y % 65 ∧ x2 = nI Y)
section
variable {fr fo fh fb : Int32} {a1 a2 a3 a4 a5 a6 a7 a8 a9 a10 a11 a12 a13 a14 : Nat → Int32}
/-! no track: every call refuses and keeps the state -/
theorem ta_x_add {post : Int32 → St2 → Prop} {x y : Int32} (hx : x < 0 ∨ 2 < x) (hp : post (-1) (fr, fo, fh, fb, a1, a2, a3, a4, a5, a6, a7, a8, a9, a10, a11, a12, a13, a14)) : wpX_add post (fr, fo, fh, fb, a1, a2, a3, a4, a5, a6, a7, a8, a9, a10, a11, a12, a13, a14) x y := by
  unfold wpX_add
  exact ta_ntrk hx (br_t rfl hp)
theorem ta_x_comp {post : Int32 → St2 → Prop} {x : Int32} (hx : x < 0 ∨ 2 < x) (hp : post (-1) (fr, fo, fh, fb, a1, a2, a3, a4, a5, a6, a7, a8, a9, a10, a11, a12, a13, a14)) : wpX_complement post (fr, fo, fh, fb, a1, a2, a3, a4, a5, a6, a7, a8, a9, a10, a11, a12, a13, a14) x := by
  unfold wpX_complement
  exact ta_ntrk hx (br_t rfl hp)
theorem ta_x_cov {post : Int32 → St2 → Prop} {x y : Int32} (hx : x < 0 ∨ 2 < x) (hp : post (-1) (fr, fo, fh, fb, a1, a2, a3, a4, a5, a6, a7, a8, a9, a10, a11, a12, a13, a14)) : wpX_covered post (fr, fo, fh, fb, a1, a2, a3, a4, a5, a6, a7, a8, a9, a10, a11, a12, a13, a14) x y := by
  unfold wpX_covered
  exact ta_ntrk hx (br_t rfl hp)
theorem ta_x_str {post : Int32 → Prop} {x y : Int32} (hx : x < 0 ∨ 2 < x) (hp : post (-1)) : wpX_stretch post (fr, fo, fh, fb, a1, a2, a3, a4, a5, a6, a7, a8, a9, a10, a11, a12, a13, a14) x y := by
  unfold wpX_stretch
  exact ta_ntrk hx (br_t rfl hp)
theorem ta_x_around {post : Int32 → St2 → Prop} {x y : Int32} (hx : x < 0 ∨ 2 < x) (hp : post (-1) (fr, fo, fh, fb, a1, a2, a3, a4, a5, a6, a7, a8, a9, a10, a11, a12, a13, a14)) : wpX_around post (fr, fo, fh, fb, a1, a2, a3, a4, a5, a6, a7, a8, a9, a10, a11, a12, a13, a14) x y := by
  unfold wpX_around
  exact ta_ntrk hx (br_t rfl hp)
theorem ta_x_clear {post : Int32 → St2 → Prop} {x y : Int32} (hx : x < 0 ∨ 2 < x) (hp : post (-1) (fr, fo, fh, fb, a1, a2, a3, a4, a5, a6, a7, a8, a9, a10, a11, a12, a13, a14)) : wpX_clear post (fr, fo, fh, fb, a1, a2, a3, a4, a5, a6, a7, a8, a9, a10, a11, a12, a13, a14) x y := by
  unfold wpX_clear
  exact ta_ntrk hx (br_t rfl hp)
theorem ta_x_size {post : Int32 → Prop} {x : Int32} (hx : x < 0 ∨ 2 < x) (hp : post (-1)) : wpX_size post (fr, fo, fh, fb, a1, a2, a3, a4, a5, a6, a7, a8, a9, a10, a11, a12, a13, a14) x := by
  unfold wpX_size
  exact ta_ntrk hx (br_t rfl hp)
/-! the law over no track, from its end to its start -/
theorem ta_x409 {post : Int32 → St0 → Prop} {mc ms kc ks : Nat} {x0 x2 x5 x6 x7 : Int32} (hp : post 1 ()) (hx : x0 < 0 ∨ 2 < x0) : wL_lawOf_409 post mc ms x0 x2 0 0 x5 x6 x7 (-1) (-1) kc ks fr fo fh fb a1 a2 a3 a4 a5 a6 a7 a8 a9 a10 a11 a12 a13 a14 :=
  br_t rfl (ta_x_clear hx (br_t rfl (br_t rfl (br_t rfl (ta_x_size hx (br_t rfl (br_t rfl hp)))))))
theorem ta_x295 {post : Int32 → St0 → Prop} {mc ms kc ks : Nat} {x0 x1 x2 x5 x6 x7 : Int32} (hp : post 1 ()) (hx : x0 < 0 ∨ 2 < x0) : wL_lawOf_295 post mc ms x0 x1 x2 0 0 x5 x6 x7 (-1) (-1) kc ks fr fo fh fb a1 a2 a3 a4 a5 a6 a7 a8 a9 a10 a11 a12 a13 a14 :=
  br_t rfl (ta_x_str hx (br_t rfl (br_t rfl (ta_x_around hx (br_t rfl (br_t rfl (ta_x409 hp hx)))))))
theorem ta_x196 {post : Int32 → St0 → Prop} {mc ms kc ks : Nat} {x0 x1 x2 x5 x6 x7 x9 : Int32} (hp : post 1 ()) (hx : x0 < 0 ∨ 2 < x0) : wL_lawOf_196 post mc ms x0 x1 x2 0 0 x5 x6 x7 x9 (-1) (-1) kc ks fr fo fh fb a1 a2 a3 a4 a5 a6 a7 a8 a9 a10 a11 a12 a13 a14 :=
  br_t rfl (ta_x_str hx (br_t rfl (br_t rfl (br_t rfl (ta_x_comp hx (br_t rfl (ta_x295 hp hx)))))))
theorem ta_x142 {post : Int32 → St0 → Prop} {mc ms kc ks : Nat} {x0 x1 x2 x5 x6 x7 z : Int32} (hp : post 1 ()) (hx : x0 < 0 ∨ 2 < x0) : wL_lawOf_142 post mc ms x0 x1 x2 0 0 x5 x6 x7 z kc ks fr fo fh fb a1 a2 a3 a4 a5 a6 a7 a8 a9 a10 a11 a12 a13 a14 :=
  ta_x_comp hx (br_t rfl (br_t rfl (ta_x_cov hx (br_t rfl (ta_x196 hp hx)))))
/-! the law's end: how many are left -/
theorem ta_488 {post : Int32 → St0 → Prop} {mc ms kc ks t m : Nat} {x4 x19 z0 z1 : Int32} (hp : post 1 ()) (ht : t < 3) (h3 : a3 t = nI m) (hz : z1 = z0) (h : (x4 = 0 ∧ m = 0) ∨ (x4 = 1 ∧ x19 = 0 ∧ m = 1) ∨ (x4 = 1 ∧ x19 = 1 ∧ m = 0)) : wL_lawOf_488 post mc ms (nI t) 1 x4 x19 z0 z1 kc ks fr fo fh fb a1 a2 a3 a4 a5 a6 a7 a8 a9 a10 a11 a12 a13 a14 := by
  refine br_t hz (ta_size ht h3 (br_f (by decide) ?_))
  rcases h with ⟨rfl, rfl⟩ | ⟨rfl, rfl, rfl⟩ | ⟨rfl, rfl, rfl⟩
  · exact br_t rfl (br_t rfl hp)
  · exact br_f (by decide) (br_t rfl (br_t rfl hp))
  · exact br_f (by decide) (br_f (by decide) (br_t rfl hp))
/-! a track, no stretch: out -/
theorem ta_o409 {post : Int32 → St0 → Prop} {mc ms kc ks t : Nat} {x2 x5 x6 x7 z0 z1 : Int32} (hp : post 1 ()) (ht : t < 3) (hA : ta_A x2 x5) (h : ta_P0 t a3) (hz : z1 = z0) : wL_lawOf_409 post mc ms (nI t) x2 1 0 x5 x6 x7 z0 z1 kc ks fr fo fh fb a1 a2 a3 a4 a5 a6 a7 a8 a9 a10 a11 a12 a13 a14 := by
  rcases hA with ⟨rfl, hn⟩ | ⟨rfl, Y, hY, hi, rfl⟩
  · exact br_t hz (ta_clear_no ht hn (br_t rfl (br_f (by decide) (br_t rfl (ta_488 hp ht h rfl (Or.inl ⟨rfl, rfl⟩))))))
  · exact br_t hz (ta_clear0 ht hY hi h (br_t rfl (br_f (by decide) (br_f (by decide) (br_t rfl (ta_488 hp ht h rfl (Or.inl ⟨rfl, rfl⟩)))))))
theorem ta_o330 {post : Int32 → St0 → Prop} {mc ms kc ks t : Nat} {x2 x5 x6 x7 z0 z1 : Int32} (hp : post 1 ()) (ht : t < 3) (hA : ta_A x2 x5) (h : ta_P0 t a3) (hz : z1 = z0) : wL_lawOf_330 post mc ms (nI t) x2 1 0 x5 x6 x7 z0 z1 kc ks fr fo fh (-1) a1 a2 a3 a4 a5 a6 a7 a8 a9 a10 a11 a12 a13 a14 := by
  have hA' := hA
  rcases hA with ⟨rfl, hn⟩ | ⟨rfl, Y, hY, hi, rfl⟩
  · exact br_t hz (ta_around_no ht hn (br_t rfl (br_f (by decide) (br_t rfl (ta_o409 hp ht hA' h rfl)))))
  · exact br_t hz (ta_around0 ht hY hi h (fun b6 b7 b9 => br_t rfl (br_f (by decide) (br_f (by decide) (br_t rfl (ta_o409 hp ht hA' h rfl))))))
theorem ta_o295 {post : Int32 → St0 → Prop} {mc ms kc ks t : Nat} {x1 x2 x5 x6 x7 z0 z1 : Int32} (hp : post 1 ()) (ht : t < 3) (hA : ta_A x2 x5) (h : ta_P0 t a3) (hz : z1 = z0) : wL_lawOf_295 post mc ms (nI t) x1 x2 1 0 x5 x6 x7 z0 z1 kc ks fr fo fh (-1) a1 a2 a3 a4 a5 a6 a7 a8 a9 a10 a11 a12 a13 a14 :=
  br_t hz (ta_str_0 ht h (br_f (by decide) (br_t rfl (ta_o330 hp ht hA h rfl))))
theorem ta_o142 {post : Int32 → St0 → Prop} {mc ms kc ks t : Nat} {x1 x2 x5 : Int32} (hp : post 1 ()) (ht : t < 3) (hA : ta_A x2 x5) (h : ta_P0 t a3) : wL_lawOf_142 post mc ms (nI t) x1 x2 1 0 x5 0 0 1 kc ks fr fo fh fb a1 a2 a3 a4 a5 a6 a7 a8 a9 a10 a11 a12 a13 a14 := by
  refine ta_comp0 ht h (fun g b1 b2 b3 b10 b11 hP => br_f (by decide) (br_t rfl ?_))
  refine ta_covered (s := 0) (e := 0) ht (by decide) (by decide) (Or.inr (Or.inl ⟨rfl, by decide, hP⟩)) (fun g => br_f (by decide) (br_t (by decide) ?_))
  refine ta_str_n (n := 1) (s := 0) (e := 64) ht (by decide) (by decide) hP.1 hP.2.1 hP.2.2 (br_t rfl (br_f (by decide) (br_f (by decide) (br_t rfl ?_))))
  exact ta_back0 ht hP (fun g c1 c2 c3 c10 c11 hQ => br_f (by decide) (br_t rfl (ta_o295 hp ht hA hQ rfl)))
/-! a track, a stretch: in -/
theorem ta_i409 {post : Int32 → St0 → Prop} {mc ms kc ks t s e : Nat} {x2 x5 z0 z1 : Int32} (hp : post 1 ()) (ht : t < 3) (hs : s ≤ 64) (he : e ≤ 64) (hA : ta_A x2 x5) (h : ta_P1 t s e a1 a2 a3) (hz : z1 = z0) : wL_lawOf_409 post mc ms (nI t) x2 1 1 x5 (nI s) (nI e) z0 z1 kc ks fr fo fh fb a1 a2 a3 a4 a5 a6 a7 a8 a9 a10 a11 a12 a13 a14 := by
  rcases hA with ⟨rfl, hn⟩ | ⟨rfl, Y, hY, hi, rfl⟩
  · exact br_t hz (ta_clear_no ht hn (br_f (by decide) (br_t rfl (br_f (by decide) (br_t rfl (ta_488 hp ht h.1 rfl (Or.inr (Or.inl ⟨rfl, rfl, rfl⟩))))))))
  · refine br_t hz (ta_clear1 ht hs he hY hi h (fun c => br_f (by decide) (br_f (by decide) ⟨ta_65, ?_⟩)) (fun c b3 hb => br_f (by decide) (br_f (by decide) ⟨ta_65, ?_⟩)))
    · have K : wL_lawOf_455 post mc ms (nI t) 1 1 1 (nI 0) kc ks fr fo fh fb a1 a2 a3 a4 a5 a6 a7 a8 a9 a10 a11 a12 a13 a14 := br_f (by decide) (br_f (by decide) (br_t rfl (ta_488 hp ht h.1 rfl (Or.inr (Or.inl ⟨rfl, rfl, rfl⟩)))))
      exact pk_lt s (Y / 65) (fun z => K) (fun z => ⟨ta_65, pk_lt (Y % 65) e (fun y => K) (fun y => absurd ⟨z, y⟩ c) (ta_r hY)⟩) rfl (ta_q hY)
    · exact pk_lt s (Y / 65) (fun z => absurd c.1 (by omega)) (fun z => ⟨ta_65, pk_lt (Y % 65) e (fun y => absurd c.2 (by omega)) (fun y => br_f (by decide) (br_f (by decide) (br_f (by decide) (ta_488 hp ht hb rfl (Or.inr (Or.inr ⟨rfl, rfl, rfl⟩)))))) (ta_r hY)⟩) rfl (ta_q hY)
theorem ta_i330 {post : Int32 → St0 → Prop} {mc ms kc ks t s e : Nat} {x2 x5 z0 z1 : Int32} (hp : post 1 ()) (ht : t < 3) (hs : s ≤ 64) (he : e ≤ 64) (hA : ta_A x2 x5) (h : ta_P1 t s e a1 a2 a3) (hz : z1 = z0) : wL_lawOf_330 post mc ms (nI t) x2 1 1 x5 (nI s) (nI e) z0 z1 kc ks fr fo fh (-1) a1 a2 a3 a4 a5 a6 a7 a8 a9 a10 a11 a12 a13 a14 := by
  have hA' := hA
  rcases hA with ⟨rfl, hn⟩ | ⟨rfl, Y, hY, hi, rfl⟩
  · exact br_t hz (ta_around_no ht hn (br_f (by decide) (br_t rfl (br_f (by decide) (br_t rfl (ta_i409 hp ht hs he hA' h rfl))))))
  · refine br_t hz (ta_around1 ht hs he hY hi h (fun c g b4 b5 b6 b7 b8 b9 => br_f (by decide) (br_f (by decide) ⟨ta_65, ?_⟩)) (fun c g b4 b5 b6 b7 b8 b9 => br_f (by decide) (br_f (by decide) ⟨ta_65, ?_⟩)))
    · have K : wL_lawOf_376 post mc ms (nI t) (nI Y) 1 1 1 (nI s) (nI e) (nI 0) kc ks fr fo g (nI t) a1 a2 a3 b4 b5 b6 b7 b8 b9 a10 a11 a12 a13 a14 := br_f (by decide) (br_f (by decide) (br_t rfl (ta_i409 hp ht hs he hA' h rfl)))
      exact pk_lt (Y / 65) s (fun z => K) (fun z => ⟨ta_65, pk_lt e (Y % 65) (fun y => K) (fun y => absurd ⟨z, y⟩ c) rfl (ta_r hY)⟩) (ta_q hY)
    · exact pk_lt (Y / 65) s (fun z => absurd c.1 (by omega)) (fun z => ⟨ta_65, pk_lt e (Y % 65) (fun y => absurd c.2 (by omega)) (fun y => br_f (by decide) (br_f (by decide) (br_f (by decide) (ta_i409 hp ht hs he hA' h rfl)))) rfl (ta_r hY)⟩) (ta_q hY)
theorem ta_i262 {post : Int32 → St0 → Prop} {mc ms kc ks t s e X : Nat} {x2 x5 z0 z1 : Int32} (hp : post 1 ()) (ht : t < 3) (hse : s < e) (he : e ≤ 64) (hX : 65 * s + e = X) (hA : ta_A x2 x5) (h : ta_C t s e a1 a2 a3) (hz : z1 = z0) : wL_lawOf_262 post mc ms (nI t) (nI X) x2 1 1 x5 (nI s) (nI e) z0 z1 kc ks fr fo fh fb a1 a2 a3 a4 a5 a6 a7 a8 a9 a10 a11 a12 a13 a14 := by
  refine br_t hz (ta_back ht hse he h (fun g b1 b2 b3 b10 b11 hP => br_f (by decide) (br_f (by decide) (br_t rfl ?_))))
  refine ta_str_n (n := 1) ht (by decide) (by decide) hP.1 hP.2.1 hP.2.2 (br_f (by decide) (br_f (by decide) ?_))
  exact ta_i330 hp ht (by omega) he hA hP (by rw [hX])
theorem ta_i196 {post : Int32 → St0 → Prop} {mc ms kc ks t s e X : Nat} {x2 x5 z0 z1 : Int32} (hp : post 1 ()) (ht : t < 3) (hse : s < e) (he : e ≤ 64) (hX : 65 * s + e = X) (hA : ta_A x2 x5) (h : ta_C t s e a1 a2 a3) (hz : z1 = z0) : wL_lawOf_196 post mc ms (nI t) (nI X) x2 1 1 x5 (nI s) (nI e) (nI (ta_m s e)) z0 z1 kc ks fr fo fh fb a1 a2 a3 a4 a5 a6 a7 a8 a9 a10 a11 a12 a13 a14 := by
  have W : ∀ {w0 w1 : Int32}, w1 = w0 → wL_lawOf_262 post mc ms (nI t) (nI X) x2 1 1 x5 (nI s) (nI e) w0 w1 kc ks fr fo fh fb a1 a2 a3 a4 a5 a6 a7 a8 a9 a10 a11 a12 a13 a14 := fun hw => ta_i262 hp ht hse he hX hA h hw
  refine br_t hz ?_
  rcases h with ⟨rfl, rfl, h⟩ | ⟨rfl, hl, h⟩ | ⟨hs, hx, rfl, h⟩ | ⟨hs, hx, hl, h⟩
  · exact ta_str_0 ht h (br_f (by decide) (pk_le 0 0 (fun _ => br_f (by decide) (br_t rfl (W rfl))) (fun z => absurd z (by decide))))
  · have hm : ta_m 0 e = 1 := by unfold ta_m; rw [if_neg (by decide), if_pos hl]
    rw [hm]
    refine ta_str_n (n := 1) ht (by decide) (by decide) h.1 h.2.1 h.2.2 (br_f (by decide) (pk_le 0 0 (fun _ => br_f (by decide) (br_f (by decide) (W ?_))) (fun z => absurd z (by decide))))
    show nI (65 * e + 64) = nI 65 * nI e + nI 64
    rw [pk_mul, nI_add]
  · have hm : ta_m s 64 = 1 := by unfold ta_m; rw [if_pos hs, if_neg (by decide)]
    rw [hm]
    exact ta_str_n (n := 1) ht (by decide) (by decide) h.1 h.2.1 h.2.2 (br_f (by decide) (pk_le s 0 (fun z => absurd z (by omega)) (fun _ => br_f (by decide) (br_f (by decide) (W (by rw [show 65 * 0 + s = s by omega]))))))
  · have hm : ta_m s e = 2 := by unfold ta_m; rw [if_pos hs, if_pos hl]
    rw [hm]
    exact ta_str_n (n := 2) ht (by decide) (by decide) h.1 h.2.1 h.2.2.1 (br_f (by decide) (pk_le s 0 (fun z => absurd z (by omega)) (fun _ => br_f (by decide) (br_f (by decide) (W (by rw [show 65 * 0 + s = s by omega]))))))
theorem ta_i142 {post : Int32 → St0 → Prop} {mc ms kc ks t s e X : Nat} {x2 x5 z : Int32} (hp : post 1 ()) (ht : t < 3) (hse : s < e) (he : e ≤ 64) (hX : 65 * s + e = X) (hA : ta_A x2 x5) (h : ta_P1 t s e a1 a2 a3) (hz : z = nI (ta_m s e)) : wL_lawOf_142 post mc ms (nI t) (nI X) x2 1 1 x5 (nI s) (nI e) z kc ks fr fo fh fb a1 a2 a3 a4 a5 a6 a7 a8 a9 a10 a11 a12 a13 a14 := by
  subst hz
  refine ta_comp1 ht hse he h (fun g b1 b2 b3 b10 b11 hC => br_f (by decide) (br_t rfl ?_))
  refine ta_covered ht (by omega) he hC (fun g => br_f (by decide) (ta_i196 hp ht hse he hX hA hC ?_))
  show nI (64 - (e - s)) = nI 64 - (nI e - nI s)
  rw [pk_sub (by omega), pk_sub (by omega)]
theorem ta_i125 {post : Int32 → St0 → Prop} {mc ms kc ks t s e X : Nat} {x2 x5 z : Int32} (hp : post 1 ()) (ht : t < 3) (hse : s < e) (he : e ≤ 64) (hX : 65 * s + e = X) (hA : ta_A x2 x5) (h : ta_P1 t s e a1 a2 a3) (hz : z = nI (if 0 < s then 1 else 0)) : wL_lawOf_125 post mc ms (nI t) (nI X) x2 1 1 x5 (nI s) (nI e) z kc ks fr fo fh fb a1 a2 a3 a4 a5 a6 a7 a8 a9 a10 a11 a12 a13 a14 := by
  refine pk_le 64 e (fun y => ta_i142 hp ht hse he hX hA h ?_) (fun y => ta_i142 hp ht hse he hX hA h ?_)
  · unfold ta_m
    rw [hz, if_neg (show ¬ e < 64 by omega)]
    exact nI_add _ 0
  · unfold ta_m
    rw [hz, if_pos y]
    exact nI_add _ 1
end
/-! the object is made, the stretch is put in -/
theorem ta_x91 {post : Int32 → St0 → Prop} {x0 x1 x2 x5 x6 x7 : Int32} (hp : post 1 ()) (hx : x0 < 0 ∨ 2 < x0) : wL_lawOf_91 post 336 5376 x0 x1 x2 0 0 x5 x6 x7 0 0 := by
  refine ⟨by decide, by decide, 14, 590, by decide, by decide, ?_⟩
  refine ⟨by decide, by decide, by decide, by decide, by decide, by decide, by decide, by decide, by decide, by decide, by decide, by decide, by decide, by decide, by decide, by decide, by decide, by decide, by decide, by decide, by decide, by decide, by decide, by decide, by decide, by decide, by decide, by decide, ?_⟩
  exact ta_x_add hx (br_t rfl (ta_x142 hp hx))
theorem ta_o91 {post : Int32 → St0 → Prop} {t : Nat} {x1 x2 x5 : Int32} (hp : post 1 ()) (ht : t < 3) (hx : ta_no x1) (hA : ta_A x2 x5) : wL_lawOf_91 post 336 5376 (nI t) x1 x2 1 0 x5 0 0 0 0 := by
  refine ⟨by decide, by decide, 14, 590, by decide, by decide, ?_⟩
  refine ⟨by decide, by decide, by decide, by decide, by decide, by decide, by decide, by decide, by decide, by decide, by decide, by decide, by decide, by decide, by decide, by decide, by decide, by decide, by decide, by decide, by decide, by decide, by decide, by decide, by decide, by decide, by decide, by decide, ?_⟩
  exact ta_add_no ht hx (br_t rfl (ta_o142 hp ht hA rfl))
theorem ta_i91 {post : Int32 → St0 → Prop} {t X : Nat} {x2 x5 : Int32} (hp : post 1 ()) (ht : t < 3) (hX : X < 2 ^ 31) (hi : X / 65 < X % 65) (hA : ta_A x2 x5) : wL_lawOf_91 post 336 5376 (nI t) (nI X) x2 1 1 x5 (nI (X / 65)) (nI (X % 65)) 0 0 := by
  refine ⟨by decide, by decide, 14, 590, by decide, by decide, ?_⟩
  refine ⟨by decide, by decide, by decide, by decide, by decide, by decide, by decide, by decide, by decide, by decide, by decide, by decide, by decide, by decide, by decide, by decide, by decide, by decide, by decide, by decide, by decide, by decide, by decide, by decide, by decide, by decide, by decide, by decide, ?_⟩
  refine ta_add ht hX hi rfl (fun b1 b2 b3 h => br_f (by decide) (pk_le (X / 65) 0 (fun z => ta_i125 hp ht hi (by omega) (by omega) hA h ?_) (fun z => ta_i125 hp ht hi (by omega) (by omega) hA h ?_)))
  · rw [if_neg (by omega)]
    rfl
  · rw [if_pos z]
    rfl
theorem ta_39 {post : Int32 → St0 → Prop} {mc ms kc ks : Nat} {x0 x1 x2 x3 z : Int32} (H : ∀ x5, ta_A x2 x5 → wL_lawOf_61 post mc ms x0 x1 x2 x3 z x5 kc ks) : wL_lawOf_39 post mc ms x0 x1 x2 x3 z kc ks := by
  by_cases c : x2 < 0
  · exact br_t c (H 0 (Or.inl ⟨rfl, fun X hX e => absurd (e ▸ c) (nI_pos hX)⟩))
  · obtain ⟨Y, hY, rfl⟩ := nI_of c
    refine br_f c ⟨ta_65, ta_65, pk_le (Y % 65) (Y / 65) (fun z => H 0 (Or.inl ⟨rfl, fun X hX e => ?_⟩)) (fun z => H 1 (Or.inr ⟨rfl, Y, hY, z, rfl⟩)) (ta_r hY) (ta_q hY)⟩
    have e' : Y = X := (nI_eq hY hX).mp e
    omega
theorem ta_bad {post : Int32 → St0 → Prop} {x0 x1 x2 : Int32} (hp : post 1 ()) (hx : x0 < 0 ∨ 2 < x0) : wL_lawOf_14 post 336 5376 x0 x1 x2 0 0 0 :=
  br_t rfl (ta_39 (fun x5 _ => br_t rfl (br_t rfl (ta_x91 hp hx))))
theorem ta_good {post : Int32 → St0 → Prop} {t : Nat} {x1 x2 : Int32} (hp : post 1 ()) (ht : t < 3) : wL_lawOf_14 post 336 5376 (nI t) x1 x2 1 0 0 := by
  refine br_f (by decide) ?_
  have O : ta_no x1 → wL_lawOf_38 post 336 5376 (nI t) x1 x2 1 0 0 := fun hx => ta_39 (fun x5 hA => br_t rfl (br_t rfl (ta_o91 hp ht hx hA)))
  by_cases c : x1 < 0
  · exact br_t c (O (fun X hX e => absurd (e ▸ c) (nI_pos hX)))
  · obtain ⟨X, hX, rfl⟩ := nI_of c
    refine br_f c ⟨ta_65, ta_65, pk_le (X % 65) (X / 65) (fun z => O (fun X' hX' e => ?_)) (fun z => ta_39 (fun x5 hA => br_f (by decide) ⟨ta_65, br_f (by decide) ⟨ta_65, ?_⟩⟩)) (ta_r hX) (ta_q hX)⟩
    · have e' : X = X' := (nI_eq hX hX').mp e
      omega
    · rw [ta_r hX, ta_q hX]
      exact ta_i91 hp ht hX z hA
theorem ta_law {post : Int32 → St0 → Prop} {x0 x1 x2 : Int32} (hp : post 1 ()) : wpL_lawOf post 336 5376 () x0 x1 x2 := by
  by_cases c : x0 < 0
  · exact br_t c (ta_bad hp (Or.inl c))
  · by_cases d : 2 < x0
    · exact br_f c (br_t d (ta_bad hp (Or.inr d)))
    · obtain ⟨t, ht, rfl⟩ := nI_of c
      have h3 : t < 3 := by
        rcases Nat.lt_or_ge t 3 with z | z
        · exact z
        · exact absurd (nI_lt (a := 2) z ht) d
      exact br_f c (br_f d (ta_good hp h3))
theorem ta_cell {post : Int32 → Prop} {L k : Nat} {xs : Nat → Int32} {u : St0} (hL : L ≤ 3) (hk : k < 3) (h : ∀ v, post v) : wpL_cellAt post L xs u (nI k) :=
  pk_le L k (fun _ => h 0) (fun z => ⟨pk_in k L z, h _⟩)
theorem i_vc (xs : Nat → Int32) (L : Nat) (hL : L ≤ 3) : wpL_law (fun r => r = 1) L xs := by
  unfold wpL_law
  refine ta_cell (k := 0) hL (by decide) (fun v0 => ta_cell (k := 1) hL (by decide) (fun v1 => ta_cell (k := 2) hL (by decide) (fun v2 => ?_)))
  exact ⟨336, 5376, by decide, by decide, ta_law rfl⟩
end
