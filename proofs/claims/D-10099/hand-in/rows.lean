section
/-- the record at place r of the log makes the values w out of the values v -/
def pt_R (a1 a2 a3 a4 : Nat → Int32) (r : Nat) (v w : Nat → Int32) : Prop :=
  (∃ k, k < 8 ∧ a1 r = nI k) ∧ (a3 r = -1 ∨ ∃ k, k < 8 ∧ a3 r = nI k) ∧
  ∀ k, k < 8 → w k = if a3 r = nI k then a4 r else if a1 r = nI k then a2 r else v k
/-- the first n values of x, each with its point in y, are values of the history q at points up to e -/
def pt_D (n : Nat) (q : Nat → Nat → Int32) (e : Nat) (x y : Nat → Int32) : Prop :=
  ∀ k, k < n → ∃ m, m ≤ e ∧ y k = nI m ∧ x k = q m k
/-- the log: T timelines with parents, forks and ends; V t p k is the value of key k at point p of timeline t -/
def pt_L (T : Nat) (par frk en : Nat → Nat) (V : Nat → Nat → Nat → Int32) (ft fn : Int32) (a1 a2 a3 a4 a5 a6 a7 : Nat → Int32) : Prop :=
  (1 ≤ T ∧ T ≤ 6) ∧ (ft = nI T ∧ fn = nI (T - 1)) ∧ (a5 0 = -1 ∧ frk 0 = 0) ∧
  (∀ t, t < T → a6 t = nI (frk t) ∧ a7 t = nI (en t) ∧ frk t ≤ en t ∧ en t ≤ 30) ∧
  (∀ t, 1 ≤ t → t < T → par t < t ∧ a5 t = nI (par t) ∧ frk t ≤ en (par t) ∧ ∀ p, p ≤ frk t → V t p = V (par t) p) ∧
  (∀ t, t < T → ∀ k, k < 8 → V t 0 k = 0) ∧
  (∀ t p, t < T → frk t < p → p ≤ en t → pt_R a1 a2 a3 a4 (31 * t + p) (V t (p - 1)) (V t p))
/-- the finished backups -/
def pt_B (T : Nat) (en : Nat → Nat) (V : Nat → Nat → Nat → Int32) (a12 a13 a15 a16 a17 : Nat → Int32) : Prop :=
  ∀ b, b < 4 → ¬ a12 b = 0 → ∃ l e, l < T ∧ e ≤ en l ∧ a13 b = nI l ∧ a15 b = nI e ∧ pt_D 8 (V l) e (fun j => a16 (8 * b + j)) (fun j => a17 (8 * b + j))
/-- the backup under way -/
def pt_U (c : Nat) (q : Nat → Nat → Int32) (e : Nat) (fb fu fc : Int32) (a12 a13 a16 a17 : Nat → Int32) : Prop :=
  ∃ b i, b < 4 ∧ i ≤ 8 ∧ fb = nI b ∧ fc = nI i ∧ (¬ fu = 0 → a12 b = 0 ∧ a13 b = nI c ∧ pt_D i q e (fun j => a16 (8 * b + j)) (fun j => a17 (8 * b + j)))
/-- memory, disk and backups against the log -/
def pt_M (T : Nat) (en : Nat → Nat) (V : Nat → Nat → Nat → Int32) (fb fu fc : Int32) (a8 a9 a10 a11 a12 a13 a15 a16 a17 : Nat → Int32) : Prop :=
  (pt_D 8 (V (T - 1)) (en (T - 1)) a8 a9 ∧ ∀ k, k < 8 → a8 k = V (T - 1) (en (T - 1)) k) ∧ pt_D 8 (V (T - 1)) (en (T - 1)) a10 a11 ∧
  pt_U (T - 1) (V (T - 1)) (en (T - 1)) fb fu fc a12 a13 a16 a17 ∧ pt_B T en V a12 a13 a15 a16 a17
/-- an object against the picture -/
def pt_K (T : Nat) (par frk en : Nat → Nat) (V : Nat → Nat → Nat → Int32) (u : St1) : Prop := match u with
  | (f0, f1, f2, f3, f4, a1, a2, a3, a4, a5, a6, a7, a8, a9, a10, a11, a12, a13, a14, a15, a16, a17) => pt_L T par frk en V f0 f1 a1 a2 a3 a4 a5 a6 a7 ∧ pt_M T en V f2 f3 f4 a8 a9 a10 a11 a12 a13 a15 a16 a17
def pt_en (en : Nat → Nat) (c x : Nat) : Nat → Nat := fun t => if t = c then x else en t
def pt_V (V : Nat → Nat → Nat → Int32) (c q : Nat) (w : Nat → Int32) : Nat → Nat → Nat → Int32 := fun t p => if t = c ∧ p = q then w else V t p
def pt_w (x v y w : Int32) (z : Nat → Int32) : Nat → Int32 := fun k => if y = nI k then w else if x = nI k then v else z k
def pt_VT (V : Nat → Nat → Nat → Int32) (T t : Nat) : Nat → Nat → Nat → Int32 := fun s => if s = T then V t else V s
theorem pt_en_s {en : Nat → Nat} {c x : Nat} : pt_en en c x c = x := if_pos rfl
theorem pt_en_n {en : Nat → Nat} {c x t : Nat} (h : t ≠ c) : pt_en en c x t = en t := if_neg h
theorem pt_V_s {V : Nat → Nat → Nat → Int32} {c q : Nat} {w : Nat → Int32} : pt_V V c q w c q = w := if_pos ⟨rfl, rfl⟩
theorem pt_V_n {V : Nat → Nat → Nat → Int32} {c q t p : Nat} {w : Nat → Int32} (h : ¬ (t = c ∧ p = q)) : pt_V V c q w t p = V t p := if_neg h
theorem pt_VT_s {V : Nat → Nat → Nat → Int32} {T t : Nat} : pt_VT V T t T = V t := if_pos rfl
theorem pt_VT_n {V : Nat → Nat → Nat → Int32} {T t s : Nat} (h : s ≠ T) : pt_VT V T t s = V s := if_neg h
theorem pt_Dmono {n e e' : Nat} {q q' : Nat → Nat → Int32} {x y : Nat → Int32} (h : pt_D n q e x y) (he : e ≤ e') (hq : ∀ m, m ≤ e → q' m = q m) : pt_D n q' e' x y := by
  intro k hk
  obtain ⟨m, hm, h1, h2⟩ := h k hk
  exact ⟨m, by omega, h1, by rw [hq m hm]; exact h2⟩
theorem pt_Dset {n e k : Nat} {q : Nat → Nat → Int32} {x y : Nat → Int32} {v p : Int32} (h : pt_D n q e x y) (hv : ∃ m, m ≤ e ∧ p = nI m ∧ v = q m k) : pt_D n q e (upd x k v) (upd y k p) := by
  intro j hj
  by_cases z : j = k
  · subst z
    obtain ⟨m, h1, h2, h3⟩ := hv
    exact ⟨m, h1, pk_us.trans h2, pk_us.trans h3⟩
  · obtain ⟨m, h1, h2, h3⟩ := h j hj
    exact ⟨m, h1, (pk_un z).trans h2, (pk_un z).trans h3⟩
theorem pt_Dpush {i e : Nat} {q : Nat → Nat → Int32} {x y : Nat → Int32} {v p : Int32} (h : pt_D i q e x y) (hv : ∃ m, m ≤ e ∧ p = nI m ∧ v = q m i) : pt_D (i + 1) q e (upd x i v) (upd y i p) := by
  intro j hj
  by_cases z : j = i
  · subst z
    obtain ⟨m, h1, h2, h3⟩ := hv
    exact ⟨m, h1, pk_us.trans h2, pk_us.trans h3⟩
  · obtain ⟨m, h1, h2, h3⟩ := h j (by omega)
    exact ⟨m, h1, (pk_un z).trans h2, (pk_un z).trans h3⟩
theorem pt_D8 {b i e : Nat} {q : Nat → Nat → Int32} {x y : Nat → Int32} {v p : Int32} (h : pt_D i q e (fun j => x (8 * b + j)) (fun j => y (8 * b + j))) (hv : ∃ m, m ≤ e ∧ p = nI m ∧ v = q m i) :
    pt_D (i + 1) q e (fun j => upd x (8 * b + i) v (8 * b + j)) (fun j => upd y (8 * b + i) p (8 * b + j)) := by
  intro j hj
  by_cases z : j = i
  · subst z
    obtain ⟨m, h1, h2, h3⟩ := hv
    exact ⟨m, h1, pk_us.trans h2, pk_us.trans h3⟩
  · obtain ⟨m, h1, h2, h3⟩ := h j (by omega)
    have z' : 8 * b + j ≠ 8 * b + i := by omega
    exact ⟨m, h1, (pk_un z').trans h2, (pk_un z').trans h3⟩
theorem pt_Bslot {T b i : Nat} {en : Nat → Nat} {V : Nat → Nat → Nat → Int32} {a12 a13 a15 a16 a17 : Nat → Int32} {v p : Int32} (h : pt_B T en V a12 a13 a15 a16 a17) (h0 : a12 b = 0) (hi : i < 8) :
    pt_B T en V a12 a13 a15 (upd a16 (8 * b + i) v) (upd a17 (8 * b + i) p) := by
  intro c hc hf
  have ne : c ≠ b := fun z => hf (by rw [z]; exact h0)
  obtain ⟨l, e, h1, h2, h3, h4, h5⟩ := h c hc hf
  refine ⟨l, e, h1, h2, h3, h4, fun j hj => ?_⟩
  have z' : 8 * c + j ≠ 8 * b + i := by omega
  obtain ⟨m, k1, k2, k3⟩ := h5 j hj
  exact ⟨m, k1, (pk_un z').trans k2, (pk_un z').trans k3⟩
theorem pt_Bmono {T T' : Nat} {en en' : Nat → Nat} {V V' : Nat → Nat → Nat → Int32} {a12 a13 a15 a16 a17 : Nat → Int32} (h : pt_B T en V a12 a13 a15 a16 a17) (hT : T ≤ T')
    (he : ∀ t, t < T → en t ≤ en' t) (hV : ∀ t m, t < T → m ≤ en t → V' t m = V t m) : pt_B T' en' V' a12 a13 a15 a16 a17 := by
  intro b hb hf
  obtain ⟨l, e, h1, h2, h3, h4, h5⟩ := h b hb hf
  have := he l h1
  exact ⟨l, e, by omega, by omega, h3, h4, pt_Dmono h5 (Nat.le_refl _) (fun m hm => hV l m h1 (by omega))⟩
theorem pt_Bbegin {T b : Nat} {en : Nat → Nat} {V : Nat → Nat → Nat → Int32} {a12 a13 a15 a16 a17 : Nat → Int32} {x : Int32} (h : pt_B T en V a12 a13 a15 a16 a17) :
    pt_B T en V (upd a12 b 0) (upd a13 b x) a15 a16 a17 := by
  intro c hc hf
  by_cases z : c = b
  · subst z
    exact absurd pk_us hf
  · rw [pk_un z] at hf
    rw [pk_un z]
    exact h c hc hf
theorem pt_Bend {T b l e : Nat} {en : Nat → Nat} {V : Nat → Nat → Nat → Int32} {a12 a13 a15 a16 a17 : Nat → Int32} (h : pt_B T en V a12 a13 a15 a16 a17) (hl : l < T) (he : e ≤ en l) (h13 : a13 b = nI l)
    (hD : pt_D 8 (V l) e (fun j => a16 (8 * b + j)) (fun j => a17 (8 * b + j))) : pt_B T en V (upd a12 b 1) a13 (upd a15 b (nI e)) a16 a17 := by
  intro c hc hf
  by_cases z : c = b
  · subst z
    exact ⟨l, e, hl, he, h13, pk_us, hD⟩
  · rw [pk_un z] at hf
    rw [pk_un z]
    exact h c hc hf
theorem pt_Rother {a1 a2 a3 a4 : Nat → Int32} {r s : Nat} {v w : Nat → Int32} {x1 x2 x3 x4 : Int32} (h : pt_R a1 a2 a3 a4 r v w) (ne : r ≠ s) : pt_R (upd a1 s x1) (upd a2 s x2) (upd a3 s x3) (upd a4 s x4) r v w := by
  unfold pt_R
  rw [pk_un ne, pk_un ne, pk_un ne, pk_un ne]
  exact h
theorem pt_Rself {a1 a2 a3 a4 : Nat → Int32} {s : Nat} {v : Nat → Int32} {x1 x2 x3 x4 : Int32} (h1 : ∃ k, k < 8 ∧ x1 = nI k) (h3 : x3 = -1 ∨ ∃ k, k < 8 ∧ x3 = nI k) : pt_R (upd a1 s x1) (upd a2 s x2) (upd a3 s x3) (upd a4 s x4) s v (pt_w x1 x2 x3 x4 v) := by
  unfold pt_R
  rw [pk_us, pk_us, pk_us, pk_us]
  exact ⟨h1, h3, fun k _ => rfl⟩
theorem pt_Lgrow {T : Nat} {par frk en : Nat → Nat} {V : Nat → Nat → Nat → Int32} {ft fn : Int32} {a1 a2 a3 a4 a5 a6 a7 : Nat → Int32} (h : pt_L T par frk en V ft fn a1 a2 a3 a4 a5 a6 a7)
    {c e : Nat} (hc : c = T - 1) (he : e = en c) (h30 : e < 30) {x v y w : Int32} (hx : ∃ k, k < 8 ∧ x = nI k) (hy : y = -1 ∨ ∃ k, k < 8 ∧ y = nI k) :
    pt_L T par frk (pt_en en c (e + 1)) (pt_V V c (e + 1) (pt_w x v y w (V c e))) ft fn (upd a1 (31 * c + (e + 1)) x) (upd a2 (31 * c + (e + 1)) v) (upd a3 (31 * c + (e + 1)) y) (upd a4 (31 * c + (e + 1)) w) a5 a6 (upd a7 c (nI (e + 1))) := by
  obtain ⟨⟨hT1, hT6⟩, hf, h0, hE, hP, hZ, hR⟩ := h
  refine ⟨⟨hT1, hT6⟩, hf, h0, fun t ht => ?_, fun t h1 ht => ?_, fun t ht k hk => ?_, fun t p ht hp hpe => ?_⟩
  · obtain ⟨e1, e2, e3, e4⟩ := hE t ht
    by_cases z : t = c
    · subst z
      rw [pk_us, pt_en_s]
      exact ⟨e1, rfl, by omega, by omega⟩
    · rw [pk_un z, pt_en_n z]
      exact ⟨e1, e2, e3, e4⟩
  · obtain ⟨e1, e2, e3, e4⟩ := hP t h1 ht
    have k1 := (hE t ht).2.2.1
    rw [pt_en_n (show par t ≠ c by omega)]
    refine ⟨e1, e2, e3, fun p hp => ?_⟩
    rw [pt_V_n (show ¬ (t = c ∧ p = e + 1) by intro z; rw [z.1] at hp k1; omega), pt_V_n (show ¬ (par t = c ∧ p = e + 1) by omega)]
    exact e4 p hp
  · rw [pt_V_n (by omega)]
    exact hZ t ht k hk
  · by_cases z : t = c ∧ p = e + 1
    · obtain ⟨z1, z2⟩ := z
      subst z1
      subst z2
      rw [pt_V_s, pt_V_n (by omega)]
      exact pt_Rself hx hy
    · have k4 := (hE t ht).2.2.2
      have k : p ≤ en t := by
        by_cases z1 : t = c
        · subst z1
          rw [pt_en_s] at hpe
          omega
        · rw [pt_en_n z1] at hpe
          exact hpe
      rw [pt_V_n z, pt_V_n (by intro y; rw [y.1] at k; omega)]
      exact pt_Rother (hR t p ht hp k) (by omega)
theorem pt_Lfork {T : Nat} {par frk en : Nat → Nat} {V : Nat → Nat → Nat → Int32} {ft fn : Int32} {a1 a2 a3 a4 a5 a6 a7 : Nat → Int32} (h : pt_L T par frk en V ft fn a1 a2 a3 a4 a5 a6 a7)
    {t n : Nat} (hT : T < 6) (ht : t < T) (hn : n ≤ en t) :
    pt_L (T + 1) (pt_en par T t) (pt_en frk T n) (pt_en en T n) (pt_VT V T t) (nI (T + 1)) (nI T) a1 a2 a3 a4 (upd a5 T (nI t)) (upd a6 T (nI n)) (upd a7 T (nI n)) := by
  obtain ⟨⟨hT1, hT6⟩, hf, ⟨h0, h0'⟩, hE, hP, hZ, hR⟩ := h
  have n30 : n ≤ 30 := Nat.le_trans hn (hE t ht).2.2.2
  refine ⟨⟨by omega, by omega⟩, ⟨rfl, rfl⟩, ⟨by rw [pk_un (by omega)]; exact h0, by rw [pt_en_n (by omega)]; exact h0'⟩, fun s hs => ?_, fun s h1 hs => ?_, fun s hs k hk => ?_, fun s p hs hp hpe => ?_⟩
  · by_cases z : s = T
    · subst z
      rw [pk_us, pk_us, pt_en_s, pt_en_s]
      exact ⟨rfl, rfl, by omega, n30⟩
    · rw [pk_un z, pk_un z, pt_en_n z, pt_en_n z]
      exact hE s (by omega)
  · by_cases z : s = T
    · subst z
      rw [pk_us, pt_en_s, pt_en_s, pt_en_n (by omega), pt_VT_s, pt_VT_n (by omega)]
      exact ⟨ht, rfl, hn, fun p hp => rfl⟩
    · have hh := hP s h1 (by omega)
      rw [pk_un z, pt_en_n z, pt_en_n z, pt_en_n (by omega), pt_VT_n z, pt_VT_n (by omega)]
      exact hh
  · by_cases z : s = T
    · subst z
      rw [pt_VT_s]
      exact hZ t ht k hk
    · rw [pt_VT_n z]
      exact hZ s (by omega) k hk
  · by_cases z : s = T
    · subst z
      rw [pt_en_s] at hp hpe
      omega
    · rw [pt_en_n z] at hp hpe
      rw [pt_VT_n z]
      exact hR s p (by omega) hp hpe
end
section
section
variable {T : Nat} {par frk en : Nat → Nat} {V : Nat → Nat → Nat → Int32} {f0 f1 f2 f3 f4 : Int32} {a1 a2 a3 a4 a5 a6 a7 a8 a9 a10 a11 a12 a13 a14 a15 a16 a17 : Nat → Int32}
theorem pt_bad {post : Int32 → Prop} {x : Int32} {k : Nat} (hx : x = nI k) (hk : k < 8) (H : post 0) : wpX_bad post (f0, f1, f2, f3, f4, a1, a2, a3, a4, a5, a6, a7, a8, a9, a10, a11, a12, a13, a14, a15, a16, a17) x := by
  subst hx
  exact br_f (nI_pos (by omega)) (pk_lt k 8 (fun _ => H) (fun z => absurd z (by omega)))
theorem pt_noPoint {post : Int32 → Prop} (h : pt_L T par frk en V f0 f1 a1 a2 a3 a4 a5 a6 a7) {x y : Int32} {t n : Nat} (hx : x = nI t) (hy : y = nI n) (ht : t < 2 ^ 31) (hn : n < 2 ^ 31)
    (H0 : t < T → n ≤ en t → post 0) (H1 : ¬ (t < T ∧ n ≤ en t) → post 1) : wpX_noPoint post (f0, f1, f2, f3, f4, a1, a2, a3, a4, a5, a6, a7, a8, a9, a10, a11, a12, a13, a14, a15, a16, a17) x y := by
  subst hx
  subst hy
  obtain ⟨⟨hT1, hT6⟩, ⟨hf0, hf1⟩, h0, hE, hP, hZ, hR⟩ := h
  refine br_f (nI_pos ht) (pk_le T t (fun z => H1 (by omega)) (fun z => br_f (nI_pos hn) ⟨pk_in t 6 (by omega), ?_⟩) hf0)
  rw [nI_clamp ht]
  obtain ⟨e1, e2, e3, e4⟩ := hE t z
  exact pk_le n (en t) (fun z2 => H0 z z2) (fun z2 => H1 (by omega)) rfl e2
theorem pt_entryL {post : Int32 → Prop} (h : pt_L T par frk en V f0 f1 a1 a2 a3 a4 a5 a6 a7) {t p : Nat} (hp : 1 ≤ p)
    (H : ∀ r, r < 186 → pt_R a1 a2 a3 a4 r (V t (p - 1)) (V t p) → post (nI r)) :
    ∀ n s i, s < T → i + s ≤ 5 → p ≤ en s → V s (p - 1) = V t (p - 1) → V s p = V t p → s < n → wX_entry_5 post (nI p) f0 f1 f2 f3 f4 a1 a2 a3 a4 a5 a6 a7 a8 a9 a10 a11 a12 a13 a14 a15 a16 a17 n (nI s) (nI i) := by
  obtain ⟨⟨hT1, hT6⟩, ⟨hf0, hf1⟩, ⟨h50, hk0⟩, hE, hP, hZ, hR⟩ := h
  intro n
  induction n with
  | zero =>
    intro s i _ _ _ _ _ z
    exact absurd z (by omega)
  | succ n ih =>
    intro s i hs hi hpe e1 e2 hn
    have hc : (nI s).toNatClampNeg = s := nI_clamp (by omega)
    obtain ⟨h6, h7, hle, h30⟩ := hE s hs
    have hdone : frk s < p → post (nI s * 31 + nI p) := by
      intro z
      have e3 : nI s * 31 + nI p = nI (31 * s + p) := by
        rw [show (31 : Int32) = nI 31 from rfl, pk_mul, nI_add, Nat.mul_comm]
      rw [e3]
      refine H _ (by omega) ?_
      rw [← e1, ← e2]
      exact hR s p hs z hpe
    refine pk_le 6 i (fun z => absurd z (by omega)) (fun _ => ⟨pk_in s 6 (by omega), ?_⟩)
    rw [hc]
    refine pk_lt (frk s) p (fun z => hdone z) (fun z => ⟨pk_in s 6 (by omega), ?_⟩) h6
    by_cases hs0 : s = 0
    · subst hs0
      exact absurd z (by omega)
    · obtain ⟨p1, p2, p3, p4⟩ := hP s (by omega) hs
      refine br_f (by rw [p2]; exact nI_pos (by omega)) ⟨pk_in s 6 (by omega), nm_r p2 (nm_r (nI_1 i) ?_)⟩
      exact ih (par s) (i + 1) (by omega) (by omega) (by omega) (by rw [← p4 (p - 1) (by omega)]; exact e1) (by rw [← p4 p z]; exact e2) (by omega)
theorem pt_entry {post : Int32 → Prop} (h : pt_L T par frk en V f0 f1 a1 a2 a3 a4 a5 a6 a7) {t p : Nat} (ht : t < T) (hp : 1 ≤ p) (hpe : p ≤ en t)
    (H : ∀ r, r < 186 → pt_R a1 a2 a3 a4 r (V t (p - 1)) (V t p) → post (nI r)) : wpX_entry post (f0, f1, f2, f3, f4, a1, a2, a3, a4, a5, a6, a7, a8, a9, a10, a11, a12, a13, a14, a15, a16, a17) (nI t) (nI p) := by
  have h6 := h.1.2
  exact Exists.intro 6 (pt_entryL h hp H 6 t 0 ht (by omega) hpe rfl rfl (by omega))
theorem pt_valueThenL {post : Int32 → Prop} (h : pt_L T par frk en V f0 f1 a1 a2 a3 a4 a5 a6 a7) {t k : Nat} (ht : t < T) (hk : k < 8) :
    ∀ n, n ≤ en t → post (V t n k) → wX_valueThen_3 post (nI t) (nI k) f0 f1 f2 f3 f4 a1 a2 a3 a4 a5 a6 a7 a8 a9 a10 a11 a12 a13 a14 a15 a16 a17 (n + 1) (nI n) := by
  have hZ := h.2.2.2.2.2.1
  have h30 := (h.2.2.2.1 t ht).2.2.2
  intro n
  induction n with
  | zero =>
    intro hn H
    rw [hZ t ht k hk] at H
    exact pk_le 0 0 (fun _ => H) (fun z => absurd z (by omega))
  | succ n ih =>
    intro hn H
    refine pk_le (n + 1) 0 (fun z => absurd z (by omega)) (fun _ => pt_entry h ht (by omega) hn (fun r hr hR => ?_))
    rw [nI_clamp (show r < 2 ^ 31 by omega)]
    obtain ⟨_, _, hV⟩ := hR
    have hv := hV k hk
    refine ⟨pk_in r 186 hr, br_c (fun z => ⟨pk_in r 186 hr, ?_⟩) (fun z => ⟨pk_in r 186 hr, br_c (fun z2 => ⟨pk_in r 186 hr, ?_⟩) (fun z2 => nm_r (pk_m1 n) (ih (by omega) ?_))⟩)⟩
    · rw [if_pos z] at hv
      rw [← hv]
      exact H
    · rw [if_neg z, if_pos z2] at hv
      rw [← hv]
      exact H
    · rw [if_neg z, if_neg z2] at hv
      have hv' : V t (n + 1) k = V t n k := hv
      rw [← hv']
      exact H
theorem pt_valueThen {post : Int32 → Prop} (h : pt_L T par frk en V f0 f1 a1 a2 a3 a4 a5 a6 a7) {t n k : Nat} (ht : t < T) (hn : n ≤ en t) (hk : k < 8) (H : post (V t n k)) : wpX_valueThen post (f0, f1, f2, f3, f4, a1, a2, a3, a4, a5, a6, a7, a8, a9, a10, a11, a12, a13, a14, a15, a16, a17) (nI t) (nI n) (nI k) :=
  Exists.intro (n + 1) (pt_valueThenL h ht hk n hn H)
def pt_va (T : Nat) (en : Nat → Nat) (V : Nat → Nat → Nat → Int32) (t n k : Nat) : Int32 := if t < T ∧ n ≤ en t then V t n k else 0
def pt_lp (T : Nat) (en : Nat → Nat) (t : Nat) : Int32 := if t < T then nI (en t) else -4
theorem pt_valueAt {post : Int32 → Prop} (h : pt_L T par frk en V f0 f1 a1 a2 a3 a4 a5 a6 a7) {x y w : Int32} {t n k : Nat} (hx : x = nI t) (hy : y = nI n) (hw : w = nI k) (ht : t < 2 ^ 31) (hn : n < 2 ^ 31) (hk : k < 8)
    (H : post (pt_va T en V t n k)) : wpX_valueAt post (f0, f1, f2, f3, f4, a1, a2, a3, a4, a5, a6, a7, a8, a9, a10, a11, a12, a13, a14, a15, a16, a17) x y w := by
  subst hx
  subst hy
  subst hw
  unfold wpX_valueAt
  dsimp only
  refine pt_noPoint h rfl rfl ht hn (fun h1 h2 => br_t rfl (pt_bad rfl hk (br_t rfl (pt_valueThen h h1 h2 hk ?_)))) (fun h1 => br_f (by decide) ?_)
  · have e : pt_va T en V t n k = V t n k := if_pos ⟨h1, h2⟩
    rw [e] at H
    exact H
  · have e : pt_va T en V t n k = 0 := if_neg h1
    rw [e] at H
    exact H
theorem pt_lastPoint {post : Int32 → Prop} (h : pt_L T par frk en V f0 f1 a1 a2 a3 a4 a5 a6 a7) {x : Int32} {t : Nat} (hx : x = nI t) (ht : t < 2 ^ 31) (H : post (pt_lp T en t)) : wpX_lastPoint post (f0, f1, f2, f3, f4, a1, a2, a3, a4, a5, a6, a7, a8, a9, a10, a11, a12, a13, a14, a15, a16, a17) x := by
  subst hx
  obtain ⟨⟨hT1, hT6⟩, ⟨hf0, hf1⟩, h0, hE, hP, hZ, hR⟩ := h
  refine br_f (nI_pos ht) (pk_lt t T (fun z => ⟨pk_in t 6 (by omega), ?_⟩) (fun z => ?_) rfl hf0)
  · rw [nI_clamp ht, (hE t z).2.1]
    have e : pt_lp T en t = nI (en t) := if_pos z
    rw [e] at H
    exact H
  · have e : pt_lp T en t = -4 := if_neg (by omega)
    rw [e] at H
    exact H
theorem pt_get {post : Int32 → Prop} {x : Int32} {k : Nat} (hx : x = nI k) (hk : k < 8) (H : post (a8 k)) : wpX_get post (f0, f1, f2, f3, f4, a1, a2, a3, a4, a5, a6, a7, a8, a9, a10, a11, a12, a13, a14, a15, a16, a17) x := by
  subst hx
  unfold wpX_get
  dsimp only
  refine pt_bad rfl hk (br_t rfl ⟨pk_in k 8 hk, ?_⟩)
  rw [nI_clamp (by omega)]
  exact H
theorem pt_apply {post : St1 → Prop} {x v p : Int32} {k : Nat} (hx : x = nI k) (hk : k < 8) (H : post (f0, f1, f2, f3, f4, a1, a2, a3, a4, a5, a6, a7, upd a8 k v, upd a9 k p, a10, a11, a12, a13, a14, a15, a16, a17)) : wpX_apply post (f0, f1, f2, f3, f4, a1, a2, a3, a4, a5, a6, a7, a8, a9, a10, a11, a12, a13, a14, a15, a16, a17) x v p := by
  subst hx
  have hc : (nI k).toNatClampNeg = k := nI_clamp (by omega)
  exact And.intro (pk_in k 8 hk) (nm_r (by rw [hc]) ⟨pk_in k 8 hk, nm_r (by rw [hc]) H⟩)
theorem pt_differsL {post : Int32 → Prop} (h : pt_L T par frk en V f0 f1 a1 a2 a3 a4 a5 a6 a7) {t n : Nat} (ht : t < T) (hn : n ≤ en t) (hm : ∀ k, k < 8 → a8 k = V t n k) (H : post 0) : ∃ N, wX_differs_17 post (nI t) (nI n) f0 f1 f2 f3 f4 a1 a2 a3 a4 a5 a6 a7 a8 a9 a10 a11 a12 a13 a14 a15 a16 a17 N 0 0 :=
  pk_loop (σ := Unit) (fun N i _ => wX_differs_17 post (nI t) (nI n) f0 f1 f2 f3 f4 a1 a2 a3 a4 a5 a6 a7 a8 a9 a10 a11 a12 a13 a14 a15 a16 a17 N 0 (nI i)) (fun _ _ => True) 8 0 () (by omega) trivial
    (fun N _ _ => pk_le 8 8 (fun _ => H) (fun z => absurd z (by omega)))
    (fun N i _ hi _ hw => pk_le 8 i (fun z => absurd z (by omega)) (fun _ => pt_valueThen h ht hn hi ⟨pk_in i 8 hi, br_t (by rw [nI_clamp (by omega)]; exact (hm i hi).symm) (nm_r (nI_1 i) (hw () trivial))⟩))
theorem pt_differs {post : Int32 → Prop} (h : pt_L T par frk en V f0 f1 a1 a2 a3 a4 a5 a6 a7) {x y : Int32} {t n : Nat} (hx : x = nI t) (hy : y = nI n) (ht : t < T) (hn : n ≤ en t) (hm : ∀ k, k < 8 → a8 k = V t n k) (H : post 0) : wpX_differs post (f0, f1, f2, f3, f4, a1, a2, a3, a4, a5, a6, a7, a8, a9, a10, a11, a12, a13, a14, a15, a16, a17) x y := by
  subst hx
  subst hy
  have h6 := h.1.2
  have h30 := (h.2.2.2.1 t ht).2.2.2
  unfold wpX_differs
  dsimp only
  exact pt_noPoint h rfl rfl (by omega) (by omega) (fun _ _ => br_t rfl (pt_differsL h ht hn hm H)) (fun z => absurd ⟨ht, hn⟩ z)
end
end
section
/-- key k has taken over all changes up to point i -/
def pt_t (q : Nat → Nat → Int32) (n i : Nat) (x y : Nat → Int32) (k : Nat) : Prop :=
  ∃ m, m ≤ n ∧ y k = nI m ∧ x k = q m k ∧ x k = q (max m i) k
theorem pt_t_upd {q : Nat → Nat → Int32} {n i k : Nat} {x y : Nat → Int32} {v : Int32} (hi : i ≤ n) (hv : v = q i k) : pt_t q n i (upd x k v) (upd y k (nI i)) k := by
  refine ⟨i, hi, pk_us, ?_, ?_⟩
  · rw [pk_us]
    exact hv
  · rw [pk_us, Nat.max_self]
    exact hv
theorem pt_t_other {q : Nat → Nat → Int32} {n i k j : Nat} {x y : Nat → Int32} {v p : Int32} (ne : j ≠ k) (h : pt_t q n i x y j) : pt_t q n i (upd x k v) (upd y k p) j := by
  obtain ⟨m, h1, h2, h3, h4⟩ := h
  refine ⟨m, h1, ?_, ?_, ?_⟩
  · rw [pk_un ne]
    exact h2
  · rw [pk_un ne]
    exact h3
  · rw [pk_un ne]
    exact h4
theorem pt_t_ge {q : Nat → Nat → Int32} {n i k m : Nat} {x y : Nat → Int32} (h : m ≤ n ∧ y k = nI m ∧ x k = q m k ∧ x k = q (max m (i - 1)) k) (hm : i ≤ m) : pt_t q n i x y k := by
  obtain ⟨h1, h2, h3, h4⟩ := h
  exact ⟨m, h1, h2, h3, by rw [show max m i = m by omega]; exact h3⟩
theorem pt_t_same {q : Nat → Nat → Int32} {n i k : Nat} {x y : Nat → Int32} (h : pt_t q n (i - 1) x y k) (e : q i k = q (i - 1) k) : pt_t q n i x y k := by
  obtain ⟨m, h1, h2, h3, h4⟩ := h
  refine ⟨m, h1, h2, h3, ?_⟩
  by_cases z : i ≤ m
  · rw [show max m i = m by omega]
    exact h3
  · rw [show max m i = i by omega, e]
    rw [show max m (i - 1) = i - 1 by omega] at h4
    exact h4
section
variable {T : Nat} {par frk en : Nat → Nat} {V : Nat → Nat → Nat → Int32} {f0 f1 f2 f3 f4 : Int32} {a1 a2 a3 a4 a5 a6 a7 a8 a9 a10 a11 a12 a13 a14 a15 a16 a17 : Nat → Int32}
theorem pt_redo86 {post : St1 → Prop} {J : Int32 → Int32 → Int32 → Int32 → Int32 → Int32 → (Nat → Int32) → (Nat → Int32) → (Nat → Int32) → (Nat → Int32) → (Nat → Int32) → (Nat → Int32) → (Nat → Int32) → (Nat → Int32) → (Nat → Int32) → (Nat → Int32) → (Nat → Int32) → (Nat → Int32) → (Nat → Int32) → (Nat → Int32) → (Nat → Int32) → (Nat → Int32) → (Nat → Int32) → Prop}
    {x1 x2 : Int32} {q : Nat → Nat → Int32} {n i r ka : Nat} (hr : r < 186) (hR : pt_R a1 a2 a3 a4 r (q (i - 1)) (q i)) (hn : n ≤ 30) (hi : i ≤ n) (hka : a1 r = nI ka) (k8 : ka < 8)
    (hA : pt_t q n i a8 a9 ka) (hO : ∀ k, k < 8 → k ≠ ka → pt_t q n (i - 1) a8 a9 k)
    (H : ∀ x y, (∀ k, k < 8 → pt_t q n i x y k) → J (nI (i + 1)) f0 f1 f2 f3 f4 a1 a2 a3 a4 a5 a6 a7 x y a10 a11 a12 a13 a14 a15 a16 a17) : wX_redo_86 post J x1 x2 (nI i) (nI r) f0 f1 f2 f3 f4 a1 a2 a3 a4 a5 a6 a7 a8 a9 a10 a11 a12 a13 a14 a15 a16 a17 := by
  obtain ⟨_, hB, hV⟩ := hR
  unfold wX_redo_86
  rw [nI_clamp (show r < 2 ^ 31 by omega)]
  refine ⟨pk_in r 186 hr, ?_⟩
  have rest : ∀ k, k < 8 → k ≠ ka → a3 r ≠ nI k → q i k = q (i - 1) k := by
    intro k hk ne z
    have hv := hV k hk
    rw [if_neg z, if_neg (by rw [hka]; intro y; exact ne ((nI_eq (by omega) (by omega)).mp y).symm)] at hv
    exact hv
  rcases hB with z | ⟨kb, hkb, z⟩
  · refine br_t (by rw [z]; decide) (nm_r (nI_1 i) (H a8 a9 (fun k hk => ?_)))
    by_cases e : k = ka
    · rw [e]
      exact hA
    · exact pt_t_same (hO k hk e) (rest k hk e (by rw [z]; intro y; exact absurd (show (-1 : Int32) < 0 by decide) (by rw [y]; exact nI_pos (by omega))))
  · refine br_f (by rw [z]; exact nI_pos (by omega)) ⟨pk_in r 186 hr, pk_in kb 8 hkb z, ?_⟩
    have hcb : (a3 r).toNatClampNeg = kb := by
      rw [z]
      exact nI_clamp (by omega)
    rw [hcb]
    have restb : ∀ k, k < 8 → k ≠ ka → k ≠ kb → q i k = q (i - 1) k := by
      intro k hk ne ne2
      refine rest k hk ne ?_
      rw [z]
      intro y
      exact ne2 ((nI_eq (by omega) (by omega)).mp y).symm
    have tb : ∃ m, m ≤ n ∧ a9 kb = nI m ∧ (i ≤ m → pt_t q n i a8 a9 kb) := by
      by_cases e : kb = ka
      · obtain ⟨m, h1, h2, h3, h4⟩ := hA
        rw [e]
        exact ⟨m, h1, h2, fun _ => ⟨m, h1, h2, h3, h4⟩⟩
      · obtain ⟨m, h1⟩ := hO kb hkb e
        exact ⟨m, h1.1, h1.2.1, fun g => pt_t_ge h1 g⟩
    obtain ⟨m, m1, m2, m3⟩ := tb
    refine pk_le i m (fun g => nm_r (nI_1 i) (H a8 a9 (fun k hk => ?_))) (fun g => ⟨pk_in r 186 hr, pk_in r 186 hr, pt_apply z hkb (nm_r (nI_1 i) (H _ _ (fun k hk => ?_)))⟩) rfl m2
    · by_cases e : k = ka
      · rw [e]
        exact hA
      · by_cases e2 : k = kb
        · rw [e2]
          exact m3 g
        · exact pt_t_same (hO k hk e) (restb k hk e e2)
    · by_cases e2 : k = kb
      · rw [e2]
        have hv := hV kb hkb
        rw [if_pos z] at hv
        exact pt_t_upd hi hv.symm
      · refine pt_t_other e2 ?_
        by_cases e : k = ka
        · rw [e]
          exact hA
        · exact pt_t_same (hO k hk e) (restb k hk e e2)
theorem pt_redoL {post : St1 → Prop} (h : pt_L T par frk en V f0 f1 a1 a2 a3 a4 a5 a6 a7) {t n : Nat} (ht : t < T) (hn : n ≤ en t) (hD : pt_D 8 (V t) n a8 a9)
    (H : ∀ x y, pt_D 8 (V t) n x y → (∀ k, k < 8 → x k = V t n k) → post (f0, f1, f2, f3, f4, a1, a2, a3, a4, a5, a6, a7, x, y, a10, a11, a12, a13, a14, a15, a16, a17)) : ∃ N, wX_redo_2 post (nI t) (nI n) N 1 f0 f1 f2 f3 f4 a1 a2 a3 a4 a5 a6 a7 a8 a9 a10 a11 a12 a13 a14 a15 a16 a17 := by
  have h30 := (h.2.2.2.1 t ht).2.2.2
  refine pk_loop (σ := (Nat → Int32) × (Nat → Int32)) (fun N i s => wX_redo_2 post (nI t) (nI n) N (nI i) f0 f1 f2 f3 f4 a1 a2 a3 a4 a5 a6 a7 s.1 s.2 a10 a11 a12 a13 a14 a15 a16 a17) (fun i s => 1 ≤ i ∧ ∀ k, k < 8 → pt_t (V t) n (i - 1) s.1 s.2 k) (n + 1) 1 (a8, a9) (by omega) ?_ ?_ ?_
  · refine ⟨Nat.le_refl 1, fun k hk => ?_⟩
    obtain ⟨m, h1, h2, h3⟩ := hD k hk
    exact ⟨m, h1, h2, h3, by rw [show max m (1 - 1) = m by omega]; exact h3⟩
  · intro N s hI
    refine pk_lt n (n + 1) (fun _ => H s.1 s.2 (fun k hk => ?_) (fun k hk => ?_)) (fun z => absurd z (by omega))
    · obtain ⟨m, h1, h2, h3, h4⟩ := hI.2 k hk
      exact ⟨m, h1, h2, h3⟩
    · obtain ⟨m, h1, h2, h3, h4⟩ := hI.2 k hk
      rw [show max m (n + 1 - 1) = n by omega] at h4
      exact h4
  · intro N i s hi hI hw
    obtain ⟨h1i, hT⟩ := hI
    have hin : i ≤ n := by omega
    have hJ : ∀ x y, (∀ k, k < 8 → pt_t (V t) n i x y k) → wX_redo_2 post (nI t) (nI n) N (nI (i + 1)) f0 f1 f2 f3 f4 a1 a2 a3 a4 a5 a6 a7 x y a10 a11 a12 a13 a14 a15 a16 a17 := fun x y hh => hw (x, y) ⟨by omega, fun k hk => by rw [show i + 1 - 1 = i by omega]; exact hh k hk⟩
    refine pk_lt n i (fun z => absurd z (by omega)) (fun _ => pt_entry h ht h1i (by omega) (fun r hr hR => ?_))
    have hR' := hR
    obtain ⟨⟨ka, k8, hka⟩, _, hV⟩ := hR'
    obtain ⟨m, hm⟩ := hT ka k8
    have hv := hV ka k8
    have hcr : (nI r).toNatClampNeg = r := nI_clamp (by omega)
    have hca : (a1 r).toNatClampNeg = ka := by
      rw [hka]
      exact nI_clamp (by omega)
    rw [hcr, hca]
    refine ⟨pk_in r 186 hr, pk_in ka 8 k8 hka, pk_le i m (fun z => ?_) (fun z => ⟨pk_in r 186 hr, pk_in r 186 hr, pt_apply hka k8 ?_⟩) rfl hm.2.1⟩
    · exact pt_redo86 hr hR (by omega) hin hka k8 (pt_t_ge hm z) (fun k hk _ => hT k hk) hJ
    · refine And.intro (pk_in r 186 hr) ⟨pk_in r 186 hr, br_c (fun g => ⟨pk_in r 186 hr, pk_in r 186 hr, pt_apply (g.trans hka) k8 ?_⟩) (fun g => ?_)⟩
      · rw [if_pos (g.trans hka)] at hv
        exact pt_redo86 hr hR (by omega) hin hka k8 (pt_t_upd hin hv.symm) (fun k hk ne => pt_t_other ne (pt_t_other ne (hT k hk))) hJ
      · rw [if_neg (fun y => g (y.trans hka.symm)), if_pos hka] at hv
        exact pt_redo86 hr hR (by omega) hin hka k8 (pt_t_upd hin hv.symm) (fun k hk ne => pt_t_other ne (hT k hk)) hJ
theorem pt_redo {post : St1 → Prop} (h : pt_L T par frk en V f0 f1 a1 a2 a3 a4 a5 a6 a7) {x0 y0 : Int32} {t n : Nat} (hx : x0 = nI t) (hy : y0 = nI n) (ht : t < T) (hn : n ≤ en t) (hD : pt_D 8 (V t) n a8 a9)
    (H : ∀ x y, pt_D 8 (V t) n x y → (∀ k, k < 8 → x k = V t n k) → post (f0, f1, f2, f3, f4, a1, a2, a3, a4, a5, a6, a7, x, y, a10, a11, a12, a13, a14, a15, a16, a17)) : wpX_redo post (f0, f1, f2, f3, f4, a1, a2, a3, a4, a5, a6, a7, a8, a9, a10, a11, a12, a13, a14, a15, a16, a17) x0 y0 := by
  subst hx
  subst hy
  exact pt_redoL h ht hn hD H
end
end
section
section
variable {T : Nat} {par frk en : Nat → Nat} {V : Nat → Nat → Nat → Int32} {f0 f1 f2 f3 f4 : Int32} {a1 a2 a3 a4 a5 a6 a7 a8 a9 a10 a11 a12 a13 a14 a15 a16 a17 : Nat → Int32}
theorem pt_m1ne {l : Nat} (hl : l < 2 ^ 31) : ¬ (-1 : Int32) = nI l := by
  intro y
  exact absurd (show (-1 : Int32) < 0 by decide) (by rw [y]; exact nI_pos hl)
theorem pt_wayEnd {post : Int32 → Prop} {l e s g t n : Nat} (hl : l < 2 ^ 31) (he : e < 2 ^ 31) (hs : s < 2 ^ 31) (hg : g ≤ n) (hn : n < 2 ^ 31) (hV : ∀ m, m ≤ g → V s m = V t m)
    (H0 : post 0) (H1 : e ≤ n → (∀ m, m ≤ e → V l m = V t m) → post 1) : wX_onTheWay_69 post (nI l) (nI e) (nI s) (nI g) f0 f1 f2 f3 f4 a1 a2 a3 a4 a5 a6 a7 a8 a9 a10 a11 a12 a13 a14 a15 a16 a17 :=
  pk_eq s l (fun z => pk_lt g e (fun _ => H0) (fun z2 => H1 (by omega) (fun m hm => by rw [← z]; exact hV m (by omega)))) (fun _ => H0)
theorem pt_wayNone {post : Int32 → Prop} {l e : Nat} {x6 x7 : Int32} (hl : l < 2 ^ 31) (H0 : post 0) (N : Nat) : wX_onTheWay_10 post (nI l) (nI e) f0 f1 f2 f3 f4 a1 a2 a3 a4 a5 a6 a7 a8 a9 a10 a11 a12 a13 a14 a15 a16 a17 (N + 1) (-1) x6 x7 := by
  have h69 : wX_onTheWay_69 post (nI l) (nI e) (-1) x6 f0 f1 f2 f3 f4 a1 a2 a3 a4 a5 a6 a7 a8 a9 a10 a11 a12 a13 a14 a15 a16 a17 := br_f (pt_m1ne hl) H0
  exact br_c (fun _ => h69) (fun _ => br_f (pt_m1ne hl) (br_t (by decide) h69))
theorem pt_wayL {post : Int32 → Prop} (h : pt_L T par frk en V f0 f1 a1 a2 a3 a4 a5 a6 a7) {l e t n : Nat} (hl : l < 2 ^ 31) (he : e < 2 ^ 31) (hn : n < 2 ^ 31)
    (H0 : post 0) (H1 : e ≤ n → (∀ m, m ≤ e → V l m = V t m) → post 1) :
    ∀ N s i g, s < T → g ≤ n → (∀ m, m ≤ g → V s m = V t m) → i ≤ 6 → 6 - i < N → wX_onTheWay_10 post (nI l) (nI e) f0 f1 f2 f3 f4 a1 a2 a3 a4 a5 a6 a7 a8 a9 a10 a11 a12 a13 a14 a15 a16 a17 N (nI s) (nI g) (nI i) := by
  obtain ⟨⟨hT1, hT6⟩, ⟨hf0, hf1⟩, ⟨h50, hk0⟩, hE, hP, hZ, hR⟩ := h
  intro N
  induction N with
  | zero =>
    intro s i g _ _ _ _ z
    exact absurd z (by omega)
  | succ N ih =>
    intro s i g hs hg hV hi hN
    have hc : (nI s).toNatClampNeg = s := nI_clamp (by omega)
    obtain ⟨h6, h7, hle, h30⟩ := hE s hs
    have hend : wX_onTheWay_69 post (nI l) (nI e) (nI s) (nI g) f0 f1 f2 f3 f4 a1 a2 a3 a4 a5 a6 a7 a8 a9 a10 a11 a12 a13 a14 a15 a16 a17 := pt_wayEnd hl he (by omega) hg hn hV H0 H1
    have nx : i < 6 → ∀ (x : Int32) (g' : Nat), x = nI g' → g' ≤ g → g' ≤ frk s → wX_onTheWay_52 post (wX_onTheWay_10 post (nI l) (nI e) f0 f1 f2 f3 f4 a1 a2 a3 a4 a5 a6 a7 a8 a9 a10 a11 a12 a13 a14 a15 a16 a17 N) (nI l) (nI e) (nI s) (nI i) x f0 f1 f2 f3 f4 a1 a2 a3 a4 a5 a6 a7 a8 a9 a10 a11 a12 a13 a14 a15 a16 a17 := by
      intro i6 x g' hx hg1 hg2
      subst hx
      by_cases hs0 : s = 0
      · subst hs0
        obtain ⟨N', hN'⟩ : ∃ N', N = N' + 1 := ⟨N - 1, by omega⟩
        subst hN'
        exact And.intro (pk_in 0 6 (by omega)) (nm_r (by rw [hc]; exact h50) (nm_r (nI_1 i) (pt_wayNone hl H0 N')))
      · obtain ⟨p1, p2, p3, p4⟩ := hP s (by omega) hs
        exact And.intro (pk_in s 6 (by omega)) (nm_r (by rw [hc]; exact p2) (nm_r (nI_1 i) (ih (par s) (i + 1) g' (by omega) (by omega) (fun m hm => by rw [← p4 m (by omega)]; exact hV m (by omega)) (by omega) (by omega))))
    refine pk_le 6 i (fun _ => hend) (fun z => pk_eq s l (fun _ => hend) (fun _ => br_f (nI_pos (by omega)) ⟨pk_in s 6 (by omega), ?_⟩))
    rw [hc]
    exact pk_le g (frk s) (fun z2 => nx z _ g rfl (by omega) z2) (fun z2 => ⟨pk_in s 6 (by omega), nx z _ (frk s) h6 (by omega) (by omega)⟩) rfl h6
theorem pt_onTheWay {post : Int32 → Prop} (h : pt_L T par frk en V f0 f1 a1 a2 a3 a4 a5 a6 a7) {x y : Int32} {l e t n : Nat} (hx : x = nI l) (hy : y = nI e) (hl : l < 2 ^ 31) (he : e < 2 ^ 31) (ht : t < T) (hn : n < 2 ^ 31)
    (H0 : post 0) (H1 : e ≤ n → (∀ m, m ≤ e → V l m = V t m) → post 1) : wpX_onTheWay post (f0, f1, f2, f3, f4, a1, a2, a3, a4, a5, a6, a7, a8, a9, a10, a11, a12, a13, a14, a15, a16, a17) x y (nI t) (nI n) := by
  subst hx
  subst hy
  exact Exists.intro 7 (pt_wayL h hl he hn H0 H1 7 t 0 n ht (Nat.le_refl n) (fun m _ => rfl) (by omega) (by omega))
/-- what usable answers: none, or a backup that is good for timeline t up to n -/
def pt_ok (q : Nat → Nat → Int32) (n : Nat) (a16 a17 : Nat → Int32) (x : Int32) : Prop :=
  x = -1 ∨ ∃ b, b < 4 ∧ x = nI b ∧ pt_D 8 q n (fun j => a16 (8 * b + j)) (fun j => a17 (8 * b + j))
theorem pt_usable {post : Int32 → Prop} (h : pt_L T par frk en V f0 f1 a1 a2 a3 a4 a5 a6 a7) (hB : pt_B T en V a12 a13 a15 a16 a17) {t n : Nat} (ht : t < T) (hn : n ≤ en t)
    (H : ∀ x, pt_ok (V t) n a16 a17 x → post x) : wpX_usable post (f0, f1, f2, f3, f4, a1, a2, a3, a4, a5, a6, a7, a8, a9, a10, a11, a12, a13, a14, a15, a16, a17) (nI t) (nI n) := by
  have hE := h.2.2.2.1
  have h6 := h.1.2
  have h30 := (hE t ht).2.2.2
  refine pk_loop (σ := Int32) (fun N i s => wX_usable_5 post (nI t) (nI n) f0 f1 f2 f3 f4 a1 a2 a3 a4 a5 a6 a7 a8 a9 a10 a11 a12 a13 a14 a15 a16 a17 N s (nI i)) (fun i s => pt_ok (V t) n a16 a17 s) 4 0 (-1) (by omega) (Or.inl rfl) ?_ ?_
  · intro N s hI
    exact pk_le 4 4 (fun _ => H s hI) (fun z => absurd z (by omega))
  · intro N i s hi hI hw
    have hc : (nI i).toNatClampNeg = i := nI_clamp (by omega)
    refine pk_le 4 i (fun z => absurd z (by omega)) (fun _ => ⟨pk_in i 4 hi, ?_⟩)
    rw [hc]
    refine br_c (fun z => nm_r (nI_1 i) (hw s hI)) (fun z => ⟨pk_in i 4 hi, pk_in i 4 hi, ?_⟩)
    obtain ⟨l, e, hl, he, e13, e15, hD⟩ := hB i hi z
    have l30 := (hE l hl).2.2.2
    refine pt_onTheWay h e13 e15 (by omega) (by omega) ht (by omega) (br_t rfl (nm_r (nI_1 i) (hw s hI))) (fun hen hV => br_f (by decide) ?_)
    have good : pt_ok (V t) n a16 a17 (nI i) := Or.inr ⟨i, hi, rfl, pt_Dmono hD hen (fun m hm => (hV m hm).symm)⟩
    rcases hI with hs | ⟨b, hb, hs, hDb⟩
    · subst hs
      exact br_t (by decide) (nm_r (nI_1 i) (hw (nI i) good))
    · have hI' : pt_ok (V t) n a16 a17 s := Or.inr ⟨b, hb, hs, hDb⟩
      refine br_f (by rw [hs]; exact nI_pos (by omega)) ⟨pk_in i 4 hi, pk_in b 4 hb hs, br_c (fun _ => nm_r (nI_1 i) (hw s hI')) (fun _ => nm_r (nI_1 i) (hw (nI i) good))⟩
theorem pt_restore110 {post : Int32 → St1 → Prop} {q : Nat → Nat → Int32} {t n : Nat} (hT : T < 6) (hD : pt_D 8 q n a8 a9)
    (H : ∀ x y, pt_D 8 q n x y → post (nI T) (nI (T + 1), nI T, f2, 0, f4, a1, a2, a3, a4, upd a5 T (nI t), upd a6 T (nI n), upd a7 T (nI n), a8, a9, x, y, a12, a13, a14, a15, a16, a17)) :
    ∃ N, wX_restore_110 post (nI t) (nI n) (nI T) f1 f2 f3 f4 N 0 a1 a2 a3 a4 a5 a6 a7 a8 a9 a10 a11 a12 a13 a14 a15 a16 a17 := by
  refine pk_loop (σ := (Nat → Int32) × (Nat → Int32)) (fun N i s => wX_restore_110 post (nI t) (nI n) (nI T) f1 f2 f3 f4 N (nI i) a1 a2 a3 a4 a5 a6 a7 a8 a9 s.1 s.2 a12 a13 a14 a15 a16 a17) (fun i s => pt_D i q n s.1 s.2) 8 0 (a10, a11) (by omega) (fun k hk => absurd hk (by omega)) ?_ ?_
  · intro N s hI
    have hc : (nI T).toNatClampNeg = T := nI_clamp (by omega)
    exact pk_le 8 8 (fun _ => ⟨pk_in T 6 hT, nm_r (by rw [hc]) ⟨pk_in T 6 hT, nm_r (by rw [hc]) ⟨pk_in T 6 hT, nm_r (by rw [hc]) (nm_r (nI_1 T) (H s.1 s.2 hI))⟩⟩⟩) (fun z => absurd z (by omega))
  · intro N i s hi hI hw
    have hc : (nI i).toNatClampNeg = i := nI_clamp (by omega)
    refine pk_le 8 i (fun z => absurd z (by omega)) (fun _ => ⟨pk_in i 8 hi, pk_in i 8 hi, nm_r (by rw [hc]) ⟨pk_in i 8 hi, pk_in i 8 hi, nm_r (by rw [hc]) (nm_r (nI_1 i) (hw (upd s.1 i (a8 i), upd s.2 i (a9 i)) ?_))⟩⟩)
    exact pt_Dpush hI (hD i hi)
theorem pt_restore34 {post : Int32 → St1 → Prop} (h : pt_L T par frk en V (nI T) f1 a1 a2 a3 a4 a5 a6 a7) {x3 : Int32} {t n : Nat} (hT : T < 6) (ht : t < T) (hn : n ≤ en t) (hok : pt_ok (V t) n a16 a17 x3)
    (H : ∀ x8 x9 x10 x11, pt_D 8 (V t) n x8 x9 → (∀ k, k < 8 → x8 k = V t n k) → pt_D 8 (V t) n x10 x11 → post (nI T) (nI (T + 1), nI T, f2, 0, f4, a1, a2, a3, a4, upd a5 T (nI t), upd a6 T (nI n), upd a7 T (nI n), x8, x9, x10, x11, a12, a13, a14, a15, a16, a17)) :
    ∃ N, wX_restore_34 post (nI t) (nI n) x3 (nI T) f1 f2 f3 f4 N 0 a1 a2 a3 a4 a5 a6 a7 a8 a9 a10 a11 a12 a13 a14 a15 a16 a17 := by
  have hZ := h.2.2.2.2.2.1
  refine pk_loop (σ := (Nat → Int32) × (Nat → Int32)) (fun N i s => wX_restore_34 post (nI t) (nI n) x3 (nI T) f1 f2 f3 f4 N (nI i) a1 a2 a3 a4 a5 a6 a7 s.1 s.2 a10 a11 a12 a13 a14 a15 a16 a17) (fun i s => pt_D i (V t) n s.1 s.2) 8 0 (a8, a9) (by omega) (fun k hk => absurd hk (by omega)) ?_ ?_
  · intro N s hI
    exact pk_le 8 8 (fun _ => pt_redo h rfl rfl ht hn hI (fun x y hD hM => pt_restore110 hT hD (fun x' y' hD' => H x y x' y' hD hM hD'))) (fun z => absurd z (by omega))
  · intro N i s hi hI hw
    have hc : (nI i).toNatClampNeg = i := nI_clamp (by omega)
    refine pk_le 8 i (fun z => absurd z (by omega)) (fun _ => ?_)
    rcases hok with hs | ⟨b, hb, hs, hDb⟩
    · subst hs
      refine br_f (by decide) (And.intro (pk_in i 8 hi) (nm_r (by rw [hc]) (br_f (by decide) ⟨pk_in i 8 hi, nm_r (by rw [hc]) (nm_r (nI_1 i) (hw (upd s.1 i 0, upd s.2 i 0) ?_))⟩)))
      exact pt_Dpush hI ⟨0, by omega, rfl, (hZ t ht i hi).symm⟩
    · subst hs
      have e8 : nI b * 8 + nI i = nI (8 * b + i) := by
        rw [show (8 : Int32) = nI 8 from rfl, pk_mul, nI_add, Nat.mul_comm]
      have c8 : (nI b * 8 + nI i).toNatClampNeg = 8 * b + i := by
        rw [e8]
        exact nI_clamp (by omega)
      refine br_t (nI_pos' (by omega)) ⟨pk_in (8 * b + i) 32 (by omega) e8, And.intro (pk_in i 8 hi) (nm_r (by rw [hc, c8]) (br_t (nI_pos' (by omega)) ⟨pk_in (8 * b + i) 32 (by omega) e8, pk_in i 8 hi, nm_r (by rw [hc, c8]) (nm_r (nI_1 i) (hw (upd s.1 i (a16 (8 * b + i)), upd s.2 i (a17 (8 * b + i))) ?_))⟩))⟩
      exact pt_Dpush hI (hDb i hi)
end
theorem pt_restore {T : Nat} {par frk en : Nat → Nat} {V : Nat → Nat → Nat → Int32} {u : St1} {post : Int32 → St1 → Prop} (h : pt_K T par frk en V u) {x y : Int32} {t n : Nat} (hx : x = nI t) (hy : y = nI n) (ht : t < T) (hn : n < 2 ^ 31)
    (H1 : ¬ n ≤ en t → post (-4) u) (H2 : n ≤ en t → T = 6 → post (-2) u)
    (H3 : n ≤ en t → T < 6 → ∀ u', pt_K (T + 1) (pt_en par T t) (pt_en frk T n) (pt_en en T n) (pt_VT V T t) u' → post (nI T) u') : wpX_restore post u x y := by
  subst hx
  subst hy
  obtain ⟨f0, f1, f2, f3, f4, a1, a2, a3, a4, a5, a6, a7, a8, a9, a10, a11, a12, a13, a14, a15, a16, a17⟩ := u
  obtain ⟨hL, hM⟩ := h
  have h6 := hL.1.2
  have hf0 : f0 = nI T := hL.2.1.1
  subst hf0
  obtain ⟨hm, hd, hU, hB⟩ := hM
  unfold wpX_restore
  dsimp only
  refine pt_noPoint hL rfl rfl (by omega) hn (fun _ h2 => br_t rfl (pk_eq T 6 (fun z => H2 h2 z) (fun z => ?_))) (fun z => br_f (by decide) (H1 (by omega)))
  refine pt_usable hL hB ht h2 (fun x3 hok => pt_restore34 hL (by omega) ht h2 hok (fun x8 x9 x10 x11 k1 k2 k3 => H3 h2 (by omega) _ ?_))
  have eT : T + 1 - 1 = T := rfl
  refine And.intro (pt_Lfork hL (by omega) ht h2) ⟨?_, ?_, ?_, ?_⟩
  · rw [eT, pt_en_s, pt_VT_s]
    exact ⟨k1, k2⟩
  · rw [eT, pt_en_s, pt_VT_s]
    exact k3
  · obtain ⟨b, i, hb, hi, e1, e2, _⟩ := hU
    exact ⟨b, i, hb, hi, e1, e2, fun z => absurd rfl z⟩
  · exact pt_Bmono hB (by omega) (fun s hs => by rw [pt_en_n (by omega)]; exact Nat.le_refl _) (fun s m hs _ => by rw [pt_VT_n (by omega)])
end
section
section
variable {T : Nat} {par frk en : Nat → Nat} {V : Nat → Nat → Nat → Int32} {f0 f1 f2 f3 f4 : Int32} {a1 a2 a3 a4 a5 a6 a7 a8 a9 a10 a11 a12 a13 a14 a15 a16 a17 : Nat → Int32}
theorem pt_writeOut {post : Int32 → St1 → Prop} {q : Nat → Nat → Int32} {e : Nat} {p0 : Int32} (hM : pt_D 8 q e a8 a9) (hD : pt_D 8 q e a10 a11)
    (H : ∀ r x y, pt_D 8 q e x y → post r (f0, f1, f2, f3, f4, a1, a2, a3, a4, a5, a6, a7, a8, a9, x, y, a12, a13, a14, a15, a16, a17)) : wpX_writeOut post (f0, f1, f2, f3, f4, a1, a2, a3, a4, a5, a6, a7, a8, a9, a10, a11, a12, a13, a14, a15, a16, a17) p0 := by
  refine pk_loop (σ := Int32 × (Nat → Int32) × (Nat → Int32)) (fun N i s => wX_writeOut_4 post f0 f1 f2 f3 f4 N s.1 (nI i) a1 a2 a3 a4 a5 a6 a7 a8 a9 s.2.1 s.2.2 a12 a13 a14 a15 a16 a17) (fun i s => pt_D 8 q e s.2.1 s.2.2) 8 0 (p0, a10, a11) (by omega) hD ?_ ?_
  · intro N s hI
    exact pk_le 8 8 (fun _ => H s.1 s.2.1 s.2.2 hI) (fun z => absurd z (by omega))
  · intro N i s hi hI hw
    have hc : (nI i).toNatClampNeg = i := nI_clamp (by omega)
    refine pk_le 8 i (fun z => absurd z (by omega)) (fun _ => br_c (fun _ => H s.1 s.2.1 s.2.2 hI) (fun _ => ⟨pk_in i 8 hi, pk_in i 8 hi, br_c (fun _ => nm_r (nI_1 i) (hw s hI)) (fun _ => ⟨pk_in i 8 hi, pk_in i 8 hi, nm_r (by rw [hc]) ⟨pk_in i 8 hi, pk_in i 8 hi, nm_r (by rw [hc]) (nm_e (nm_r (nI_1 i) (hw (s.1 + (-1), upd s.2.1 i (a8 i), upd s.2.2 i (a9 i)) ?_)))⟩⟩)⟩))
    exact pt_Dset hI (hM i hi)
theorem pt_crashL {post : Int32 → St1 → Prop} (h : pt_L T par frk en V f0 f1 a1 a2 a3 a4 a5 a6 a7) (hD : pt_D 8 (V (T - 1)) (en (T - 1)) a10 a11)
    (H : ∀ x y, pt_D 8 (V (T - 1)) (en (T - 1)) x y → (∀ k, k < 8 → x k = V (T - 1) (en (T - 1)) k) → post 0 (f0, f1, f2, 0, f4, a1, a2, a3, a4, a5, a6, a7, x, y, a10, a11, a12, a13, a14, a15, a16, a17)) : wpX_crash post (f0, f1, f2, f3, f4, a1, a2, a3, a4, a5, a6, a7, a8, a9, a10, a11, a12, a13, a14, a15, a16, a17) := by
  have h16 := h.1
  have hf1 := h.2.1.2
  have e7 := (h.2.2.2.1 (T - 1) (by omega)).2.1
  refine pk_loop (σ := (Nat → Int32) × (Nat → Int32)) (fun N i s => wX_crash_2 post f0 f1 f2 f3 f4 N (nI i) a1 a2 a3 a4 a5 a6 a7 s.1 s.2 a10 a11 a12 a13 a14 a15 a16 a17) (fun i s => pt_D i (V (T - 1)) (en (T - 1)) s.1 s.2) 8 0 (a8, a9) (by omega) (fun k hk => absurd hk (by omega)) ?_ ?_
  · intro N s hI
    have hc : f1.toNatClampNeg = T - 1 := by
      rw [hf1]
      exact nI_clamp (by omega)
    exact pk_le 8 8 (fun _ => ⟨pk_in (T - 1) 6 (by omega) hf1, pt_redo h hf1 (by rw [hc]; exact e7) (by omega) (Nat.le_refl _) hI (fun x y k1 k2 => H x y k1 k2)⟩) (fun z => absurd z (by omega))
  · intro N i s hi hI hw
    have hc : (nI i).toNatClampNeg = i := nI_clamp (by omega)
    refine pk_le 8 i (fun z => absurd z (by omega)) (fun _ => ⟨pk_in i 8 hi, pk_in i 8 hi, nm_r (by rw [hc]) ⟨pk_in i 8 hi, pk_in i 8 hi, nm_r (by rw [hc]) (nm_r (nI_1 i) (hw (upd s.1 i (a10 i), upd s.2 i (a11 i)) ?_))⟩⟩)
    exact pt_Dpush hI (hD i hi)
theorem pt_backup107 {post : Int32 → St1 → Prop} {b i : Nat} (h : pt_L T par frk en V f0 f1 a1 a2 a3 a4 a5 a6 a7) (hb : b < 4) (hi : i ≤ 8) (h12 : a12 b = 0) (h13 : a13 b = nI (T - 1))
    (hD : pt_D i (V (T - 1)) (en (T - 1)) (fun j => a16 (8 * b + j)) (fun j => a17 (8 * b + j))) (hB : pt_B T en V a12 a13 a15 a16 a17)
    (H : ∀ fb fu x12 x15, pt_U (T - 1) (V (T - 1)) (en (T - 1)) fb fu (nI i) x12 a13 a16 a17 → pt_B T en V x12 a13 x15 a16 a17 → post 0 (f0, f1, fb, fu, nI i, a1, a2, a3, a4, a5, a6, a7, a8, a9, a10, a11, x12, a13, a14, x15, a16, a17)) :
    wX_backup_107 post f0 f1 (nI b) f3 (nI i) a1 a2 a3 a4 a5 a6 a7 a8 a9 a10 a11 a12 a13 a14 a15 a16 a17 := by
  have h16 := h.1
  have hf1 := h.2.1.2
  have e7 := (h.2.2.2.1 (T - 1) (by omega)).2.1
  have hcb : (nI b).toNatClampNeg = b := nI_clamp (by omega)
  have hc : f1.toNatClampNeg = T - 1 := by
    rw [hf1]
    exact nI_clamp (by omega)
  have ea : (nI b + 1) &&& 3 = nI ((b + 1) % 4) := by
    rw [nI_1]
    exact pk_andN (by omega) 2 (by decide)
  refine pk_eq i 8 (fun z => ⟨pk_in b 4 hb, nm_r (by rw [hcb]) ⟨pk_in (T - 1) 6 (by omega) hf1, pk_in b 4 hb, nm_r (by rw [hcb, hc, e7]) (nm_r ea (H _ _ _ _ ?_ ?_))⟩⟩) (fun z => H (nI b) f3 a12 a15 ⟨b, i, hb, hi, rfl, rfl, fun _ => ⟨h12, h13, hD⟩⟩ hB)
  · exact ⟨(b + 1) % 4, i, by omega, hi, rfl, rfl, fun y => absurd rfl y⟩
  · subst z
    exact pt_Bend hB (by omega) (Nat.le_refl _) h13 hD
theorem pt_backup25 {post : Int32 → St1 → Prop} {m b i : Nat} (h : pt_L T par frk en V f0 f1 a1 a2 a3 a4 a5 a6 a7) (hm : m < 2 ^ 31) (hb : b < 4) (hi : i ≤ 8) (h12 : a12 b = 0) (h13 : a13 b = nI (T - 1))
    (hD : pt_D i (V (T - 1)) (en (T - 1)) (fun j => a16 (8 * b + j)) (fun j => a17 (8 * b + j))) (hB : pt_B T en V a12 a13 a15 a16 a17) (hd : pt_D 8 (V (T - 1)) (en (T - 1)) a10 a11)
    (H : ∀ fb fu fc x12 x15 x16 x17, pt_U (T - 1) (V (T - 1)) (en (T - 1)) fb fu fc x12 a13 x16 x17 → pt_B T en V x12 a13 x15 x16 x17 → post 0 (f0, f1, fb, fu, fc, a1, a2, a3, a4, a5, a6, a7, a8, a9, a10, a11, x12, a13, a14, x15, x16, x17)) :
    ∃ N, wX_backup_25 post (nI m) f0 f1 (nI b) f3 N 0 (nI i) a1 a2 a3 a4 a5 a6 a7 a8 a9 a10 a11 a12 a13 a14 a15 a16 a17 := by
  refine pk_loop (σ := Nat × (Nat → Int32) × (Nat → Int32)) (fun N j s => wX_backup_25 post (nI m) f0 f1 (nI b) f3 N (nI j) (nI s.1) a1 a2 a3 a4 a5 a6 a7 a8 a9 a10 a11 a12 a13 a14 a15 s.2.1 s.2.2)
    (fun j s => s.1 ≤ 8 ∧ pt_D s.1 (V (T - 1)) (en (T - 1)) (fun j => s.2.1 (8 * b + j)) (fun j => s.2.2 (8 * b + j)) ∧ pt_B T en V a12 a13 a15 s.2.1 s.2.2) m 0 (i, a16, a17) (by omega) ⟨hi, hD, hB⟩ ?_ ?_
  · intro N s hI
    exact pk_le m m (fun _ => pt_backup107 h hb hI.1 h12 h13 hI.2.1 hI.2.2 (fun fb fu x12 x15 k1 k2 => H _ _ _ _ _ _ _ k1 k2)) (fun z => absurd z (by omega))
  · intro N j s hj hI hw
    obtain ⟨i1, i2, i3⟩ := hI
    have hc : (nI s.1).toNatClampNeg = s.1 := nI_clamp (by omega)
    have e8 : nI b * 8 + nI s.1 = nI (8 * b + s.1) := by
      rw [show (8 : Int32) = nI 8 from rfl, pk_mul, nI_add, Nat.mul_comm]
    have c8 : s.1 < 8 → (nI b * 8 + nI s.1).toNatClampNeg = 8 * b + s.1 := by
      intro z
      rw [e8]
      exact nI_clamp (by omega)
    refine pk_le m j (fun z => absurd z (by omega)) (fun _ => pk_le 8 s.1 (fun _ => pt_backup107 h hb i1 h12 h13 i2 i3 (fun fb fu x12 x15 k1 k2 => H _ _ _ _ _ _ _ k1 k2)) (fun z =>
      ⟨pk_in s.1 8 z, pk_in (8 * b + s.1) 32 (by omega) e8, nm_r (by rw [hc, c8 z]) ⟨pk_in s.1 8 z, pk_in (8 * b + s.1) 32 (by omega) e8, nm_r (by rw [hc, c8 z]) (nm_r (nI_1 s.1) (nm_r (nI_1 j) (hw (s.1 + 1, upd s.2.1 (8 * b + s.1) (a10 s.1), upd s.2.2 (8 * b + s.1) (a11 s.1)) ?_)))⟩⟩))
    exact ⟨z, pt_D8 i2 (hd s.1 z), pt_Bslot i3 h12 z⟩
end
section
variable {T : Nat} {par frk en : Nat → Nat} {V : Nat → Nat → Nat → Int32} {u : St1} {post : Int32 → St1 → Prop}
theorem pt_flush (h : pt_K T par frk en V u) {x : Int32} {m : Nat} (hx : x = nI m) (hm : m ≤ 8) (H : ∀ u', pt_K T par frk en V u' → post 0 u') : wpX_flush post u x := by
  subst hx
  obtain ⟨f0, f1, f2, f3, f4, a1, a2, a3, a4, a5, a6, a7, a8, a9, a10, a11, a12, a13, a14, a15, a16, a17⟩ := u
  obtain ⟨hL, hme, hd, hU, hB⟩ := h
  refine br_f (nI_pos (by omega)) (pk_le m 8 (fun _ => pt_writeOut hme.1 hd (fun r x y hD => H _ ?_)) (fun z => absurd z (by omega)))
  exact ⟨hL, hme, hD, hU, hB⟩
theorem pt_crash (h : pt_K T par frk en V u) (H : ∀ u', pt_K T par frk en V u' → post 0 u') : wpX_crash post u := by
  obtain ⟨f0, f1, f2, f3, f4, a1, a2, a3, a4, a5, a6, a7, a8, a9, a10, a11, a12, a13, a14, a15, a16, a17⟩ := u
  obtain ⟨hL, hme, hd, hU, hB⟩ := h
  refine pt_crashL hL hd (fun x y k1 k2 => H _ ?_)
  obtain ⟨b, i, hb, hi, e1, e2, _⟩ := hU
  exact ⟨hL, ⟨k1, k2⟩, hd, ⟨b, i, hb, hi, e1, e2, fun z => absurd rfl z⟩, hB⟩
theorem pt_backup (h : pt_K T par frk en V u) {x : Int32} {m : Nat} (hx : x = nI m) (hm : m ≤ 8) (H : ∀ u', pt_K T par frk en V u' → post 0 u') : wpX_backup post u x := by
  subst hx
  obtain ⟨f0, f1, f2, f3, f4, a1, a2, a3, a4, a5, a6, a7, a8, a9, a10, a11, a12, a13, a14, a15, a16, a17⟩ := u
  obtain ⟨hL, hme, hd, hU, hB⟩ := h
  have h16 := hL.1
  have hf1 := hL.2.1.2
  obtain ⟨b, i, hb, hi, e1, e2, hu⟩ := hU
  subst e1
  subst e2
  refine br_f (nI_pos (by omega)) (pk_le m 8 (fun _ => br_c (fun z => ?_) (fun z => ?_)) (fun z => absurd z (by omega)))
  · have hcb : (nI b).toNatClampNeg = b := nI_clamp (by omega)
    unfold wpX_beginBackup
    dsimp only
    refine pt_writeOut hme.1 hd (fun r x y hD => And.intro (pk_in b 4 hb) (nm_r (by rw [hcb]) ⟨pk_in b 4 hb, nm_r (by rw [hcb]) ⟨pk_in (T - 1) 6 (by omega) hf1, pk_in b 4 hb, nm_e ?_⟩⟩))
    refine pt_backup25 (i := 0) hL (by omega) hb (by omega) pk_us (by rw [pk_us]; exact hf1) (fun k hk => absurd hk (by omega)) (pt_Bbegin hB) hD (fun fb fu fc x12 x15 x16 x17 k1 k2 => H _ ?_)
    exact ⟨hL, hme, hD, k1, k2⟩
  · obtain ⟨u1, u2, u3⟩ := hu z
    refine pt_backup25 hL (by omega) hb hi u1 u2 u3 hB hd (fun fb fu fc x12 x15 x16 x17 k1 k2 => H _ ?_)
    exact ⟨hL, hme, hd, k1, k2⟩
end
end
section
section
variable {T : Nat} {par frk en : Nat → Nat} {V : Nat → Nat → Nat → Int32} {f0 f1 f2 f3 f4 : Int32} {a1 a2 a3 a4 a5 a6 a7 a8 a9 a10 a11 a12 a13 a14 a15 a16 a17 : Nat → Int32}
theorem pt_Mgrow {x8 x9 w : Nat → Int32} (h : pt_M T en V f2 f3 f4 a8 a9 a10 a11 a12 a13 a15 a16 a17)
    (hx : ∀ j, j < 8 → (x9 j = nI (en (T - 1) + 1) ∧ x8 j = w j) ∨ (x9 j = a9 j ∧ x8 j = a8 j ∧ w j = V (T - 1) (en (T - 1)) j)) :
    pt_M T (pt_en en (T - 1) (en (T - 1) + 1)) (pt_V V (T - 1) (en (T - 1) + 1) w) f2 f3 f4 x8 x9 a10 a11 a12 a13 a15 a16 a17 := by
  obtain ⟨⟨hm1, hm2⟩, hd, hU, hB⟩ := h
  have hv : ∀ m, m ≤ en (T - 1) → pt_V V (T - 1) (en (T - 1) + 1) w (T - 1) m = V (T - 1) m := fun m hm => pt_V_n (by omega)
  have hv2 : ∀ t m, t < T → m ≤ en t → pt_V V (T - 1) (en (T - 1) + 1) w t m = V t m := by
    intro t m _ hm
    refine pt_V_n ?_
    intro z
    rw [z.1] at hm
    omega
  have he : ∀ t, t < T → en t ≤ pt_en en (T - 1) (en (T - 1) + 1) t := by
    intro t _
    by_cases z : t = T - 1
    · rw [z, pt_en_s]
      omega
    · rw [pt_en_n z]
      exact Nat.le_refl _
  refine ⟨⟨fun j hj => ?_, fun j hj => ?_⟩, ?_, ?_, pt_Bmono hB (Nat.le_refl _) he hv2⟩
  · rw [pt_en_s]
    rcases hx j hj with ⟨k1, k2⟩ | ⟨k1, k2, k3⟩
    · exact ⟨en (T - 1) + 1, Nat.le_refl _, k1, by rw [pt_V_s]; exact k2⟩
    · obtain ⟨m, h1, h2, h3⟩ := hm1 j hj
      exact ⟨m, by omega, k1.trans h2, by rw [hv m h1]; exact k2.trans h3⟩
  · rw [pt_en_s, pt_V_s]
    rcases hx j hj with ⟨k1, k2⟩ | ⟨k1, k2, k3⟩
    · exact k2
    · rw [k2, k3]
      exact hm2 j hj
  · rw [pt_en_s]
    exact pt_Dmono hd (by omega) hv
  · obtain ⟨b, i, hb, hi, e1, e2, hu⟩ := hU
    refine ⟨b, i, hb, hi, e1, e2, fun z => ?_⟩
    obtain ⟨u1, u2, u3⟩ := hu z
    rw [pt_en_s]
    exact ⟨u1, u2, pt_Dmono u3 (by omega) hv⟩
end
/-- the call F takes every object of the picture to one new picture, with one answer -/
def pt_Nx (T : Nat) (par frk en : Nat → Nat) (V : Nat → Nat → Nat → Int32) (F : (Int32 → St1 → Prop) → St1 → Prop) : Prop :=
  ∃ T' par' frk' en' V' r, ∀ (post : Int32 → St1 → Prop) (u : St1), pt_K T par frk en V u → (∀ u', pt_K T' par' frk' en' V' u' → post r u') → F post u
section
variable {T : Nat} {par frk en : Nat → Nat} {V : Nat → Nat → Nat → Int32}
theorem pt_change {x v y w : Int32} {k : Nat} (hx : x = nI k) (hk : k < 8) (hy : y = -1 ∨ ∃ l, l < 8 ∧ y = nI l) : pt_Nx T par frk en V (fun post u => wpX_change post u x v y w) := by
  subst hx
  by_cases e30 : en (T - 1) = 30
  · refine ⟨T, par, frk, en, V, -2, fun post u h H => ?_⟩
    obtain ⟨f0, f1, f2, f3, f4, a1, a2, a3, a4, a5, a6, a7, a8, a9, a10, a11, a12, a13, a14, a15, a16, a17⟩ := u
    have h' := h
    obtain ⟨hL, hM⟩ := h'
    have h16 := hL.1
    have hf1 := hL.2.1.2
    have e7 := (hL.2.2.2.1 (T - 1) (by omega)).2.1
    have hc : f1.toNatClampNeg = T - 1 := by
      rw [hf1]
      exact nI_clamp (by omega)
    exact And.intro (pk_in (T - 1) 6 (by omega) hf1) (br_t (by rw [hc, e7, e30]; rfl) (H _ h))
  · refine ⟨T, par, frk, pt_en en (T - 1) (en (T - 1) + 1), pt_V V (T - 1) (en (T - 1) + 1) (pt_w (nI k) v y w (V (T - 1) (en (T - 1)))), nI (en (T - 1) + 1), fun post u h H => ?_⟩
    obtain ⟨f0, f1, f2, f3, f4, a1, a2, a3, a4, a5, a6, a7, a8, a9, a10, a11, a12, a13, a14, a15, a16, a17⟩ := u
    obtain ⟨hL, hM⟩ := h
    have h16 := hL.1
    have hf1 := hL.2.1.2
    have hE := hL.2.2.2.1 (T - 1) (by omega)
    have e7 := hE.2.1
    have h30 := hE.2.2.2
    have hc : f1.toNatClampNeg = T - 1 := by
      rw [hf1]
      exact nI_clamp (by omega)
    have e6 : f1 * 31 + nI (en (T - 1) + 1) = nI (31 * (T - 1) + (en (T - 1) + 1)) := by
      rw [hf1, show (31 : Int32) = nI 31 from rfl, pk_mul, nI_add, Nat.mul_comm]
    have hr : 31 * (T - 1) + (en (T - 1) + 1) < 186 := by omega
    have hcr : (nI (31 * (T - 1) + (en (T - 1) + 1))).toNatClampNeg = 31 * (T - 1) + (en (T - 1) + 1) := nI_clamp (by omega)
    have hin : vp_in f1 6 := pk_in (T - 1) 6 (by omega) hf1
    have hir : vp_in (nI (31 * (T - 1) + (en (T - 1) + 1))) 186 := pk_in _ 186 hr
    have hL' := pt_Lgrow hL rfl rfl (show en (T - 1) < 30 by omega) (x := nI k) (v := v) (y := y) (w := w) ⟨k, hk, rfl⟩ hy
    refine And.intro hin (br_f (by rw [hc, e7]; intro z; exact e30 ((nI_eq (by omega) (by omega)).mp z)) ⟨hin, hin, nm_r (by rw [hc, e7, nI_1]) ⟨hin, nm_r (by rw [hc, pk_us]) (nm_r e6 ⟨hir, nm_r (by rw [hcr]) ⟨hir, nm_r (by rw [hcr]) ⟨hir, nm_r (by rw [hcr]) ⟨hir, nm_r (by rw [hcr]) ?_⟩⟩⟩⟩)⟩⟩)
    refine pt_apply rfl hk ?_
    rcases hy with z | ⟨l, hl, z⟩
    · subst z
      refine br_t (by decide) (H _ (And.intro hL' (pt_Mgrow hM (fun j hj => ?_))))
      by_cases e : j = k
      · subst e
        exact Or.inl ⟨pk_us, by rw [pk_us]; unfold pt_w; rw [if_neg (pt_m1ne (by omega)), if_pos rfl]⟩
      · exact Or.inr ⟨pk_un e, pk_un e, by unfold pt_w; rw [if_neg (pt_m1ne (by omega)), if_neg (fun y => e ((nI_eq (by omega) (by omega)).mp y).symm)]⟩
    · subst z
      refine br_f (nI_pos (by omega)) (pt_apply rfl hl (H _ (And.intro hL' (pt_Mgrow hM (fun j hj => ?_)))))
      by_cases e2 : j = l
      · subst e2
        exact Or.inl ⟨pk_us, by rw [pk_us]; unfold pt_w; rw [if_pos rfl]⟩
      · rw [pk_un e2, pk_un e2]
        have n2 : ¬ nI l = nI j := fun y => e2 ((nI_eq (by omega) (by omega)).mp y).symm
        by_cases e : j = k
        · subst e
          exact Or.inl ⟨pk_us, by rw [pk_us]; unfold pt_w; rw [if_neg n2, if_pos rfl]⟩
        · exact Or.inr ⟨pk_un e, pk_un e, by unfold pt_w; rw [if_neg n2, if_neg (fun y => e ((nI_eq (by omega) (by omega)).mp y).symm)]⟩
theorem pt_set {x v : Int32} {k : Nat} (hx : x = nI k) (hk : k < 8) : pt_Nx T par frk en V (fun post u => wpX_set post u x v) := by
  obtain ⟨T', par', frk', en', V', r, hN⟩ := pt_change (T := T) (par := par) (frk := frk) (en := en) (V := V) (v := v) (w := 0) hx hk (Or.inl rfl)
  refine ⟨T', par', frk', en', V', r, fun post u h H => ?_⟩
  obtain ⟨f0, f1, f2, f3, f4, a1, a2, a3, a4, a5, a6, a7, a8, a9, a10, a11, a12, a13, a14, a15, a16, a17⟩ := u
  unfold wpX_set
  dsimp only
  exact pt_bad hx hk (br_t rfl (hN _ _ h (fun u' hu => H u' hu)))
theorem pt_add {x d : Int32} {k : Nat} (hx : x = nI k) (hk : k < 8) : pt_Nx T par frk en V (fun post u => wpX_add post u x d) := by
  obtain ⟨T', par', frk', en', V', r, hN⟩ := pt_change (T := T) (par := par) (frk := frk) (en := en) (V := V) (v := V (T - 1) (en (T - 1)) k + d) (w := 0) hx hk (Or.inl rfl)
  refine ⟨T', par', frk', en', V', r, fun post u h H => ?_⟩
  obtain ⟨f0, f1, f2, f3, f4, a1, a2, a3, a4, a5, a6, a7, a8, a9, a10, a11, a12, a13, a14, a15, a16, a17⟩ := u
  have hm := h.2.1.2 k hk
  have hc : x.toNatClampNeg = k := by
    rw [hx]
    exact nI_clamp (by omega)
  unfold wpX_add
  dsimp only
  refine pt_bad hx hk (br_t rfl ⟨pk_in k 8 hk hx, ?_⟩)
  rw [hc, hm]
  exact hN _ _ h (fun u' hu => H u' hu)
theorem pt_exchange {x y : Int32} {k l : Nat} (hx : x = nI k) (hk : k < 8) (hy : y = nI l) (hl : l < 8) : pt_Nx T par frk en V (fun post u => wpX_exchange post u x y) := by
  obtain ⟨T', par', frk', en', V', r, hN⟩ := pt_change (T := T) (par := par) (frk := frk) (en := en) (V := V) (v := V (T - 1) (en (T - 1)) l) (w := V (T - 1) (en (T - 1)) k) hx hk (Or.inr ⟨l, hl, hy⟩)
  refine ⟨T', par', frk', en', V', r, fun post u h H => ?_⟩
  obtain ⟨f0, f1, f2, f3, f4, a1, a2, a3, a4, a5, a6, a7, a8, a9, a10, a11, a12, a13, a14, a15, a16, a17⟩ := u
  have hmk := h.2.1.2 k hk
  have hml := h.2.1.2 l hl
  have hck : x.toNatClampNeg = k := by
    rw [hx]
    exact nI_clamp (by omega)
  have hcl : y.toNatClampNeg = l := by
    rw [hy]
    exact nI_clamp (by omega)
  unfold wpX_exchange
  dsimp only
  refine pt_bad hx hk (br_t rfl (pt_bad hy hl (br_t rfl ⟨pk_in l 8 hl hy, pk_in k 8 hk hx, ?_⟩)))
  rw [hck, hcl, hmk, hml]
  exact hN _ _ h (fun u' hu => H u' hu)
theorem pt_restoreN {x y : Int32} {t n : Nat} (hx : x = nI t) (hy : y = nI n) (ht : t < T) (hT : T ≤ 6) (hn : n < 2 ^ 31) : pt_Nx T par frk en V (fun post u => wpX_restore post u x y) := by
  by_cases h1 : n ≤ en t
  · by_cases h2 : T = 6
    · exact ⟨T, par, frk, en, V, -2, fun post u h H => pt_restore h hx hy ht hn (fun z => absurd h1 z) (fun _ _ => H u h) (fun _ z => absurd z (by omega))⟩
    · exact ⟨_, _, _, _, _, _, fun post u h H => pt_restore h hx hy ht hn (fun z => absurd h1 z) (fun _ z => absurd z h2) (fun _ _ => H)⟩
  · exact ⟨T, par, frk, en, V, -4, fun post u h H => pt_restore h hx hy ht hn (fun _ => H u h) (fun z => absurd z h1) (fun z => absurd z h1)⟩
theorem pt_turn (hT1 : 1 ≤ T) (hT6 : T ≤ 6) (op x : Int32) : pt_Nx T par frk en V (fun post u => wpL_turn post u op x) := by
  obtain ⟨k, hk, ek⟩ := pk_andE x (m := 7) 3 (by decide)
  obtain ⟨l, hl, el⟩ := pk_andE (x >>> ((3 : Int32) &&& 31)) (m := 7) 3 (by decide)
  have hk8 : k < 8 := hk
  have hl8 : l < 8 := hl
  by_cases c10 : (10 : Int32) ≤ op &&& 31
  · by_cases c14 : (14 : Int32) ≤ op &&& 31
    · by_cases c18 : (18 : Int32) ≤ op &&& 31
      · by_cases c20 : (20 : Int32) ≤ op &&& 31
        · by_cases c23 : (23 : Int32) ≤ op &&& 31
          · by_cases c27 : (27 : Int32) ≤ op &&& 31
            · refine ⟨T, par, frk, en, V, 0, fun post u h H => ?_⟩
              obtain ⟨f0, f1, f2, f3, f4, a1, a2, a3, a4, a5, a6, a7, a8, a9, a10, a11, a12, a13, a14, a15, a16, a17⟩ := u
              refine nm_e (nm_e (nm_r el ?_))
              exact br_t c10 (br_t c14 (br_t c18 (br_t c20 (br_t c23 (br_t c27 (pt_flush h rfl (by omega) (fun u' hu => H u' hu)))))))
            · refine ⟨T, par, frk, en, V, 0, fun post u h H => ?_⟩
              obtain ⟨f0, f1, f2, f3, f4, a1, a2, a3, a4, a5, a6, a7, a8, a9, a10, a11, a12, a13, a14, a15, a16, a17⟩ := u
              refine nm_e (nm_e (nm_r el ?_))
              exact br_t c10 (br_t c14 (br_t c18 (br_t c20 (br_t c23 (br_f c27 (pt_backup h rfl (by omega) (fun u' hu => H u' hu)))))))
          · refine ⟨T, par, frk, en, V, 0, fun post u h H => ?_⟩
            obtain ⟨f0, f1, f2, f3, f4, a1, a2, a3, a4, a5, a6, a7, a8, a9, a10, a11, a12, a13, a14, a15, a16, a17⟩ := u
            refine nm_e (nm_e (nm_r el ?_))
            exact br_t c10 (br_t c14 (br_t c18 (br_t c20 (br_f c23 (pt_crash h (fun u' hu => H u' hu))))))
        · obtain ⟨s, hs, es⟩ := pk_andE (x >>> ((6 : Int32) &&& 31)) (m := 7) 3 (by decide)
          have hs8 : s < 8 := hs
          have et : nI s - nI s / nI T * nI T = nI (s % T) := pk_rem (by omega) (by omega) (by omega)
          have hsT : s % T < T := Nat.mod_lt _ (by omega)
          by_cases c3 : x &&& 3 = 0
          · obtain ⟨n, hn, e9⟩ := pk_andE (x >>> ((9 : Int32) &&& 31)) (m := 31) 5 (by decide)
            have hn32 : n < 32 := hn
            obtain ⟨T', par', frk', en', V', r, hN⟩ := pt_restoreN (T := T) (par := par) (frk := frk) (en := en) (V := V) et e9 hsT hT6 (by omega)
            refine ⟨T', par', frk', en', V', r, fun post u h H => ?_⟩
            obtain ⟨f0, f1, f2, f3, f4, a1, a2, a3, a4, a5, a6, a7, a8, a9, a10, a11, a12, a13, a14, a15, a16, a17⟩ := u
            have hf1 : f1 = nI (T - 1) := h.1.2.1.2
            have hf1' : f1 + 1 = nI T := by
              rw [hf1, nI_1, show T - 1 + 1 = T by omega]
            refine nm_e (nm_e (nm_r el (br_t c10 (br_t c14 (br_t c18 (br_f c20 ⟨by rw [hf1']; exact nI_ne0 (by omega) (by omega), br_t c3 ?_⟩))))))
            rw [es, hf1']
            exact hN _ _ h (fun u' hu => H u' hu)
          · obtain ⟨n, hn, e9⟩ := pk_andE (x >>> ((9 : Int32) &&& 31)) (m := 7) 3 (by decide)
            have hn8 : n < 8 := hn
            obtain ⟨T', par', frk', en', V', r, hN⟩ := pt_restoreN (T := T) (par := par) (frk := frk) (en := en) (V := V) et e9 hsT hT6 (by omega)
            refine ⟨T', par', frk', en', V', r, fun post u h H => ?_⟩
            obtain ⟨f0, f1, f2, f3, f4, a1, a2, a3, a4, a5, a6, a7, a8, a9, a10, a11, a12, a13, a14, a15, a16, a17⟩ := u
            have hf1 : f1 = nI (T - 1) := h.1.2.1.2
            have hf1' : f1 + 1 = nI T := by
              rw [hf1, nI_1, show T - 1 + 1 = T by omega]
            refine nm_e (nm_e (nm_r el (br_t c10 (br_t c14 (br_t c18 (br_f c20 ⟨by rw [hf1']; exact nI_ne0 (by omega) (by omega), br_f c3 ?_⟩))))))
            rw [es, hf1']
            exact hN _ _ h (fun u' hu => H u' hu)
      · obtain ⟨T', par', frk', en', V', r, hN⟩ := pt_add (T := T) (par := par) (frk := frk) (en := en) (V := V) (d := (x >>> ((6 : Int32) &&& 31)) - 4) ek hk8
        refine ⟨T', par', frk', en', V', r, fun post u h H => ?_⟩
        obtain ⟨f0, f1, f2, f3, f4, a1, a2, a3, a4, a5, a6, a7, a8, a9, a10, a11, a12, a13, a14, a15, a16, a17⟩ := u
        exact nm_e (nm_e (nm_e (br_t c10 (br_t c14 (br_f c18 (hN _ _ h (fun u' hu => H u' hu)))))))
    · obtain ⟨T', par', frk', en', V', r, hN⟩ := pt_exchange (T := T) (par := par) (frk := frk) (en := en) (V := V) ek hk8 el hl8
      refine ⟨T', par', frk', en', V', r, fun post u h H => ?_⟩
      obtain ⟨f0, f1, f2, f3, f4, a1, a2, a3, a4, a5, a6, a7, a8, a9, a10, a11, a12, a13, a14, a15, a16, a17⟩ := u
      exact nm_e (nm_e (nm_e (br_t c10 (br_f c14 (hN _ _ h (fun u' hu => H u' hu))))))
  · by_cases c64 : x &&& 64 = 0
    · obtain ⟨T', par', frk', en', V', r, hN⟩ := pt_set (T := T) (par := par) (frk := frk) (en := en) (V := V) (v := (x >>> ((7 : Int32) &&& 31)) &&& 3) ek hk8
      refine ⟨T', par', frk', en', V', r, fun post u h H => ?_⟩
      obtain ⟨f0, f1, f2, f3, f4, a1, a2, a3, a4, a5, a6, a7, a8, a9, a10, a11, a12, a13, a14, a15, a16, a17⟩ := u
      exact nm_e (nm_e (nm_e (br_f c10 (br_t c64 (hN _ _ h (fun u' hu => H u' hu))))))
    · obtain ⟨T', par', frk', en', V', r, hN⟩ := pt_set (T := T) (par := par) (frk := frk) (en := en) (V := V) (v := x >>> ((7 : Int32) &&& 31)) ek hk8
      refine ⟨T', par', frk', en', V', r, fun post u h H => ?_⟩
      obtain ⟨f0, f1, f2, f3, f4, a1, a2, a3, a4, a5, a6, a7, a8, a9, a10, a11, a12, a13, a14, a15, a16, a17⟩ := u
      exact nm_e (nm_e (nm_e (br_f c10 (br_f c64 (hN _ _ h (fun u' hu => H u' hu))))))
end
end
section
section
variable {T T' : Nat} {par frk en par' frk' en' : Nat → Nat} {V V' : Nat → Nat → Nat → Int32} {f0 f1 f2 f3 f4 : Int32} {a1 a2 a3 a4 a5 a6 a7 a8 a9 a10 a11 a12 a13 a14 a15 a16 a17 : Nat → Int32} {g0 g1 g2 g3 g4 : Int32} {b1 b2 b3 b4 b5 b6 b7 b8 b9 b10 b11 b12 b13 b14 b15 b16 b17 : Nat → Int32} {post : Int32 → Prop} {L kc ks : Nat} {xs : Nat → Int32}
theorem pt_same (h : pt_L T par frk en V f0 f1 a1 a2 a3 a4 a5 a6 a7) (h' : pt_L T' par' frk' en' V' g0 g1 b1 b2 b3 b4 b5 b6 b7) {x : Int32} {t : Nat} (hx : x = nI t) (ht : t < 2 ^ 31)
    (hv : ∀ n k, k < 8 → pt_va T en V t n k = pt_va T' en' V' t n k) (hl : pt_lp T en t = pt_lp T' en' t) (H : post 1) : wpL_same post (f0, f1, f2, f3, f4, a1, a2, a3, a4, a5, a6, a7, a8, a9, a10, a11, a12, a13, a14, a15, a16, a17, g0, g1, g2, g3, g4, b1, b2, b3, b4, b5, b6, b7, b8, b9, b10, b11, b12, b13, b14, b15, b16, b17) x := by
  subst hx
  refine pk_loop (σ := Unit) (fun N i _ => wL_same_2 post (nI t) f0 f1 f2 f3 f4 a1 a2 a3 a4 a5 a6 a7 a8 a9 a10 a11 a12 a13 a14 a15 a16 a17 g0 g1 g2 g3 g4 b1 b2 b3 b4 b5 b6 b7 b8 b9 b10 b11 b12 b13 b14 b15 b16 b17 N (nI i)) (fun _ _ => True) 248 0 () (by omega) trivial ?_ ?_
  · intro N _ _
    exact pk_le 248 248 (fun _ => pt_lastPoint h rfl ht (pt_lastPoint h' rfl ht (br_t hl H))) (fun z => absurd z (by omega))
  · intro N i _ hi _ hw
    have e1 : nI i >>> ((3 : Int32) &&& 31) = nI (i / 2 ^ 3) := pk_shrN (by omega) _ 3 (by decide)
    have e2 : nI i &&& 7 = nI (i % 2 ^ 3) := pk_andN (by omega) 3 (by decide)
    exact pk_le 248 i (fun z => absurd z (by omega)) (fun _ => pt_valueAt h rfl e1 e2 ht (by omega) (by omega) (pt_valueAt h' rfl e1 e2 ht (by omega) (by omega) (br_t (hv _ _ (by omega)) (nm_r (nI_1 i) (hw () trivial)))))
theorem pt_298 {t n : Nat} (h : pt_K T par frk en V (f0, f1, f2, f3, f4, a1, a2, a3, a4, a5, a6, a7, a8, a9, a10, a11, a12, a13, a14, a15, a16, a17)) (h' : pt_K (T + 1) (pt_en par T t) (pt_en frk T n) (pt_en en T n) (pt_VT V T t) (g0, g1, g2, g3, g4, b1, b2, b3, b4, b5, b6, b7, b8, b9, b10, b11, b12, b13, b14, b15, b16, b17)) (ht : t < T) (hT : T < 6) (hn : n ≤ en t) (H : post 1) {x4 : Int32} (hx4 : x4 = nI (T - 1)) :
    ∃ N, wL_law_298 post L xs x4 (nI t) (nI n) (nI T) kc ks f0 f1 f2 f3 f4 a1 a2 a3 a4 a5 a6 a7 a8 a9 a10 a11 a12 a13 a14 a15 a16 a17 g0 g1 g2 g3 g4 b1 b2 b3 b4 b5 b6 b7 b8 b9 b10 b11 b12 b13 b14 b15 b16 b17 N 0 := by
  have hL := h.1
  have hL' := h'.1
  have hM' := h'.2.1.2
  have n30 : n ≤ 30 := Nat.le_trans hn (hL.2.2.2.1 t ht).2.2.2
  have va1 : ∀ m k, pt_va T en V t m k = pt_va (T + 1) (pt_en en T n) (pt_VT V T t) t m k := by
    intro m k
    unfold pt_va
    rw [pt_en_n (by omega), pt_VT_n (by omega)]
    by_cases z : m ≤ en t
    · rw [if_pos ⟨ht, z⟩, if_pos ⟨by omega, z⟩]
    · rw [if_neg (fun y => z y.2), if_neg (fun y => z y.2)]
  have va2 : ∀ m k, m ≤ n → pt_va (T + 1) (pt_en en T n) (pt_VT V T t) T m k = pt_va T en V t m k := by
    intro m k hm
    unfold pt_va
    rw [pt_en_s, pt_VT_s, if_pos ⟨by omega, hm⟩, if_pos ⟨ht, by omega⟩]
  have lp1 : pt_lp T en t = pt_lp (T + 1) (pt_en en T n) t := by
    unfold pt_lp
    rw [pt_en_n (by omega), if_pos ht, if_pos (by omega)]
  have eg1 : g1 = nI T := hL'.2.1.2
  have hcg : g1.toNatClampNeg = T := by
    rw [eg1]
    exact nI_clamp (by omega)
  have eb7 : b7 T = nI n := by
    have e := (hL'.2.2.2.1 T (by omega)).2.1
    rw [pt_en_s] at e
    exact e
  have hm : ∀ k, k < 8 → b8 k = pt_VT V T t t n k := by
    intro k hk
    have e := hM' k hk
    rw [show T + 1 - 1 = T from rfl, pt_en_s, pt_VT_s] at e
    rw [pt_VT_n (by omega)]
    exact e
  refine pk_loop (σ := Unit) (fun N i _ => wL_law_298 post L xs x4 (nI t) (nI n) (nI T) kc ks f0 f1 f2 f3 f4 a1 a2 a3 a4 a5 a6 a7 a8 a9 a10 a11 a12 a13 a14 a15 a16 a17 g0 g1 g2 g3 g4 b1 b2 b3 b4 b5 b6 b7 b8 b9 b10 b11 b12 b13 b14 b15 b16 b17 N (nI i)) (fun _ _ => True) 248 0 () (by omega) trivial ?_ ?_
  · intro N _ _
    refine pk_le 248 248 (fun _ => br_t (by rw [hx4, nI_1, show T - 1 + 1 = T by omega]) (br_t eg1 (And.intro (pk_in T 6 hT eg1) (br_t (by rw [hcg]; exact eb7) ?_)))) (fun z => absurd z (by omega))
    exact pt_differs hL' rfl rfl (by omega) (by rw [pt_en_n (by omega)]; exact hn) hm (br_t rfl (pt_same hL hL' rfl (by omega) (fun m k _ => va1 m k) lp1 (br_f (by decide) H)))
  · intro N i _ hi _ hw
    have e1 : nI i >>> ((3 : Int32) &&& 31) = nI (i / 2 ^ 3) := pk_shrN (by omega) _ 3 (by decide)
    have e2 : nI i &&& 7 = nI (i % 2 ^ 3) := pk_andN (by omega) 3 (by decide)
    exact pk_le 248 i (fun z => absurd z (by omega)) (fun _ => pk_lt n (i / 2 ^ 3) (fun _ => nm_r (nI_1 i) (hw () trivial)) (fun z => pt_valueAt hL' rfl e1 e2 (by omega) (by omega) (by omega) (pt_valueAt hL rfl e1 e2 (by omega) (by omega) (by omega) (br_t (va2 _ _ z) (nm_r (nI_1 i) (hw () trivial))))) rfl e1)
theorem pt_277 (hL' : pt_L T par frk en V g0 g1 b1 b2 b3 b4 b5 b6 b7) (H : post 1) {x4 z : Int32} (hx4 : x4 = nI (T - 1)) : wL_law_277 post L xs x4 z z kc ks g0 g1 g2 g3 g4 b1 b2 b3 b4 b5 b6 b7 b8 b9 b10 b11 b12 b13 b14 b15 b16 b17 :=
  br_t rfl (br_t (hL'.2.1.2.trans hx4.symm) H)
theorem pt_174 (h : pt_K T par frk en V (f0, f1, f2, f3, f4, a1, a2, a3, a4, a5, a6, a7, a8, a9, a10, a11, a12, a13, a14, a15, a16, a17)) (h' : pt_K T par frk en V (g0, g1, g2, g3, g4, b1, b2, b3, b4, b5, b6, b7, b8, b9, b10, b11, b12, b13, b14, b15, b16, b17)) (H : post 1) {x3 x4 x5 : Int32} (hx4 : x4 = nI (T - 1)) (hx5 : x5 = nI (en (T - 1))) :
    ∃ N, wL_law_174 post L xs x3 x4 x5 kc ks f0 f1 f2 f3 f4 a1 a2 a3 a4 a5 a6 a7 a8 a9 a10 a11 a12 a13 a14 a15 a16 a17 g0 g1 g2 g3 g4 b1 b2 b3 b4 b5 b6 b7 b8 b9 b10 b11 b12 b13 b14 b15 b16 b17 N 0 := by
  have hL := h.1
  have hL' := h'.1
  have h16 := hL.1
  have h30 := (hL.2.2.2.1 (T - 1) (by omega)).2.2.2
  have hm := h.2.1.2
  have hm' := h'.2.1.2
  refine pk_loop (σ := Unit) (fun N i _ => wL_law_174 post L xs x3 x4 x5 kc ks f0 f1 f2 f3 f4 a1 a2 a3 a4 a5 a6 a7 a8 a9 a10 a11 a12 a13 a14 a15 a16 a17 g0 g1 g2 g3 g4 b1 b2 b3 b4 b5 b6 b7 b8 b9 b10 b11 b12 b13 b14 b15 b16 b17 N (nI i)) (fun _ _ => True) 8 0 () (by omega) trivial ?_ ?_
  · intro N _ _
    obtain ⟨s, hs, es⟩ := pk_andE x3 (m := 7) 3 (by decide)
    obtain ⟨n, hn, e9⟩ := pk_andE (x3 >>> ((3 : Int32) &&& 31)) (m := 15) 4 (by decide)
    have hs8 : s < 8 := hs
    have hn16 : n < 16 := hn
    have hx4' : x4 + 1 = nI T := by
      rw [hx4, nI_1, show T - 1 + 1 = T by omega]
    have et : nI s - nI s / nI T * nI T = nI (s % T) := pk_rem (by omega) (by omega) (by omega)
    have hsT : s % T < T := Nat.mod_lt _ (by omega)
    have t30 := (hL.2.2.2.1 (s % T) hsT).2.2.2
    have elp : pt_lp T en (s % T) = nI (en (s % T)) := if_pos hsT
    refine pk_le 8 8 (fun _ => ⟨by rw [hx4']; exact nI_ne0 (by omega) (by omega), nm_r (by rw [es, hx4', et]) (nm_r e9 ?_)⟩) (fun z => absurd z (by omega))
    refine pt_restore h' rfl rfl hsT (by omega) (fun z => br_f (by decide) (pt_lastPoint hL rfl (by omega) ?_)) (fun z _ => br_f (by decide) (pt_lastPoint hL rfl (by omega) ?_)) (fun z zT u' hu => ?_)
    · rw [elp]
      exact br_f (nI_ge (by omega) (by omega)) (pt_277 hL' H hx4)
    · rw [elp]
      exact br_t (nI_le z (by omega)) (pt_277 hL' H hx4)
    · obtain ⟨g0, g1, g2, g3, g4, b1, b2, b3, b4, b5, b6, b7, b8, b9, b10, b11, b12, b13, b14, b15, b16, b17⟩ := u'
      exact br_t (nI_pos' (by omega)) (pt_298 h hu hsT zT z H hx4)
  · intro N i _ hi _ hw
    have eva : pt_va T en V (T - 1) (en (T - 1)) i = V (T - 1) (en (T - 1)) i := if_pos ⟨by omega, Nat.le_refl _⟩
    refine pk_le 8 i (fun z => absurd z (by omega)) (fun _ => pt_valueAt hL hx4 hx5 rfl (by omega) (by omega) hi (pt_get rfl hi (br_t (by rw [eva]; exact (hm i hi).symm) (pt_get rfl hi (pt_get rfl hi (br_t ?_ (nm_r (nI_1 i) (hw () trivial))))))))
    exact (hm' i hi).trans (hm i hi).symm
theorem pt_146 (h : pt_K T par frk en V (f0, f1, f2, f3, f4, a1, a2, a3, a4, a5, a6, a7, a8, a9, a10, a11, a12, a13, a14, a15, a16, a17)) (h' : pt_K T par frk en V (g0, g1, g2, g3, g4, b1, b2, b3, b4, b5, b6, b7, b8, b9, b10, b11, b12, b13, b14, b15, b16, b17)) (H : post 1) {x3 x4 x5 : Int32} (hx4 : x4 = nI (T - 1)) (hx5 : x5 = nI (en (T - 1))) :
    ∃ N, wL_law_146 post L xs x3 x4 x5 kc ks f0 f1 f2 f3 f4 a1 a2 a3 a4 a5 a6 a7 a8 a9 a10 a11 a12 a13 a14 a15 a16 a17 g0 g1 g2 g3 g4 b1 b2 b3 b4 b5 b6 b7 b8 b9 b10 b11 b12 b13 b14 b15 b16 b17 N 0 := by
  refine pk_loop (σ := Unit) (fun N i _ => wL_law_146 post L xs x3 x4 x5 kc ks f0 f1 f2 f3 f4 a1 a2 a3 a4 a5 a6 a7 a8 a9 a10 a11 a12 a13 a14 a15 a16 a17 g0 g1 g2 g3 g4 b1 b2 b3 b4 b5 b6 b7 b8 b9 b10 b11 b12 b13 b14 b15 b16 b17 N (nI i)) (fun _ _ => True) 7 0 () (by omega) trivial ?_ ?_
  · intro N _ _
    exact pk_le 7 7 (fun _ => pt_174 h h' H hx4 hx5) (fun z => absurd z (by omega))
  · intro N i _ hi _ hw
    exact pk_le 7 i (fun z => absurd z (by omega)) (fun _ => pt_same h.1 h'.1 rfl (by omega) (fun m k _ => rfl) rfl (br_f (by decide) (nm_r (nI_1 i) (hw () trivial))))
end
theorem pt_main {post : Int32 → Prop} (H : post 1) {L kc ks : Nat} (hL : L ≤ 260) {xs : Nat → Int32} {x3 : Int32} :
    ∀ (N i T : Nat) (par frk en : Nat → Nat) (V : Nat → Nat → Nat → Int32) (f0 f1 f2 f3 f4 : Int32) (a1 a2 a3 a4 a5 a6 a7 a8 a9 a10 a11 a12 a13 a14 a15 a16 a17 : Nat → Int32) (g0 g1 g2 g3 g4 : Int32) (b1 b2 b3 b4 b5 b6 b7 b8 b9 b10 b11 b12 b13 b14 b15 b16 b17 : Nat → Int32), pt_K T par frk en V (f0, f1, f2, f3, f4, a1, a2, a3, a4, a5, a6, a7, a8, a9, a10, a11, a12, a13, a14, a15, a16, a17) → pt_K T par frk en V (g0, g1, g2, g3, g4, b1, b2, b3, b4, b5, b6, b7, b8, b9, b10, b11, b12, b13, b14, b15, b16, b17) → i ≤ 1000 → L - i < N → wL_law_32 post L xs x3 kc ks N (nI i) f0 f1 f2 f3 f4 a1 a2 a3 a4 a5 a6 a7 a8 a9 a10 a11 a12 a13 a14 a15 a16 a17 g0 g1 g2 g3 g4 b1 b2 b3 b4 b5 b6 b7 b8 b9 b10 b11 b12 b13 b14 b15 b16 b17 := by
  intro N
  induction N with
  | zero =>
    intro i T par frk en V f0 f1 f2 f3 f4 a1 a2 a3 a4 a5 a6 a7 a8 a9 a10 a11 a12 a13 a14 a15 a16 a17 g0 g1 g2 g3 g4 b1 b2 b3 b4 b5 b6 b7 b8 b9 b10 b11 b12 b13 b14 b15 b16 b17 _ _ _ z
    exact absurd z (by omega)
  | succ N ih =>
    intro i T par frk en V f0 f1 f2 f3 f4 a1 a2 a3 a4 a5 a6 a7 a8 a9 a10 a11 a12 a13 a14 a15 a16 a17 g0 g1 g2 g3 g4 b1 b2 b3 b4 b5 b6 b7 b8 b9 b10 b11 b12 b13 b14 b15 b16 b17 h h' hi hN
    have hT := h.1.1
    have hf1 := h.1.2.1.2
    have e7 := (h.1.2.2.2.1 (T - 1) (by omega)).2.1
    have hc : f1.toNatClampNeg = T - 1 := by
      rw [hf1]
      exact nI_clamp (by omega)
    refine pk_le L (i + 1) (fun z => And.intro (pk_in (T - 1) 6 (by omega) hf1) (pt_146 h h' H hf1 (by rw [hc]; exact e7))) (fun z => ?_) rfl (nI_1 i)
    have in1 : vp_in (nI i) L := pk_in i L (by omega)
    have in2 : vp_in (nI i + 1) L := pk_in (i + 1) L (by omega) (nI_1 i)
    obtain ⟨T', par', frk', en', V', r, hNx⟩ := pt_turn (par := par) (frk := frk) (en := en) (V := V) hT.1 hT.2 (xs (nI i).toNatClampNeg) (xs (nI i + 1).toNatClampNeg)
    obtain ⟨m1, hm1, em1⟩ := pk_andE (xs (nI i + 1).toNatClampNeg) (m := 7) 3 (by decide)
    obtain ⟨m2, hm2, em2⟩ := pk_andE ((xs (nI i).toNatClampNeg) >>> ((5 : Int32) &&& 31)) (m := 3) 2 (by decide)
    have hm1' : m1 < 8 := hm1
    have hm2' : m2 < 4 := hm2
    have e2 : nI i + 2 = nI (i + 2) := nI_add i 2
    refine ⟨in1, in2, hNx _ _ h (fun u' hu => ?_)⟩
    obtain ⟨f0, f1, f2, f3, f4, a1, a2, a3, a4, a5, a6, a7, a8, a9, a10, a11, a12, a13, a14, a15, a16, a17⟩ := u'
    refine And.intro in1 ⟨in2, hNx _ _ h' (fun v1 hv1 => ?_)⟩
    obtain ⟨g0, g1, g2, g3, g4, b1, b2, b3, b4, b5, b6, b7, b8, b9, b10, b11, b12, b13, b14, b15, b16, b17⟩ := v1
    refine And.intro in2 (pt_backup hv1 em1 (by omega) (fun v2 hv2 => ?_))
    obtain ⟨g0, g1, g2, g3, g4, b1, b2, b3, b4, b5, b6, b7, b8, b9, b10, b11, b12, b13, b14, b15, b16, b17⟩ := v2
    refine And.intro in1 (pt_flush hv2 em2 (by omega) (fun v3 hv3 => ?_))
    obtain ⟨g0, g1, g2, g3, g4, b1, b2, b3, b4, b5, b6, b7, b8, b9, b10, b11, b12, b13, b14, b15, b16, b17⟩ := v3
    refine And.intro in1 (br_c (fun _ => br_t rfl (nm_r e2 (ih (i + 2) T' par' frk' en' V' f0 f1 f2 f3 f4 a1 a2 a3 a4 a5 a6 a7 a8 a9 a10 a11 a12 a13 a14 a15 a16 a17 g0 g1 g2 g3 g4 b1 b2 b3 b4 b5 b6 b7 b8 b9 b10 b11 b12 b13 b14 b15 b16 b17 hu hv3 (by omega) (by omega)))) (fun _ => pt_crash hv3 (fun v4 hv4 => ?_)))
    obtain ⟨g0, g1, g2, g3, g4, b1, b2, b3, b4, b5, b6, b7, b8, b9, b10, b11, b12, b13, b14, b15, b16, b17⟩ := v4
    exact br_t rfl (nm_r e2 (ih (i + 2) T' par' frk' en' V' f0 f1 f2 f3 f4 a1 a2 a3 a4 a5 a6 a7 a8 a9 a10 a11 a12 a13 a14 a15 a16 a17 g0 g1 g2 g3 g4 b1 b2 b3 b4 b5 b6 b7 b8 b9 b10 b11 b12 b13 b14 b15 b16 b17 hu hv4 (by omega) (by omega)))
def pt_new : St1 := (1, 0, 0, 0, 0, (fun _ => 0), (fun _ => 0), (fun _ => 0), (fun _ => 0), upd (fun _ => 0) 0 (-1), (fun _ => 0), (fun _ => 0), (fun _ => 0), (fun _ => 0), (fun _ => 0), (fun _ => 0), (fun _ => 0), (fun _ => 0), (fun _ => 0), (fun _ => 0), (fun _ => 0), (fun _ => 0))
theorem pt_init {post : St1 → Prop} (H : post pt_new) : wpX_init post 17 874 (0, 0, 0, 0, 0) := by
  unfold wpX_init
  dsimp only
  exact ⟨by omega, by omega, by omega, by omega, by omega, by omega, by omega, by omega, by omega, by omega, by omega, by omega, by omega, by omega, by omega, by omega, by omega, by omega, by omega, by omega, by omega, by omega, by omega, by omega, by omega, by omega, by omega, by omega, by omega, by omega, by omega, by omega, by omega, by omega, nm_e H⟩
theorem pt_K0 : pt_K 1 (fun _ => 0) (fun _ => 0) (fun _ => 0) (fun _ _ _ => 0) pt_new := by
  have hD : ∀ (x y : Nat → Int32), (∀ k, x k = 0) → (∀ k, y k = 0) → pt_D 8 (fun _ _ => 0) 0 x y := fun x y hx hy k _ => ⟨0, Nat.le_refl 0, hy k, hx k⟩
  refine And.intro ⟨⟨by omega, by omega⟩, ⟨rfl, rfl⟩, ⟨pk_us, rfl⟩, fun t _ => ⟨rfl, rfl, Nat.le_refl _, Nat.zero_le 30⟩, fun t h1 h2 => absurd h1 (by omega), fun t _ k _ => rfl, fun t p _ h1 h2 => ?_⟩ ⟨⟨hD _ _ (fun _ => rfl) (fun _ => rfl), fun k _ => rfl⟩, hD _ _ (fun _ => rfl) (fun _ => rfl), ⟨0, 0, by omega, by omega, rfl, rfl, fun z => absurd rfl z⟩, fun b _ hf => absurd rfl hf⟩
  have h1' : 0 < p := h1
  have h2' : p ≤ 0 := h2
  omega
theorem i_vc (xs : Nat → Int32) (L : Nat) (hL : L ≤ 260) : wpL_law (fun r => r = 1) L xs := by
  have main : ∀ (x3 : Int32), ∃ N, wL_law_32 (fun r => r = 1) L xs x3 (1 + 17 + 1 + 17) (22 + 874 + 22 + 874) N 1 1 0 0 0 0 (fun _ => 0) (fun _ => 0) (fun _ => 0) (fun _ => 0) (upd (fun _ => 0) 0 (-1)) (fun _ => 0) (fun _ => 0) (fun _ => 0) (fun _ => 0) (fun _ => 0) (fun _ => 0) (fun _ => 0) (fun _ => 0) (fun _ => 0) (fun _ => 0) (fun _ => 0) (fun _ => 0)
      1 0 0 0 0 (fun _ => 0) (fun _ => 0) (fun _ => 0) (fun _ => 0) (upd (fun _ => 0) 0 (-1)) (fun _ => 0) (fun _ => 0) (fun _ => 0) (fun _ => 0) (fun _ => 0) (fun _ => 0) (fun _ => 0) (fun _ => 0) (fun _ => 0) (fun _ => 0) (fun _ => 0) (fun _ => 0) :=
    fun x3 => Exists.intro (L + 1) (pt_main (post := fun r => r = 1) rfl hL (L + 1) 1 1 _ _ _ _ _ _ _ _ _ _ _ _ _ _ _ _ _ _ _ _ _ _ _ _ _ _ _ _ _ _ _ _ _ _ _ _ _ _ _ _ _ _ _ _ _ _ _ _ pt_K0 pt_K0 (by omega) (by omega))
  unfold wpL_law
  refine ⟨17, 874, by omega, by omega, pt_init ?_⟩
  refine And.intro (by omega) ⟨by omega, 17, 874, by omega, by omega, pt_init ?_⟩
  refine pk_le L 0 (fun _ => main 0) (fun z => ⟨pk_in 0 L z, fun x3 _ => main x3⟩)
end
