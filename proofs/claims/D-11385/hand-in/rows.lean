section
/-- one more row of key k: the counts -/
def rr_cs (c : Nat → Nat) (k : Nat) : Nat → Nat := fun i => if i = k then c i + 1 else c i
/-- one more row of key k and value v: the greatest values -/
def rr_ms (m : Nat → Int32) (k : Nat) (v : Int32) : Nat → Int32 := fun i => if i = k then (if m i = 1000000 then v else if v ≤ m i then m i else v) else m i
def rr_cn (K : Nat → Nat) : Nat → Nat → Nat
  | 0 => fun _ => 0
  | n + 1 => rr_cs (rr_cn K n) (K n)
def rr_mn (K : Nat → Nat) (V : Nat → Int32) : Nat → Nat → Int32
  | 0 => fun _ => 1000000
  | n + 1 => rr_ms (rr_mn K V n) (K n) (V n)
/-- what is kept for each key -/
def rr_S (c : Nat → Nat) (m : Nat → Int32) (a5 a6 a7 : Nat → Int32) : Prop :=
  (∀ i, i < 6 → a5 i = nI (c i)) ∧ (∀ i, i < 6 → a6 i = if c i = 0 then 0 else 8) ∧ (∀ i g, i < 6 → g < 8 → a7 (i * 8 + g) = if g = 3 then m i else 1000000)
/-- the rows: r of them, keys K, values V, all of group 3 -/
def rr_T (r : Nat) (K : Nat → Nat) (V : Nat → Int32) (a1 a2 a3 a4 : Nat → Int32) : Prop :=
  (∀ i, i < r → a1 i = 1 ∧ a2 i = nI (K i) ∧ a3 i = 3 ∧ a4 i = V i) ∧ (∀ i, r ≤ i → i < 14 → a1 i = 0) ∧ (∀ i, i < r → K i < 6 ∧ ¬ V i < (-1000) ∧ V i ≤ 1000)
theorem rr_vn {v : Int32} (h : v ≤ 1000) : ¬ v = 1000000 := by
  intro e
  rw [e] at h
  exact absurd h (by decide)
theorem rr_cm {K : Nat → Nat} {V : Nat → Int32} : ∀ n, (∀ i, i < n → V i ≤ 1000) → ∀ i, (rr_mn K V n i = 1000000 ↔ rr_cn K n i = 0) := by
  intro n
  induction n with
  | zero => intro _ i; exact ⟨fun _ => rfl, fun _ => rfl⟩
  | succ n ih =>
    intro h i
    have hv := rr_vn (h n (by omega))
    have ih' := ih (fun j hj => h j (by omega)) i
    show (rr_ms (rr_mn K V n) (K n) (V n) i = 1000000 ↔ rr_cs (rr_cn K n) (K n) i = 0)
    unfold rr_ms rr_cs
    by_cases e : i = K n
    · rw [if_pos e, if_pos e]
      refine ⟨fun z => ?_, fun z => absurd z (by omega)⟩
      by_cases e2 : rr_mn K V n i = 1000000
      · rw [if_pos e2] at z
        exact absurd z hv
      · rw [if_neg e2] at z
        by_cases e3 : V n ≤ rr_mn K V n i
        · rw [if_pos e3] at z
          exact absurd z e2
        · rw [if_neg e3] at z
          exact absurd z hv
    · rw [if_neg e, if_neg e]
      exact ih'
theorem rr_S_step {c : Nat → Nat} {m : Nat → Int32} {a5 a6 a7 b7 : Nat → Int32} {k : Nat} {v : Int32} (S : rr_S c m a5 a6 a7) (hk : k < 6)
    (h7 : ∀ j, b7 j = if j = k * 8 + 3 then (if m k = 1000000 then v else if v ≤ m k then m k else v) else a7 j) :
    rr_S (rr_cs c k) (rr_ms m k v) (upd a5 k (a5 k + 1)) (upd a6 k (a6 k ||| 8)) b7 := by
  obtain ⟨s5, s6, s7⟩ := S
  refine ⟨fun i hi => ?_, fun i hi => ?_, fun i g hi hg => ?_⟩
  · unfold rr_cs
    by_cases e : i = k
    · rw [if_pos e, e, pk_us, s5 k hk, nI_1]
    · rw [if_neg e, pk_un e, s5 i hi]
  · unfold rr_cs
    by_cases e : i = k
    · rw [if_pos e, e, pk_us, s6 k hk, if_neg (show ¬ c k + 1 = 0 by omega)]
      by_cases z : c k = 0
      · rw [if_pos z]; decide
      · rw [if_neg z]; decide
    · rw [if_neg e, pk_un e, s6 i hi]
  · rw [h7]
    unfold rr_ms
    by_cases e : i = k
    · by_cases e2 : g = 3
      · rw [if_pos (by omega), if_pos e2, if_pos e, e]
      · rw [if_neg (by omega), if_neg e2, s7 i g hi hg, if_neg e2]
    · rw [if_neg (by omega), s7 i g hi hg, if_neg e]
theorem rr_S0 {K : Nat → Nat} {V : Nat → Int32} {a5 a6 a7 : Nat → Int32} (h5 : ∀ i, i < 6 → a5 i = 0 ∧ a6 i = 0) (h7 : ∀ i, i < 48 → a7 i = 1000000) : rr_S (rr_cn K 0) (rr_mn K V 0) a5 a6 a7 := by
  refine ⟨fun i hi => (h5 i hi).1, fun i hi => ?_, fun i g hi hg => ?_⟩
  · rw [if_pos (show rr_cn K 0 i = 0 from rfl)]
    exact (h5 i hi).2
  · rw [h7 _ (by omega)]
    by_cases e : g = 3
    · rw [if_pos e]; rfl
    · rw [if_neg e]
/-- how many keys below n have a row -/
def rr_cnt (c : Nat → Nat) : Nat → Nat
  | 0 => 0
  | n + 1 => if c n = 0 then rr_cnt c n else rr_cnt c n + 1
/-- repairs -/
def rr_rep (c : Nat → Nat) : Nat → Int32
  | 0 => 1
  | n + 1 => if c n = 0 then rr_rep c n else rr_rep c n * nI (c n)
/-- part over the first n rows -/
def rr_pt (K : Nat → Nat) (V : Nat → Int32) (q : Bool) (key : Nat) : Nat → Int32
  | 0 => 1000000
  | n + 1 => if K n = key then (if rr_pt K V q key n = 1000000 then V n else if q then (if V n ≤ rr_pt K V q key n then rr_pt K V q key n else V n) else (if rr_pt K V q key n ≤ V n then rr_pt K V q key n else V n)) else rr_pt K V q key n
/-- sumOf over the first n keys -/
def rr_sm (K : Nat → Nat) (V : Nat → Int32) (q : Bool) (r : Nat) : Nat → Int32
  | 0 => 0
  | n + 1 => if rr_cn K r n = 0 then rr_sm K V q r n else rr_sm K V q r n + rr_pt K V q n r
/-- the least of the keys' greatest values, keys below n -/
def rr_md (c : Nat → Nat) (m : Nat → Int32) : Nat → Int32
  | 0 => 0
  | n + 1 => if c n = 0 then rr_md c m n else if rr_cnt c n = 0 then m n else if rr_md c m n ≤ m n then rr_md c m n else m n
/-- the sum of the keys' greatest values, keys below n -/
def rr_mx (c : Nat → Nat) (m : Nat → Int32) : Nat → Int32
  | 0 => 0
  | n + 1 => if c n = 0 then rr_mx c m n else rr_mx c m n + m n
theorem rr_cnt_mono (c : Nat → Nat) {i j : Nat} (h : i ≤ j) : rr_cnt c i ≤ rr_cnt c j := by
  induction j with
  | zero => rw [show i = 0 by omega]; exact Nat.le_refl _
  | succ j ih =>
    by_cases e : i = j + 1
    · rw [e]; exact Nat.le_refl _
    · refine Nat.le_trans (ih (by omega)) ?_
      show rr_cnt c j ≤ if c j = 0 then rr_cnt c j else rr_cnt c j + 1
      by_cases z : c j = 0
      · rw [if_pos z]; exact Nat.le_refl _
      · rw [if_neg z]; omega
theorem rr_cnt_s0 {c : Nat → Nat} {n : Nat} (h : c n = 0) : rr_cnt c (n + 1) = rr_cnt c n := if_pos h
theorem rr_cnt_s1 {c : Nat → Nat} {n : Nat} (h : ¬ c n = 0) : rr_cnt c (n + 1) = rr_cnt c n + 1 := if_neg h
theorem rr_cnt_le (c : Nat → Nat) (n : Nat) : rr_cnt c n ≤ n := by
  induction n with
  | zero => exact Nat.le_refl _
  | succ n ih =>
    by_cases z : c n = 0
    · rw [rr_cnt_s0 z]; omega
    · rw [rr_cnt_s1 z]; omega
/-- no key below n with a row, but for one -/
theorem rr_cnt0 {c : Nat → Nat} {n : Nat} (h : rr_cnt c n = 0) : ∀ i, i < n → c i = 0 := by
  intro i hi
  by_cases z : c i = 0
  · exact z
  · have := rr_cnt_mono c (show i + 1 ≤ n by omega)
    rw [rr_cnt_s1 z] at this
    omega
theorem rr_cn_le (K : Nat → Nat) (n i : Nat) : rr_cn K n i ≤ n := by
  induction n with
  | zero => exact Nat.le_refl _
  | succ n ih =>
    show rr_cs (rr_cn K n) (K n) i ≤ n + 1
    unfold rr_cs
    by_cases e : i = K n
    · rw [if_pos e]; omega
    · rw [if_neg e]; omega
end
section
section
variable {post : St2 → Prop} {f0 : Int32} {a1 a2 a3 a4 a5 a6 a7 a8 a9 a10 a11 a12 a13 a14 a15 : Nat → Int32} {r : Nat} {K : Nat → Nat} {V : Nat → Int32}
theorem rr_s52 (hr : r ≤ 14) (T : rr_T r K V a1 a2 a3 a4) (h0 : rr_S (rr_cn K 0) (rr_mn K V 0) a5 a6 a7)
    (H : ∀ b5 b6 b7, rr_S (rr_cn K r) (rr_mn K V r) b5 b6 b7 → post (f0, a1, a2, a3, a4, b5, b6, b7, a8, a9, a10, a11, a12, a13, a14, a15)) :
    ∃ n, wX_summarise_52 post f0 n 0 a1 a2 a3 a4 a5 a6 a7 a8 a9 a10 a11 a12 a13 a14 a15 := by
  refine pk_loop (fun n i (s : (Nat → Int32) × (Nat → Int32) × (Nat → Int32)) => wX_summarise_52 post f0 n (nI i) a1 a2 a3 a4 s.1 s.2.1 s.2.2 a8 a9 a10 a11 a12 a13 a14 a15) (fun i s => rr_S (rr_cn K (min i r)) (rr_mn K V (min i r)) s.1 s.2.1 s.2.2) 14 0 (a5, a6, a7) (by omega) (by rw [Nat.zero_min]; exact h0) ?_ ?_
  · intro n s h
    refine pk_le 14 14 (fun _ => H _ _ _ ?_) (fun z => absurd z (by omega))
    rw [show min 14 r = r by omega] at h
    exact h
  · intro n i s hi h hw
    refine pk_le 14 i (fun z => absurd z (by omega)) (fun _ => ⟨pk_in i 14 hi, ?_⟩)
    rw [nI_clamp (show i < 2 ^ 31 by omega)]
    by_cases e : i < r
    · obtain ⟨t1, t2, t3, t4⟩ := T.1 i e
      obtain ⟨hk, hv1, hv2⟩ := T.2.2 i e
      rw [show min i r = i by omega] at h
      rw [show min (i + 1) r = i + 1 by omega] at hw
      have cl : (nI (K i)).toNatClampNeg = K i := nI_clamp (by omega)
      have cl3 : (nI (K i * 8 + 3)).toNatClampNeg = K i * 8 + 3 := nI_clamp (by omega)
      have e7 : s.2.2 (K i * 8 + 3) = rr_mn K V i (K i) := by
        rw [h.2.2 (K i) 3 hk (by omega), if_pos rfl]
      rw [t1, t2, t3, t4]
      refine br_f (by decide) ⟨pk_in i 14 hi, nm_e ⟨pk_in i 14 hi, nm_r (e' := nI (K i * 8 + 3)) ?_ ?_⟩⟩
      · rw [show (8 : Int32) = nI 8 from rfl, show (3 : Int32) = nI 3 from rfl, pk_mul, nI_add]
      rw [cl, cl3, e7, show (1 : Int32) <<< ((3 : Int32) &&& 31) = 8 from by decide]
      refine ⟨pk_in (K i) 6 hk, pk_in (K i) 6 hk, nm_e ⟨pk_in (K i) 6 hk, pk_in i 14 hi, pk_in (K i) 6 hk, nm_e ⟨pk_in (K i * 8 + 3) 48 (by omega), ?_⟩⟩⟩
      have P : ∀ b7 : Nat → Int32, (∀ j, b7 j = if j = K i * 8 + 3 then (if rr_mn K V i (K i) = 1000000 then V i else if V i ≤ rr_mn K V i (K i) then rr_mn K V i (K i) else V i) else s.2.2 j) → wX_summarise_52 post f0 n (nI (i + 1)) a1 a2 a3 a4 (upd s.1 (K i) (s.1 (K i) + 1)) (upd s.2.1 (K i) (s.2.1 (K i) ||| 8)) b7 a8 a9 a10 a11 a12 a13 a14 a15 :=
        fun b7 hb => hw (_, _, b7) (rr_S_step h hk hb)
      have U : (rr_mn K V i (K i) = 1000000 ∨ ¬ V i ≤ rr_mn K V i (K i)) → wX_summarise_52 post f0 n (nI (i + 1)) a1 a2 a3 a4 (upd s.1 (K i) (s.1 (K i) + 1)) (upd s.2.1 (K i) (s.2.1 (K i) ||| 8)) (upd s.2.2 (K i * 8 + 3) (V i)) a8 a9 a10 a11 a12 a13 a14 a15 := by
        intro z
        refine P _ (fun j => ?_)
        by_cases ej : j = K i * 8 + 3
        · rw [if_pos ej, ej, pk_us]
          by_cases e1 : rr_mn K V i (K i) = 1000000
          · rw [if_pos e1]
          · rw [if_neg e1, if_neg (z.resolve_left e1)]
        · rw [if_neg ej, pk_un ej]
      have Z : (rr_mn K V i (K i) = 1000000 ∨ ¬ V i ≤ rr_mn K V i (K i)) → wX_summarise_139 post (wX_summarise_52 post f0 n) (nI i) (nI (K i * 8 + 3)) f0 a1 a2 a3 a4 (upd s.1 (K i) (s.1 (K i) + 1)) (upd s.2.1 (K i) (s.2.1 (K i) ||| 8)) s.2.2 a8 a9 a10 a11 a12 a13 a14 a15 := by
        intro z
        unfold wX_summarise_139
        rw [nI_clamp (show i < 2 ^ 31 by omega), cl3, t4]
        exact ⟨pk_in i 14 hi, pk_in (K i * 8 + 3) 48 (by omega), nm_e (nm_r (nI_1 i) (U z))⟩
      refine br_c (fun z => Z (Or.inl z)) (fun z => ⟨pk_in i 14 hi, pk_in (K i * 8 + 3) 48 (by omega), br_c (fun y => nm_r (nI_1 i) (P _ (fun j => ?_))) (fun y => Z (Or.inr y))⟩)
      by_cases ej : j = K i * 8 + 3
      · rw [if_pos ej, if_neg z, if_pos y, ej, e7]
      · rw [if_neg ej]
    · rw [T.2.1 i (by omega) hi]
      rw [show min i r = r by omega] at h
      rw [show min (i + 1) r = r by omega] at hw
      exact br_t rfl (nm_r (nI_1 i) (hw s h))
theorem rr_s30 (H : ∀ b7, (∀ j, j < 48 → b7 j = 1000000) → ∃ n, wX_summarise_52 post f0 n 0 a1 a2 a3 a4 a5 a6 b7 a8 a9 a10 a11 a12 a13 a14 a15) :
    ∃ n, wX_summarise_30 post f0 n 0 a1 a2 a3 a4 a5 a6 a7 a8 a9 a10 a11 a12 a13 a14 a15 := by
  refine pk_loop (fun n i s => wX_summarise_30 post f0 n (nI i) a1 a2 a3 a4 a5 a6 s a8 a9 a10 a11 a12 a13 a14 a15) (fun i s => ∀ j, j < i → s j = 1000000) 48 0 a7 (by omega) (fun j hj => absurd hj (by omega)) ?_ ?_
  · intro n s h
    exact pk_le 48 48 (fun _ => H s h) (fun z => absurd z (by omega))
  · intro n i s hi h hw
    refine pk_le 48 i (fun z => absurd z (by omega)) (fun _ => ⟨pk_in i 48 hi, nm_e (nm_r (nI_1 i) (hw _ (fun j hj => ?_)))⟩)
    rw [nI_clamp (show i < 2 ^ 31 by omega)]
    by_cases e : j = i
    · rw [e, pk_us]
    · rw [pk_un e]
      exact h j (by omega)
theorem rr_s2 (H : ∀ b5 b6, (∀ j, j < 6 → b5 j = 0 ∧ b6 j = 0) → ∃ n, wX_summarise_30 post f0 n 0 a1 a2 a3 a4 b5 b6 a7 a8 a9 a10 a11 a12 a13 a14 a15) :
    ∃ n, wX_summarise_2 post f0 n 0 a1 a2 a3 a4 a5 a6 a7 a8 a9 a10 a11 a12 a13 a14 a15 := by
  refine pk_loop (fun n i (s : (Nat → Int32) × (Nat → Int32)) => wX_summarise_2 post f0 n (nI i) a1 a2 a3 a4 s.1 s.2 a7 a8 a9 a10 a11 a12 a13 a14 a15) (fun i s => ∀ j, j < i → s.1 j = 0 ∧ s.2 j = 0) 6 0 (a5, a6) (by omega) (fun j hj => absurd hj (by omega)) ?_ ?_
  · intro n s h
    exact pk_le 6 6 (fun _ => H s.1 s.2 h) (fun z => absurd z (by omega))
  · intro n i s hi h hw
    refine pk_le 6 i (fun z => absurd z (by omega)) (fun _ => ?_)
    rw [nI_clamp (show i < 2 ^ 31 by omega)]
    refine ⟨pk_in i 6 hi, nm_e ⟨pk_in i 6 hi, nm_e (nm_r (nI_1 i) (hw (upd s.1 i 0, upd s.2 i 0) (fun j hj => ?_)))⟩⟩
    dsimp only
    by_cases e : j = i
    · rw [e, pk_us, pk_us]
      exact ⟨rfl, rfl⟩
    · rw [pk_un e, pk_un e]
      exact h j (by omega)
theorem rr_summ (hr : r ≤ 14) (T : rr_T r K V a1 a2 a3 a4)
    (H : ∀ b5 b6 b7, rr_S (rr_cn K r) (rr_mn K V r) b5 b6 b7 → post (f0, a1, a2, a3, a4, b5, b6, b7, a8, a9, a10, a11, a12, a13, a14, a15)) :
    wpX_summarise post (f0, a1, a2, a3, a4, a5, a6, a7, a8, a9, a10, a11, a12, a13, a14, a15) := by
  unfold wpX_summarise
  exact rr_s2 (fun b5 b6 h5 => rr_s30 (fun b7 h7 => rr_s52 hr T (rr_S0 h5 h7) H))
theorem rr_init {post : St2 → Prop} (H : ∀ a1 a2 a3 a4 a5 a6 a7 a8 a9 a10 a11 a12 a13 a14 a15, rr_T 0 K V a1 a2 a3 a4 → rr_S (rr_cn K 0) (rr_mn K V 0) a5 a6 a7 → post (0, a1, a2, a3, a4, a5, a6, a7, a8, a9, a10, a11, a12, a13, a14, a15)) : wpX_init post 15 182 0 := by
  unfold wpX_init
  have T : rr_T 0 K V (fun _ => 0) (fun _ => 0) (fun _ => 0) (fun _ => 0) := ⟨fun i hi => absurd hi (by omega), fun i _ _ => rfl, fun i hi => absurd hi (by omega)⟩
  refine ⟨by omega, by omega, by omega, by omega, by omega, by omega, by omega, by omega, by omega, by omega, by omega, by omega, by omega, by omega, by omega, by omega, by omega, by omega, by omega, by omega, by omega, by omega, by omega, by omega, by omega, by omega, by omega, by omega, by omega, by omega, ?_⟩
  exact rr_summ (by omega) T (fun b5 b6 b7 h => H _ _ _ _ _ _ _ _ _ _ _ _ _ _ _ T h)
end
/-- one more row -/
def rr_kp {α : Type} (K : Nat → α) (r : Nat) (k : α) : Nat → α := fun i => if i = r then k else K i
theorem rr_T_add {r k : Nat} {K : Nat → Nat} {V : Nat → Int32} {v : Int32} {a1 a2 a3 a4 : Nat → Int32} (T : rr_T r K V a1 a2 a3 a4) (hk : k < 6) (h1 : ¬ v < (-1000)) (h2 : v ≤ 1000) :
    rr_T (r + 1) (rr_kp K r k) (rr_kp V r v) (upd a1 r 1) (upd a2 r (nI k)) (upd a3 r 3) (upd a4 r v) := by
  refine ⟨fun i hi => ?_, fun i hi hj => ?_, fun i hi => ?_⟩
  · unfold rr_kp
    by_cases e : i = r
    · rw [if_pos e, if_pos e, e, pk_us, pk_us, pk_us, pk_us]
      exact ⟨rfl, rfl, rfl, rfl⟩
    · rw [if_neg e, if_neg e, pk_un e, pk_un e, pk_un e, pk_un e]
      exact T.1 i (by omega)
  · rw [pk_un (by omega)]
    exact T.2.1 i (by omega) hj
  · unfold rr_kp
    by_cases e : i = r
    · rw [if_pos e, if_pos e]
      exact ⟨hk, h1, h2⟩
    · rw [if_neg e, if_neg e]
      exact T.2.2 i (by omega)
section
variable {post : Int32 → St2 → Prop} {a1 a2 a3 a4 a5 a6 a7 a8 a9 a10 a11 a12 a13 a14 a15 : Nat → Int32} {r k : Nat} {K : Nat → Nat} {V : Nat → Int32} {v : Int32}
theorem rr_add (hr : r ≤ 1) (T : rr_T r K V a1 a2 a3 a4) (hk : k < 6) (h1 : ¬ v < (-1000)) (h2 : v ≤ 1000)
    (H : ∀ b1 b2 b3 b4 b5 b6 b7, rr_T (r + 1) (rr_kp K r k) (rr_kp V r v) b1 b2 b3 b4 → rr_S (rr_cn (rr_kp K r k) (r + 1)) (rr_mn (rr_kp K r k) (rr_kp V r v) (r + 1)) b5 b6 b7 → post (nI r) (nI (r + 1), b1, b2, b3, b4, b5, b6, b7, a8, a9, a10, a11, a12, a13, a14, a15)) :
    wpX_add post (nI r, a1, a2, a3, a4, a5, a6, a7, a8, a9, a10, a11, a12, a13, a14, a15) (nI k) 3 v := by
  have W : wX_add_80 post (nI k) 3 v (nI r) (nI r) a1 a2 a3 a4 a5 a6 a7 a8 a9 a10 a11 a12 a13 a14 a15 := by
    unfold wX_add_80
    rw [nI_clamp (show r < 2 ^ 31 by omega)]
    refine ⟨pk_in r 14 (by omega), nm_e ⟨pk_in r 14 (by omega), nm_e ⟨pk_in r 14 (by omega), nm_e ⟨pk_in r 14 (by omega), nm_e (nm_r (nI_1 r) ?_)⟩⟩⟩⟩
    exact rr_summ (by omega) (rr_T_add T hk h1 h2) (fun b5 b6 b7 h => H _ _ _ _ _ _ _ (rr_T_add T hk h1 h2) h)
  unfold wpX_add
  refine br_f (nI_pos (by omega)) (br_t (nI_lt (b := 6) hk (by omega)) (br_f (by decide) (br_t (by decide) (br_f h1 (br_t h2 (br_t (nI_lt (b := 14) (by omega) (by omega)) ?_))))))
  refine pk_loop (σ := Unit) (fun n i _ => wX_add_57 post (nI k) 3 v (nI r) a1 a2 a3 a4 a5 a6 a7 a8 a9 a10 a11 a12 a13 a14 a15 n (nI i)) (fun _ _ => True) r 0 () (by omega) trivial ?_ ?_
  · intro n _ _
    refine pk_le 13 r (fun z => absurd z (by omega)) (fun _ => ⟨pk_in r 14 (by omega), br_t ?_ W⟩)
    rw [nI_clamp (show r < 2 ^ 31 by omega)]
    exact T.2.1 r (by omega) (by omega)
  · intro n i _ hi _ hw
    refine pk_le 13 i (fun z => absurd z (by omega)) (fun _ => ⟨pk_in i 14 (by omega), br_f ?_ (nm_r (nI_1 i) (hw () trivial))⟩)
    rw [nI_clamp (show i < 2 ^ 31 by omega), (T.1 i hi).1]
    decide
theorem rr_addN {post : Int32 → St2 → Prop} {u : St2} {p v : Int32} (hb : p < 0 ∨ 5 < p ∨ v < (-1000) ∨ 1000 < v) (H : ∀ x, post x u) : wpX_add post u p 3 v := by
  obtain ⟨f0, a1, a2, a3, a4, a5, a6, a7, a8, a9, a10, a11, a12, a13, a14, a15⟩ := u
  unfold wpX_add
  refine br_c (fun _ => H _) (fun z1 => br_c (fun z2 => br_f (by decide) (br_t (by decide) (br_c (fun _ => H _) (fun z3 => br_c (fun z4 => ?_) (fun _ => H _))))) (fun _ => H _))
  exfalso
  simp only [Int32.lt_iff_toInt_lt, Int32.le_iff_toInt_le] at hb z1 z2 z3 z4
  simp only [show (0 : Int32).toInt = 0 from rfl, show (5 : Int32).toInt = 5 from rfl, show (6 : Int32).toInt = 6 from rfl, show (-1000 : Int32).toInt = -1000 from rfl, show (1000 : Int32).toInt = 1000 from rfl] at hb z1 z2 z3 z4
  omega
end
end
section
def rr_q (q : Bool) : Int32 := if q then 1 else 0
section
variable {post : Int32 → Prop} {f0 : Int32} {a1 a2 a3 a4 a5 a6 a7 a8 a9 a10 a11 a12 a13 a14 a15 : Nat → Int32} {c : Nat → Nat} {m : Nat → Int32} {r : Nat} {K : Nat → Nat} {V : Nat → Int32}
theorem rr_repairs (S : rr_S c m a5 a6 a7) (hc : ∀ i, c i ≤ 14) (H : post (rr_rep c 6)) : wpX_repairs post (f0, a1, a2, a3, a4, a5, a6, a7, a8, a9, a10, a11, a12, a13, a14, a15) := by
  unfold wpX_repairs
  refine pk_loop (σ := Unit) (fun n i _ => wX_repairs_4 post f0 a1 a2 a3 a4 a5 a6 a7 a8 a9 a10 a11 a12 a13 a14 a15 n (rr_rep c i) (nI i)) (fun _ _ => True) 6 0 () (by omega) trivial ?_ ?_
  · intro n _ _
    exact pk_le 6 6 (fun _ => H) (fun z => absurd z (by omega))
  · intro n i _ hi _ hw
    have t := hw () trivial
    have hci := hc i
    refine pk_le 6 i (fun z => absurd z (by omega)) (fun _ => ⟨pk_in i 6 hi, ?_⟩)
    rw [nI_clamp (show i < 2 ^ 31 by omega), S.1 i hi]
    refine pk_le (c i) 0 (fun z => nm_r (nI_1 i) ?_) (fun z => ⟨pk_in i 6 hi, nm_e (nm_r (nI_1 i) ?_)⟩)
    · rw [show rr_rep c (i + 1) = rr_rep c i from if_pos (by omega)] at t
      exact t
    · rw [show rr_rep c (i + 1) = rr_rep c i * nI (c i) from if_neg (by omega)] at t
      exact t
theorem rr_keys (S : rr_S c m a5 a6 a7) (hc : ∀ i, c i ≤ 14) (H : post (nI (rr_cnt c 6))) : wpX_keysInUse post (f0, a1, a2, a3, a4, a5, a6, a7, a8, a9, a10, a11, a12, a13, a14, a15) := by
  unfold wpX_keysInUse
  refine pk_loop (σ := Unit) (fun n i _ => wX_keysInUse_4 post f0 a1 a2 a3 a4 a5 a6 a7 a8 a9 a10 a11 a12 a13 a14 a15 n (nI (rr_cnt c i)) (nI i)) (fun _ _ => True) 6 0 () (by omega) trivial ?_ ?_
  · intro n _ _
    exact pk_le 6 6 (fun _ => H) (fun z => absurd z (by omega))
  · intro n i _ hi _ hw
    have t := hw () trivial
    have hci := hc i
    refine pk_le 6 i (fun z => absurd z (by omega)) (fun _ => ⟨pk_in i 6 hi, ?_⟩)
    rw [nI_clamp (show i < 2 ^ 31 by omega), S.1 i hi]
    refine pk_le (c i) 0 (fun z => nm_r (nI_1 i) ?_) (fun z => nm_r (nI_1 _) (nm_r (nI_1 i) ?_))
    · rw [rr_cnt_s0 (by omega)] at t
      exact t
    · rw [rr_cnt_s1 (by omega)] at t
      exact t
theorem rr_cntL (S : rr_S c m a5 a6 a7) (H : post (nI (rr_cnt c 6))) : wpX_countLeast post (f0, a1, a2, a3, a4, a5, a6, a7, a8, a9, a10, a11, a12, a13, a14, a15) 3 := by
  unfold wpX_countLeast
  dsimp only
  unfold wpX_badGroup
  refine br_f (by decide) (br_t (by decide) (br_t rfl ?_))
  refine pk_loop (σ := Unit) (fun n i _ => wX_countLeast_14 post 3 f0 a1 a2 a3 a4 a5 a6 a7 a8 a9 a10 a11 a12 a13 a14 a15 n (nI (rr_cnt c i)) (nI i)) (fun _ _ => True) 6 0 () (by omega) trivial ?_ ?_
  · intro n _ _
    exact pk_le 6 6 (fun _ => H) (fun z => absurd z (by omega))
  · intro n i _ hi _ hw
    have t := hw () trivial
    refine pk_le 6 i (fun z => absurd z (by omega)) (fun _ => ⟨pk_in i 6 hi, ?_⟩)
    rw [nI_clamp (show i < 2 ^ 31 by omega), S.2.1 i hi]
    by_cases e : c i = 0
    · rw [rr_cnt_s0 e] at t
      rw [if_pos e]
      exact br_f (by decide) (nm_r (nI_1 i) t)
    · rw [rr_cnt_s1 e] at t
      rw [if_neg e]
      exact br_t (by decide) (nm_r (nI_1 _) (nm_r (nI_1 i) t))
theorem rr_cntM (S : rr_S c m a5 a6 a7) (H : post (nI (rr_cnt c 6))) : wpX_countMost post (f0, a1, a2, a3, a4, a5, a6, a7, a8, a9, a10, a11, a12, a13, a14, a15) 3 := by
  unfold wpX_countMost
  dsimp only
  unfold wpX_badGroup
  refine br_f (by decide) (br_t (by decide) (br_t rfl ?_))
  refine pk_loop (σ := Unit) (fun n i _ => wX_countMost_14 post 3 f0 a1 a2 a3 a4 a5 a6 a7 a8 a9 a10 a11 a12 a13 a14 a15 n (nI (rr_cnt c i)) (nI i)) (fun _ _ => True) 6 0 () (by omega) trivial ?_ ?_
  · intro n _ _
    exact pk_le 6 6 (fun _ => H) (fun z => absurd z (by omega))
  · intro n i _ hi _ hw
    have t := hw () trivial
    refine pk_le 6 i (fun z => absurd z (by omega)) (fun _ => ⟨pk_in i 6 hi, ?_⟩)
    rw [nI_clamp (show i < 2 ^ 31 by omega), S.2.1 i hi]
    by_cases e : c i = 0
    · rw [rr_cnt_s0 e] at t
      rw [if_pos e, show ((0 : Int32) >>> ((3 : Int32) &&& 31)) &&& 1 = nI 0 from by decide]
      exact nm_r (nI_add _ 0) (nm_r (nI_1 i) t)
    · rw [rr_cnt_s1 e] at t
      rw [if_neg e, show ((8 : Int32) >>> ((3 : Int32) &&& 31)) &&& 1 = nI 1 from by decide]
      exact nm_r (nI_add _ 1) (nm_r (nI_1 i) t)
theorem rr_part {q : Bool} {key : Nat} (hr : r ≤ 14) (hk : key < 6) (T : rr_T r K V a1 a2 a3 a4) (H : post (rr_pt K V q key r)) : wpX_part post (f0, a1, a2, a3, a4, a5, a6, a7, a8, a9, a10, a11, a12, a13, a14, a15) (nI key) 3 (rr_q q) := by
  unfold wpX_part
  have X : ∃ n, wX_part_7 post (nI key) 3 (rr_q q) f0 a1 a2 a3 a4 a5 a6 a7 a8 a9 a10 a11 a12 a13 a14 a15 n (rr_pt K V q key (min 0 r)) (nI 0) := by
    refine pk_loop (σ := Unit) (fun n i (_ : Unit) => wX_part_7 post (nI key) 3 (rr_q q) f0 a1 a2 a3 a4 a5 a6 a7 a8 a9 a10 a11 a12 a13 a14 a15 n (rr_pt K V q key (min i r)) (nI i)) (fun _ _ => True) 14 0 () (by omega) trivial ?_ ?_
    · intro n _ _
      rw [show min 14 r = r by omega]
      exact pk_le 14 14 (fun _ => H) (fun z => absurd z (by omega))
    · intro n i _ hi _ hw
      have t := hw () trivial
      by_cases e : i < r
      · obtain ⟨t1, t2, t3, t4⟩ := T.1 i e
        have hK := (T.2.2 i e).1
        rw [show min (i + 1) r = i + 1 by omega] at t
        rw [show min i r = i by omega]
        refine pk_le 14 i (fun z => absurd z (by omega)) (fun _ => ⟨pk_in i 14 hi, ?_⟩)
        rw [nI_clamp (show i < 2 ^ 31 by omega), t1, t2, t3, t4]
        refine br_f (by decide) ⟨pk_in i 14 hi, pk_eq (K i) key (fun z => ⟨pk_in i 14 hi, br_t rfl ⟨pk_in i 14 hi, ?_⟩⟩) (fun z => nm_r (nI_1 i) ?_)⟩
        · rw [show rr_pt K V q key (i + 1) = _ from if_pos z] at t
          unfold wX_part_57
          refine br_c (fun y => nm_r (nI_1 i) ?_) (fun y => ?_)
          · rw [if_pos y] at t
            exact t
          · rw [if_neg y] at t
            cases q
            · rw [if_neg (by decide)] at t
              refine br_t rfl (br_c (fun x => nm_r (nI_1 i) ?_) (fun x => nm_r (nI_1 i) ?_))
              · rw [if_pos x] at t
                exact t
              · rw [if_neg x] at t
                exact t
            · rw [if_pos rfl] at t
              refine br_f (by decide) (br_c (fun x => nm_r (nI_1 i) ?_) (fun x => nm_r (nI_1 i) ?_))
              · rw [if_pos x] at t
                exact t
              · rw [if_neg x] at t
                exact t
        · rw [show rr_pt K V q key (i + 1) = rr_pt K V q key i from if_neg z] at t
          exact t
      · rw [show min (i + 1) r = r by omega] at t
        rw [show min i r = r by omega]
        refine pk_le 14 i (fun z => absurd z (by omega)) (fun _ => ⟨pk_in i 14 hi, br_t ?_ (nm_r (nI_1 i) t)⟩)
        rw [nI_clamp (show i < 2 ^ 31 by omega)]
        exact T.2.1 i (by omega) hi
  obtain ⟨n, hn⟩ := X
  rw [Nat.zero_min] at hn
  exact ⟨n, hn⟩
theorem rr_sumOf {q : Bool} (hr : r ≤ 14) (T : rr_T r K V a1 a2 a3 a4) (S : rr_S (rr_cn K r) m a5 a6 a7) (H : post (rr_sm K V q r 6)) : wpX_sumOf post (f0, a1, a2, a3, a4, a5, a6, a7, a8, a9, a10, a11, a12, a13, a14, a15) 3 (rr_q q) := by
  unfold wpX_sumOf
  refine pk_loop (σ := Unit) (fun n i _ => wX_sumOf_5 post 3 (rr_q q) f0 a1 a2 a3 a4 a5 a6 a7 a8 a9 a10 a11 a12 a13 a14 a15 n (rr_sm K V q r i) (nI i)) (fun _ _ => True) 6 0 () (by omega) trivial ?_ ?_
  · intro n _ _
    exact pk_le 6 6 (fun _ => H) (fun z => absurd z (by omega))
  · intro n i _ hi _ hw
    have t := hw () trivial
    have hci := rr_cn_le K r i
    refine pk_le 6 i (fun z => absurd z (by omega)) (fun _ => ⟨pk_in i 6 hi, ?_⟩)
    rw [nI_clamp (show i < 2 ^ 31 by omega), S.1 i hi]
    refine pk_le (rr_cn K r i) 0 (fun z => nm_r (nI_1 i) ?_) (fun z => rr_part hr hi T (nm_e (nm_r (nI_1 i) ?_)))
    · rw [show rr_sm K V q r (i + 1) = rr_sm K V q r i from if_pos (by omega)] at t
      exact t
    · rw [show rr_sm K V q r (i + 1) = rr_sm K V q r i + rr_pt K V q i r from if_neg (by omega)] at t
      exact t
theorem rr_sumL (hr : r ≤ 14) (T : rr_T r K V a1 a2 a3 a4) (S : rr_S (rr_cn K r) m a5 a6 a7) (H : post (rr_sm K V false r 6)) : wpX_sumLeast post (f0, a1, a2, a3, a4, a5, a6, a7, a8, a9, a10, a11, a12, a13, a14, a15) 3 := by
  unfold wpX_sumLeast
  dsimp only
  unfold wpX_badGroup
  exact br_f (by decide) (br_t (by decide) (br_t rfl (rr_sumOf (q := false) hr T S H)))
theorem rr_sumM (hr : r ≤ 14) (T : rr_T r K V a1 a2 a3 a4) (S : rr_S (rr_cn K r) m a5 a6 a7) (H : post (rr_sm K V true r 6)) : wpX_sumMost post (f0, a1, a2, a3, a4, a5, a6, a7, a8, a9, a10, a11, a12, a13, a14, a15) 3 := by
  unfold wpX_sumMost
  dsimp only
  unfold wpX_badGroup
  exact br_f (by decide) (br_t (by decide) (br_t rfl (rr_sumOf (q := true) hr T S H)))
end
end
section
theorem rr_sub_lt {x y : Int32} (h1 : ¬ x < (-1000)) (h2 : x ≤ 1000) (h3 : ¬ y < (-1000)) (h4 : y ≤ 1000) : ¬ (1000000 : Int32) ≤ x - y := by
  rw [Int32.lt_iff_toInt_lt] at h1 h3
  rw [Int32.le_iff_toInt_le] at h2 h4
  rw [show (-1000 : Int32).toInt = -1000 from by decide] at h1 h3
  rw [show (1000 : Int32).toInt = 1000 from by decide] at h2 h4
  rw [Int32.le_iff_toInt_le, Int32.toInt_sub, show (1000000 : Int32).toInt = 1000000 from by decide, Int.bmod_eq_of_le (by omega) (by omega)]
  omega
theorem rr_cnt1 : ∀ k, k < 6 → rr_cnt (rr_cs (fun _ => 0) k) 6 = 1 := by decide
theorem rr_cnt2 : ∀ k, k < 6 → ∀ l, l < 6 → rr_cnt (rr_cs (rr_cs (fun _ => 0) k) l) 6 = if k = l then 1 else 2 := by decide
section
variable {post : St2 → Prop} {f0 : Int32} {a1 a2 a3 a4 a5 a6 a7 a8 a9 a10 a11 a12 a13 a14 a15 : Nat → Int32} {r : Nat} {K : Nat → Nat} {V : Nat → Int32}
theorem rr_soT {x1 : Int32} (hr : r ≤ 14) (T : rr_T r K V a1 a2 a3 a4) (H : post (f0, a1, a2, a3, a4, a5, a6, a7, a8, a9, a10, a11, a12, a13, a14, a15)) : ∃ n, wX_sortRows_4 post f0 n x1 (nI r) a1 a2 a3 a4 a5 a6 a7 a8 a9 a10 a11 a12 a13 a14 a15 := by
  refine pk_loop (σ := Unit) (fun n i _ => wX_sortRows_4 post f0 n x1 (nI i) a1 a2 a3 a4 a5 a6 a7 a8 a9 a10 a11 a12 a13 a14 a15) (fun i _ => r ≤ i) 14 r () hr (Nat.le_refl r) ?_ ?_
  · intro n _ _
    exact pk_le 14 14 (fun _ => H) (fun z => absurd z (by omega))
  · intro n i _ hi h hw
    refine pk_le 14 i (fun z => absurd z (by omega)) (fun _ => ⟨pk_in i 14 hi, br_t ?_ (nm_r (nI_1 i) (hw () (by omega)))⟩)
    rw [nI_clamp (show i < 2 ^ 31 by omega)]
    exact T.2.1 i h hi
theorem rr_so0 (hr : 1 ≤ r) (T : rr_T r K V a1 a2 a3 a4) (H : ∃ n, wX_sortRows_4 post f0 n (nI 1) (nI 1) a1 a2 a3 a4 a5 a6 a7 a8 a9 a10 a11 a12 (upd a13 0 (nI 0)) a14 a15) : ∃ n, wX_sortRows_4 post f0 n 0 0 a1 a2 a3 a4 a5 a6 a7 a8 a9 a10 a11 a12 a13 a14 a15 := by
  obtain ⟨n, hn⟩ := H
  refine ⟨n + 1, ?_⟩
  refine pk_le 14 0 (fun z => absurd z (by omega)) (fun _ => ⟨pk_in 0 14 (by omega), br_f ?_ ⟨1, ?_⟩⟩)
  · rw [sb_cl0, (T.1 0 (by omega)).1]
    decide
  · refine pk_le 0 0 (fun _ => ?_) (fun z => absurd z (by omega))
    unfold wX_sortRows_67
    rw [sb_cl0]
    exact ⟨pk_in 0 14 (by omega), nm_e (nm_r (e' := nI 1) (by decide) (nm_r (e' := nI 1) (by decide) hn))⟩
theorem rr_sort1 (T : rr_T 1 K V a1 a2 a3 a4) (H : ∀ b, b 0 = nI 0 → post (f0, a1, a2, a3, a4, a5, a6, a7, a8, a9, a10, a11, a12, b, a14, a15)) : wpX_sortRows post (f0, a1, a2, a3, a4, a5, a6, a7, a8, a9, a10, a11, a12, a13, a14, a15) := by
  unfold wpX_sortRows
  exact rr_so0 (by omega) T (rr_soT (by omega) T (H _ pk_us))
theorem rr_sort2 (T : rr_T 2 K V a1 a2 a3 a4) (H : ∀ b i j, (V 0 ≤ V 1 ∧ i = 0 ∧ j = 1 ∨ ¬ V 0 ≤ V 1 ∧ i = 1 ∧ j = 0) → b 0 = nI i → b 1 = nI j → post (f0, a1, a2, a3, a4, a5, a6, a7, a8, a9, a10, a11, a12, b, a14, a15)) : wpX_sortRows post (f0, a1, a2, a3, a4, a5, a6, a7, a8, a9, a10, a11, a12, a13, a14, a15) := by
  unfold wpX_sortRows
  refine rr_so0 (by omega) T ?_
  have e10 : nI 1 - 1 = nI 0 := by decide
  have cl1 : (nI 1).toNatClampNeg = 1 := nI_clamp (by omega)
  have cl0 : (nI 0).toNatClampNeg = 0 := nI_clamp (by omega)
  have u0 : upd a13 0 (nI 0) 0 = nI 0 := pk_us
  by_cases e : V 0 ≤ V 1
  · obtain ⟨n, hn⟩ := rr_soT (post := post) (f0 := f0) (a5 := a5) (a6 := a6) (a7 := a7) (a8 := a8) (a9 := a9) (a10 := a10) (a11 := a11) (a12 := a12) (a13 := upd (upd a13 0 (nI 0)) 1 (nI 1)) (a14 := a14) (a15 := a15) (x1 := nI 2) (by omega) T (H _ 0 1 (Or.inl ⟨e, rfl, rfl⟩) (by rw [pk_un (by decide)]; exact pk_us) pk_us)
    refine ⟨n + 1, ?_⟩
    refine pk_le 14 1 (fun z => absurd z (by omega)) (fun _ => ⟨pk_in 1 14 (by omega), br_f ?_ ⟨1, ?_⟩⟩)
    · rw [cl1, (T.1 1 (by omega)).1]
      decide
    · refine pk_le 1 0 (fun z => absurd z (by omega)) (fun _ => ?_)
      rw [e10, cl0, u0, cl0, cl1, (T.1 0 (by omega)).2.2.2, (T.1 1 (by omega)).2.2.2]
      refine ⟨pk_in 0 14 (by omega), pk_in 0 14 (by omega), pk_in 1 14 (by omega), br_t e ?_⟩
      unfold wX_sortRows_67
      rw [cl1]
      exact ⟨pk_in 1 14 (by omega), nm_e (nm_r (e' := nI 2) (by decide) (nm_r (e' := nI 2) (by decide) hn))⟩
  · obtain ⟨n, hn⟩ := rr_soT (post := post) (f0 := f0) (a5 := a5) (a6 := a6) (a7 := a7) (a8 := a8) (a9 := a9) (a10 := a10) (a11 := a11) (a12 := a12) (a13 := upd (upd (upd a13 0 (nI 0)) 1 (nI 0)) 0 (nI 1)) (a14 := a14) (a15 := a15) (x1 := nI 2) (by omega) T (H _ 1 0 (Or.inr ⟨e, rfl, rfl⟩) pk_us (by rw [pk_un (by decide)]; exact pk_us))
    refine ⟨n + 1, ?_⟩
    refine pk_le 14 1 (fun z => absurd z (by omega)) (fun _ => ⟨pk_in 1 14 (by omega), br_f ?_ ⟨2, ?_⟩⟩)
    · rw [cl1, (T.1 1 (by omega)).1]
      decide
    · refine pk_le 1 0 (fun z => absurd z (by omega)) (fun _ => ?_)
      rw [e10, cl0, u0, cl0, cl1, (T.1 0 (by omega)).2.2.2, (T.1 1 (by omega)).2.2.2]
      refine ⟨pk_in 0 14 (by omega), pk_in 0 14 (by omega), pk_in 1 14 (by omega), br_f e ⟨pk_in 0 14 (by omega), pk_in 1 14 (by omega), nm_e (nm_r (e' := nI 0) (by decide) ?_)⟩⟩
      refine pk_le 0 0 (fun _ => ?_) (fun z => absurd z (by omega))
      unfold wX_sortRows_67
      rw [cl0]
      exact ⟨pk_in 0 14 (by omega), nm_e (nm_r (e' := nI 2) (by decide) (nm_r (e' := nI 2) (by decide) hn))⟩
end
section
variable {post : Int32 → St2 → Prop} {f0 : Int32} {a1 a2 a3 a4 a5 a6 a7 a8 a9 a10 a11 a12 a13 a14 a15 : Nat → Int32} {r : Nat} {K : Nat → Nat} {V : Nat → Int32} {c : Nat → Nat} {m : Nat → Int32}
theorem rr_sp150 {J : Int32 → Int32 → Int32 → Int32 → (Nat → Int32) → (Nat → Int32) → (Nat → Int32) → (Nat → Int32) → (Nat → Int32) → (Nat → Int32) → (Nat → Int32) → (Nat → Int32) → (Nat → Int32) → (Nat → Int32) → (Nat → Int32) → (Nat → Int32) → (Nat → Int32) → (Nat → Int32) → (Nat → Int32) → Prop} {x1 x2 x4 y z : Int32} {fr to p q : Nat}
    (h1 : fr < 14) (h2 : to < 14) (hp : p < 14) (hq : q < 14) (e1 : a13 to = nI p) (e2 : a13 fr = nI q) (e3 : a4 p = y) (e4 : a4 q = z)
    (H : ∀ w, w = (if x4 = x1 then (if x2 ≤ y - z then x2 else y - z) else x2) → J w (nI fr) x4 (nI (to + 1)) a1 a2 a3 a4 a5 a6 a7 a8 a9 a10 a11 a12 a13 a14 a15) : wX_spreadLeast_150 post J x1 x2 (nI fr) x4 (nI to) f0 a1 a2 a3 a4 a5 a6 a7 a8 a9 a10 a11 a12 a13 a14 a15 := by
  unfold wX_spreadLeast_150
  rw [nI_clamp (show to < 2 ^ 31 by omega), nI_clamp (show fr < 2 ^ 31 by omega), e1, e2, nI_clamp (show p < 2 ^ 31 by omega), nI_clamp (show q < 2 ^ 31 by omega), e3, e4]
  refine ⟨pk_in to 14 h2, pk_in p 14 hp, pk_in fr 14 h1, pk_in q 14 hq, nm_e (br_c (fun g => br_c (fun g2 => nm_r (nI_1 to) ?_) (fun g2 => nm_r (nI_1 to) ?_)) (fun g => nm_r (nI_1 to) ?_))⟩
  · exact H _ (by rw [if_pos g, if_pos g2])
  · exact H _ (by rw [if_pos g, if_neg g2])
  · exact H _ (by rw [if_neg g])
theorem rr_sp16 (S : rr_S c m a5 a6 a7) (hc : ∀ i, c i ≤ 14) (H : ∀ b, (∀ i, i < 6 → b i = 0) → ∃ n, wX_spreadLeast_51 post (nI (rr_cnt c 6)) f0 n 1000000 0 0 0 a1 a2 a3 a4 a5 a6 a7 a8 a9 a10 a11 a12 a13 b a15) : ∃ n, wX_spreadLeast_16 post f0 n 0 a1 a2 a3 a4 a5 a6 a7 a8 a9 a10 a11 a12 a13 a14 a15 := by
  refine pk_loop (fun n i s => wX_spreadLeast_16 post f0 n (nI i) a1 a2 a3 a4 a5 a6 a7 a8 a9 a10 a11 a12 a13 s a15) (fun i s => ∀ j, j < i → s j = 0) 6 0 a14 (by omega) (fun j hj => absurd hj (by omega)) ?_ ?_
  · intro n s h
    exact pk_le 6 6 (fun _ => rr_keys S hc (H s h)) (fun z => absurd z (by omega))
  · intro n i s hi h hw
    refine pk_le 6 i (fun z => absurd z (by omega)) (fun _ => ⟨pk_in i 6 hi, nm_e (nm_r (nI_1 i) (hw _ (fun j hj => ?_)))⟩)
    rw [nI_clamp (show i < 2 ^ 31 by omega)]
    by_cases e : j = i
    · rw [e, pk_us]
    · rw [pk_un e]
      exact h j (by omega)
/-- the first turn of the window's loop -/
theorem rr_sp0 {x1 v : Int32} {p k : Nat} (hr : 1 ≤ r) (hr2 : r < 14) (hp : p < 14) (e13 : a13 0 = nI p) (e2 : a2 p = nI k) (hk : k < 6) (e4 : a4 p = v) (e14 : a14 k = 0)
    (H : ∀ w, w = (if nI 1 = x1 then (0 : Int32) else 1000000) → ∃ n, wX_spreadLeast_51 post x1 (nI r) n w (nI 0) (nI 1) (nI 1) a1 a2 a3 a4 a5 a6 a7 a8 a9 a10 a11 a12 a13 (upd a14 k (nI 1)) a15) : ∃ n, wX_spreadLeast_51 post x1 (nI r) n 1000000 0 0 0 a1 a2 a3 a4 a5 a6 a7 a8 a9 a10 a11 a12 a13 a14 a15 := by
  obtain ⟨n, hn⟩ := H _ rfl
  refine ⟨n + 1, ?_⟩
  refine pk_le r 0 (fun z => absurd z (by omega)) (fun _ => ?_)
  have clk : (nI k).toNatClampNeg = k := nI_clamp (by omega)
  rw [sb_cl0, e13, nI_clamp (show p < 2 ^ 31 by omega), e2]
  refine ⟨pk_in 0 14 (by omega), pk_in p 14 hp, nm_e ⟨pk_in k 6 hk, ?_⟩⟩
  rw [clk, e14]
  refine br_t rfl (nm_r (e' := nI 1) (by decide) ?_)
  unfold wX_spreadLeast_87
  rw [clk, e14, show (0 : Int32) + 1 = nI 1 from by decide]
  refine ⟨pk_in k 6 hk, pk_in k 6 hk, nm_e ⟨1, ?_⟩⟩
  refine pk_le 0 0 (fun _ => ?_) (fun z => absurd z (by omega))
  refine rr_sp150 (fr := 0) (to := 0) (p := p) (q := p) (by omega) (by omega) hp hp e13 e13 e4 e4 (fun w hw => ?_)
  rw [show v - v = 0 from Int32.sub_self _, if_neg (show ¬ (1000000 : Int32) ≤ 0 from by decide)] at hw
  rw [hw]
  exact hn
theorem rr_spread0 {u : St2} (hu : u.1 = 0) (H : post 1000000 u) : wpX_spreadLeast post u := by
  obtain ⟨f0, a1, a2, a3, a4, a5, a6, a7, a8, a9, a10, a11, a12, a13, a14, a15⟩ := u
  unfold wpX_spreadLeast
  exact br_t hu H
theorem rr_spread1 (T : rr_T 1 K V a1 a2 a3 a4) (S : rr_S (rr_cn K 1) m a5 a6 a7) (H : ∀ b13 b14, post 0 (nI 1, a1, a2, a3, a4, a5, a6, a7, a8, a9, a10, a11, a12, b13, b14, a15)) : wpX_spreadLeast post (nI 1, a1, a2, a3, a4, a5, a6, a7, a8, a9, a10, a11, a12, a13, a14, a15) := by
  unfold wpX_spreadLeast
  refine br_f (by decide) (rr_sort1 T (fun b hb => rr_sp16 S (fun i => Nat.le_trans (rr_cn_le K 1 i) (by omega)) (fun b14 h14 => ?_)))
  have hk := (T.2.2 0 (by omega)).1
  rw [show rr_cnt (rr_cn K 1) 6 = 1 from rr_cnt1 (K 0) hk]
  refine rr_sp0 (r := 1) (p := 0) (k := K 0) (v := V 0) (by omega) (by omega) (by omega) hb (T.1 0 (by omega)).2.1 hk (T.1 0 (by omega)).2.2.2 (h14 _ hk) (fun w hw => ⟨1, ?_⟩)
  rw [if_pos rfl] at hw
  rw [hw]
  exact pk_le 1 1 (fun _ => H _ _) (fun z => absurd z (by omega))
theorem rr_spread2 (T : rr_T 2 K V a1 a2 a3 a4) (S : rr_S (rr_cn K 2) m a5 a6 a7) (H : ∀ b13 b14, post (if K 0 = K 1 then 0 else if V 0 ≤ V 1 then V 1 - V 0 else V 0 - V 1) (nI 2, a1, a2, a3, a4, a5, a6, a7, a8, a9, a10, a11, a12, b13, b14, a15)) : wpX_spreadLeast post (nI 2, a1, a2, a3, a4, a5, a6, a7, a8, a9, a10, a11, a12, a13, a14, a15) := by
  unfold wpX_spreadLeast
  refine br_f (by decide) (rr_sort2 T (fun b i j hij hb0 hb1 => rr_sp16 S (fun i => Nat.le_trans (rr_cn_le K 2 i) (by omega)) (fun b14 h14 => ?_)))
  have hi : i < 2 := by omega
  have hj : j < 2 := by omega
  obtain ⟨hki, hi1, hi2⟩ := T.2.2 i hi
  obtain ⟨hkj, hj1, hj2⟩ := T.2.2 j hj
  have hk0 := (T.2.2 0 (by omega)).1
  have hk1 := (T.2.2 1 (by omega)).1
  have hkk : (K i = K j) ↔ K 0 = K 1 := by
    rcases hij with ⟨_, rfl, rfl⟩ | ⟨_, rfl, rfl⟩
    · exact Iff.rfl
    · exact eq_comm
  have hd : ¬ K 0 = K 1 → (if K 0 = K 1 then (0 : Int32) else if V 0 ≤ V 1 then V 1 - V 0 else V 0 - V 1) = V j - V i := by
    intro z
    rw [if_neg z]
    rcases hij with ⟨g, rfl, rfl⟩ | ⟨g, rfl, rfl⟩
    · rw [if_pos g]
    · rw [if_neg g]
  have cl1 : (nI 1).toNatClampNeg = 1 := nI_clamp (by omega)
  have cl0 : (nI 0).toNatClampNeg = 0 := nI_clamp (by omega)
  have cli : (nI i).toNatClampNeg = i := nI_clamp (by omega)
  have clj : (nI j).toNatClampNeg = j := nI_clamp (by omega)
  have clki : (nI (K i)).toNatClampNeg = K i := nI_clamp (by omega)
  have clkj : (nI (K j)).toNatClampNeg = K j := nI_clamp (by omega)
  rw [show rr_cnt (rr_cn K 2) 6 = _ from rr_cnt2 (K 0) hk0 (K 1) hk1]
  refine rr_sp0 (r := 2) (p := i) (k := K i) (v := V i) (by omega) (by omega) (by omega) hb0 (T.1 i hi).2.1 hki (T.1 i hi).2.2.2 (h14 _ hki) (fun w hw => ?_)
  by_cases e : K 0 = K 1
  · have eij : K i = K j := hkk.mpr e
    rw [if_pos e] at hw ⊢
    rw [if_pos rfl] at hw
    have fin : ∀ b14, wX_spreadLeast_51 post (nI 1) (nI 2) 1 0 (nI 1) (nI 1) (nI 2) a1 a2 a3 a4 a5 a6 a7 a8 a9 a10 a11 a12 b b14 a15 := by
      intro b14
      refine pk_le 2 2 (fun _ => ?_) (fun z => absurd z (by omega))
      have h := H b b14
      rw [if_pos e] at h
      exact h
    refine ⟨2, ?_⟩
    refine pk_le 2 1 (fun z => absurd z (by omega)) (fun _ => ?_)
    rw [cl1, hb1, clj, (T.1 j hj).2.1]
    refine ⟨pk_in 1 14 (by omega), pk_in j 14 (by omega), nm_e ⟨pk_in (K j) 6 hkj, ?_⟩⟩
    rw [clkj, ← eij, pk_us]
    refine br_f (by decide) ?_
    unfold wX_spreadLeast_87
    rw [clki, pk_us, show nI 1 + 1 = nI 2 from by decide]
    refine ⟨pk_in (K i) 6 hki, pk_in (K i) 6 hki, nm_e ⟨2, ?_⟩⟩
    refine pk_le 1 0 (fun z => absurd z (by omega)) (fun _ => ?_)
    rw [cl0, hb0, cli, (T.1 i hi).2.1, clki, pk_us]
    refine ⟨pk_in 0 14 (by omega), pk_in i 14 (by omega), pk_in (K i) 6 hki, pk_le 2 1 (fun z => absurd z (by omega)) (fun _ => ⟨pk_in 0 14 (by omega), pk_in i 14 (by omega), pk_in (K i) 6 hki, pk_in (K i) 6 hki, nm_e (nm_r (e' := nI 1) (by decide) ?_)⟩)⟩
    refine pk_le 1 1 (fun _ => ?_) (fun z => absurd z (by omega))
    refine rr_sp150 (fr := 1) (to := 1) (p := j) (q := j) (by omega) (by omega) (by omega) (by omega) hb1 hb1 (T.1 j hj).2.2.2 (T.1 j hj).2.2.2 (fun w2 hw2 => ?_)
    rw [if_pos rfl, hw, show V j - V j = 0 from Int32.sub_self _, if_pos (by decide)] at hw2
    rw [hw2]
    exact fin _
  · have eij : ¬ K i = K j := fun z => e (hkk.mp z)
    rw [if_neg e] at hw ⊢
    rw [if_neg (by decide)] at hw
    have fin : ∀ b14, wX_spreadLeast_51 post (nI 2) (nI 2) 1 (V j - V i) (nI 0) (nI 2) (nI 2) a1 a2 a3 a4 a5 a6 a7 a8 a9 a10 a11 a12 b b14 a15 := by
      intro b14
      refine pk_le 2 2 (fun _ => ?_) (fun z => absurd z (by omega))
      have h := H b b14
      rw [hd e] at h
      exact h
    refine ⟨2, ?_⟩
    refine pk_le 2 1 (fun z => absurd z (by omega)) (fun _ => ?_)
    rw [cl1, hb1, clj, (T.1 j hj).2.1]
    refine ⟨pk_in 1 14 (by omega), pk_in j 14 (by omega), nm_e ⟨pk_in (K j) 6 hkj, ?_⟩⟩
    have uj : upd b14 (K i) (nI 1) (K j) = 0 := by
      rw [pk_un (fun z => eij z.symm)]
      exact h14 _ hkj
    rw [clkj, uj]
    refine br_t rfl (nm_r (e' := nI 2) (by decide) ?_)
    unfold wX_spreadLeast_87
    rw [clkj, uj, show (0 : Int32) + 1 = nI 1 from by decide]
    refine ⟨pk_in (K j) 6 hkj, pk_in (K j) 6 hkj, nm_e ⟨1, ?_⟩⟩
    refine pk_le 1 0 (fun z => absurd z (by omega)) (fun _ => ?_)
    rw [cl0, hb0, cli, (T.1 i hi).2.1, clki, pk_un eij, pk_us]
    refine ⟨pk_in 0 14 (by omega), pk_in i 14 (by omega), pk_in (K i) 6 hki, pk_le 1 1 (fun _ => ?_) (fun z => absurd z (by omega))⟩
    refine rr_sp150 (fr := 0) (to := 1) (p := j) (q := i) (by omega) (by omega) (by omega) (by omega) hb1 hb0 (T.1 j hj).2.2.2 (T.1 i hi).2.2.2 (fun w2 hw2 => ?_)
    rw [if_pos rfl, hw, if_neg (rr_sub_lt hj1 hj2 hi1 hi2)] at hw2
    rw [hw2]
    exact fin _
end
end
section
section
variable {f0 : Int32} {a1 a2 a3 a4 a5 a6 a7 a8 a9 a10 a11 a12 a13 a14 a15 : Nat → Int32} {c : Nat → Nat} {m : Nat → Int32}
theorem rr_ins {post : St2 → Prop} {p : Nat} {v : Int32} (hp : p ≤ 1) (H : ∀ b, b 0 = (if p = 0 then v else if a15 0 ≤ v then a15 0 else v) → post (f0, a1, a2, a3, a4, a5, a6, a7, a8, a9, a10, a11, a12, a13, a14, b)) : wpX_insertSorted post (f0, a1, a2, a3, a4, a5, a6, a7, a8, a9, a10, a11, a12, a13, a14, a15) (nI p) v := by
  unfold wpX_insertSorted
  refine ⟨2, ?_⟩
  by_cases e : p = 0
  · subst e
    refine pk_le 0 0 (fun _ => ⟨pk_in 0 6 (by omega), nm_e (H _ ?_)⟩) (fun z => absurd z (by omega))
    rw [if_pos rfl, show (nI 0).toNatClampNeg = 0 from nI_clamp (by omega)]
    exact pk_us
  · have e1 : p = 1 := by omega
    subst e1
    refine pk_le 1 0 (fun z => absurd z (by omega)) (fun _ => ?_)
    rw [show nI 1 - 1 = nI 0 from by decide, show (nI 0).toNatClampNeg = 0 from nI_clamp (by omega), show (nI 1).toNatClampNeg = 1 from nI_clamp (by omega)]
    refine ⟨pk_in 0 6 (by omega), br_c (fun g => ⟨pk_in 1 6 (by omega), nm_e (H _ ?_)⟩) (fun g => ⟨pk_in 0 6 (by omega), pk_in 1 6 (by omega), nm_e (nm_r (e' := nI 0) (by decide) ?_)⟩)⟩
    · rw [if_neg e, if_pos g]
      exact pk_un (by decide)
    · refine pk_le 0 0 (fun _ => ⟨pk_in 0 6 (by omega), nm_e (H _ ?_)⟩) (fun z => absurd z (by omega))
      rw [if_neg e, if_neg g, show (nI 0).toNatClampNeg = 0 from nI_clamp (by omega)]
      exact pk_us
theorem rr_ix {i g : Nat} : nI i * 8 + nI g = nI (i * 8 + g) := by
  rw [show (8 : Int32) = nI 8 from rfl, pk_mul, nI_add]
section
variable {post : Int32 → St2 → Prop}
theorem rr_mm26 {J : Int32 → Int32 → Int32 → (Nat → Int32) → (Nat → Int32) → (Nat → Int32) → (Nat → Int32) → (Nat → Int32) → (Nat → Int32) → (Nat → Int32) → (Nat → Int32) → (Nat → Int32) → (Nat → Int32) → (Nat → Int32) → (Nat → Int32) → (Nat → Int32) → (Nat → Int32) → (Nat → Int32) → Prop} {p i : Nat} (hi : i < 6) (S : rr_S c m a5 a6 a7)
    (H0 : m i = 1000000 → J (nI p) (nI (i + 1)) f0 a1 a2 a3 a4 a5 a6 a7 a8 a9 a10 a11 a12 a13 a14 a15)
    (H1 : ¬ m i = 1000000 → p ≤ 1 ∧ ∀ b, b 0 = (if p = 0 then m i else if a15 0 ≤ m i then a15 0 else m i) → J (nI (p + 1)) (nI (i + 1)) f0 a1 a2 a3 a4 a5 a6 a7 a8 a9 a10 a11 a12 a13 a14 b) :
    ∃ n, wX_middleMost_26 post J (nI p) (nI i) f0 a1 a2 a3 a4 a5 a6 a7 a8 a9 a10 a11 a12 a13 a14 a15 n 1000000 0 := by
  refine pk_loop (σ := Unit) (fun n g _ => wX_middleMost_26 post J (nI p) (nI i) f0 a1 a2 a3 a4 a5 a6 a7 a8 a9 a10 a11 a12 a13 a14 a15 n (if 3 < g then m i else 1000000) (nI g)) (fun _ _ => True) 8 0 () (by omega) trivial ?_ ?_
  · intro n _ _
    refine pk_le 8 8 (fun _ => ?_) (fun z => absurd z (by omega))
    rw [if_pos (show 3 < 8 by omega)]
    refine br_c (fun z => nm_r (nI_1 i) (H0 z)) (fun z => ?_)
    obtain ⟨hp, h1⟩ := H1 z
    exact rr_ins hp (fun b hb => nm_r (nI_1 p) (nm_r (nI_1 i) (h1 b hb)))
  · intro n g _ hg _ hw
    have t := hw () trivial
    refine pk_le 8 g (fun z => absurd z (by omega)) (fun _ => ?_)
    rw [rr_ix, nI_clamp (show i * 8 + g < 2 ^ 31 by omega), S.2.2 i g hi hg]
    refine ⟨pk_in (i * 8 + g) 48 (by omega), nm_e ?_⟩
    by_cases e : g = 3
    · subst e
      rw [if_pos (show 3 < 3 + 1 by omega)] at t
      rw [if_pos rfl, if_neg (show ¬ 3 < 3 by omega)]
      refine br_c (fun z => nm_r (nI_1 3) ?_) (fun z => br_t rfl (nm_r (nI_1 3) t))
      rw [z] at t
      exact t
    · rw [if_neg e]
      refine br_t rfl (nm_r (nI_1 g) ?_)
      by_cases e2 : 3 < g
      · rw [if_pos (show 3 < g + 1 by omega)] at t
        rw [if_pos e2]
        exact t
      · rw [if_neg (show ¬ 3 < g + 1 by omega)] at t
        rw [if_neg e2]
        exact t
theorem rr_mid (hf : ¬ f0 = 0) (S : rr_S c m a5 a6 a7) (hm : ∀ i, m i = 1000000 ↔ c i = 0) (h12 : rr_cnt c 6 = 1 ∨ rr_cnt c 6 = 2) (H : ∀ b, post (rr_md c m 6) (f0, a1, a2, a3, a4, a5, a6, a7, a8, a9, a10, a11, a12, a13, a14, b)) : wpX_middleMost post (f0, a1, a2, a3, a4, a5, a6, a7, a8, a9, a10, a11, a12, a13, a14, a15) := by
  unfold wpX_middleMost
  refine br_f hf ?_
  refine pk_loop (fun n i s => wX_middleMost_14 post n (nI (rr_cnt c i)) (nI i) f0 a1 a2 a3 a4 a5 a6 a7 a8 a9 a10 a11 a12 a13 a14 s) (fun i s => ¬ rr_cnt c i = 0 → s 0 = rr_md c m i) 6 0 a15 (by omega) (fun z => absurd rfl z) ?_ ?_
  · intro n s h
    refine pk_le 6 6 (fun _ => ?_) (fun z => absurd z (by omega))
    have hs := h (by omega)
    have e0 : (nI (rr_cnt c 6) - 1) / 2 = nI 0 := by
      rcases h12 with z | z
      · rw [z]; decide
      · rw [z]; decide
    rw [e0, show (nI 0).toNatClampNeg = 0 from nI_clamp (by omega), hs]
    exact ⟨by decide, pk_in 0 6 (by omega), H s⟩
  · intro n i s hi h hw
    refine pk_le 6 i (fun z => absurd z (by omega)) (fun _ => ?_)
    refine rr_mm26 hi S (fun z => ?_) (fun z => ?_)
    · have ci := (hm i).mp z
      have t := hw s (fun z2 => by
        rw [rr_cnt_s0 ci] at z2
        rw [h z2]
        exact (show rr_md c m (i + 1) = rr_md c m i from if_pos ci).symm)
      rw [rr_cnt_s0 ci] at t
      exact t
    · have ci : ¬ c i = 0 := fun y => z ((hm i).mpr y)
      have mo := rr_cnt_mono c (show i + 1 ≤ 6 by omega)
      rw [rr_cnt_s1 ci] at mo
      refine ⟨by omega, fun b hb => ?_⟩
      have t := hw b (fun z2 => by
        rw [hb, show rr_md c m (i + 1) = _ from if_neg ci]
        by_cases y : rr_cnt c i = 0
        · rw [if_pos y, if_pos y]
        · rw [if_neg y, if_neg y, h y])
      rw [rr_cnt_s1 ci] at t
      exact t
theorem rr_mid0 {u : St2} (hu : u.1 = 0) (H : post 1000000 u) : wpX_middleMost post u := by
  obtain ⟨f0, a1, a2, a3, a4, a5, a6, a7, a8, a9, a10, a11, a12, a13, a14, a15⟩ := u
  unfold wpX_middleMost
  exact br_t hu H
end
end
end
section
section
variable {f0 : Int32} {a1 a2 a3 a4 a5 a6 a7 a8 a9 a10 a11 a12 a13 a14 a15 : Nat → Int32} {c : Nat → Nat} {m : Nat → Int32}
section
variable {post : St2 → Prop}
theorem rr_ext {g : Nat} (hg : g < 8) (S : rr_S c m a5 a6 a7) (h9 : ∀ j, j < 8 → j ≠ 3 → a9 j = 1000000) (h8 : ∀ j, j < 8 → a8 j = -1 ∨ ∃ k, k < 6 ∧ a8 j = nI k) (H : post (f0, a1, a2, a3, a4, a5, a6, a7, a8, a9, a10, a11, a12, a13, a14, a15)) : wpX_extend post (f0, a1, a2, a3, a4, a5, a6, a7, a8, a9, a10, a11, a12, a13, a14, a15) (nI g) := by
  unfold wpX_extend
  dsimp only
  rw [nI_clamp (show g < 2 ^ 31 by omega)]
  refine ⟨pk_in g 8 hg, ?_⟩
  by_cases e : g = 3
  · refine br_c (fun _ => H) (fun _ => ⟨pk_in g 8 hg, ?_⟩)
    rcases h8 g hg with z | ⟨k, hk, z⟩
    · rw [z]
      exact br_f (by decide) H
    · rw [z]
      refine br_t (nI_pos' (by omega)) ⟨pk_in g 8 hg, nm_r (e' := nI (k * 8)) (by rw [show (8 : Int32) = nI 8 from rfl, pk_mul]) ?_⟩
      refine pk_loop (σ := Unit) (fun n h _ => wX_extend_33 post (nI g) (nI (k * 8)) f0 n (nI h) a1 a2 a3 a4 a5 a6 a7 a8 a9 a10 a11 a12 a13 a14 a15) (fun _ _ => True) 8 0 () (by omega) trivial ?_ ?_
      · intro n _ _
        exact pk_le 8 8 (fun _ => H) (fun z => absurd z (by omega))
      · intro n h _ hh _ hw
        have t := hw () trivial
        refine pk_le 8 h (fun z => absurd z (by omega)) (fun _ => pk_eq h g (fun _ => nm_r (nI_1 h) t) (fun ne => ?_))
        rw [nI_add, nI_clamp (show k * 8 + h < 2 ^ 31 by omega)]
        refine ⟨pk_in (k * 8 + h) 48 (by omega), br_t ?_ (nm_r (nI_1 h) t)⟩
        rw [S.2.2 k h hk hh, if_neg (by omega)]
  · exact br_t (h9 g hg e) H
theorem rr_shift {x : Int32} (h10 : a10 3 = -1) (H : post (f0, a1, a2, a3, a4, a5, a6, a7, upd a8 3 x, a9, a10, a11, a12, a13, a14, a15)) : wpX_shift post (f0, a1, a2, a3, a4, a5, a6, a7, a8, a9, a10, a11, a12, a13, a14, a15) (nI 3) x := by
  unfold wpX_shift
  refine ⟨1, pk_le 8 0 (fun z => absurd z (by omega)) (fun _ => ?_)⟩
  rw [show (nI 3).toNatClampNeg = 3 from nI_clamp (by omega), h10]
  exact ⟨pk_in 3 8 (by omega), br_t (by decide) ⟨pk_in 3 8 (by omega), nm_e H⟩⟩
end
section
variable {post : Int32 → St2 → Prop}
theorem rr_pbA {x1 : Int32} (h8 : ∀ j, j < 8 → a8 j = -1) (h9 : ∀ j, j < 8 → j ≠ 3 → a9 j = 1000000) (h93 : ¬ a9 3 = 1000000) (h10 : a10 3 = -1) (H : post (a9 3) (f0, a1, a2, a3, a4, a5, a6, a7, upd a8 3 x1, a9, a10, a11, a12, a13, a14, a15)) :
    ∃ n, wX_placeBest_75 post x1 f0 a1 a2 a3 a4 a5 a6 a7 a8 a9 a10 a11 a12 a13 a14 a15 n (-1) 0 := by
  refine pk_loop (σ := Unit) (fun n g _ => wX_placeBest_75 post x1 f0 a1 a2 a3 a4 a5 a6 a7 a8 a9 a10 a11 a12 a13 a14 a15 n (if 3 < g then nI 3 else -1) (nI g)) (fun _ _ => True) 8 0 () (by omega) trivial ?_ ?_
  · intro n _ _
    refine pk_le 8 8 (fun _ => ?_) (fun z => absurd z (by omega))
    rw [if_pos (show 3 < 8 by omega)]
    refine br_t (by decide) (rr_shift h10 ⟨pk_in 3 8 (by omega), ?_⟩)
    rw [show (nI 3).toNatClampNeg = 3 from nI_clamp (by omega)]
    exact H
  · intro n g _ hg _ hw
    have t := hw () trivial
    refine pk_le 8 g (fun z => absurd z (by omega)) (fun _ => ?_)
    rw [nI_clamp (show g < 2 ^ 31 by omega), h8 g hg]
    refine ⟨pk_in g 8 hg, br_f (by decide) ⟨pk_in g 8 hg, ?_⟩⟩
    by_cases e : g = 3
    · subst e
      rw [if_pos (show 3 < 3 + 1 by omega)] at t
      rw [if_neg (show ¬ 3 < 3 by omega)]
      exact br_f h93 (br_t (by decide) (nm_r (nI_1 3) t))
    · refine br_t (h9 g hg e) (nm_r (nI_1 g) ?_)
      by_cases e2 : 3 < g
      · rw [if_pos (show 3 < g + 1 by omega)] at t
        rw [if_pos e2]
        exact t
      · rw [if_neg (show ¬ 3 < g + 1 by omega)] at t
        rw [if_neg e2]
        exact t
theorem rr_pbB {x1 : Int32} (h8 : 0 ≤ a8 3) (h9 : ∀ j, j < 8 → j ≠ 3 → a9 j = 1000000) (H : post 1000000 (f0, a1, a2, a3, a4, a5, a6, a7, a8, a9, a10, a11, a12, a13, a14, a15)) :
    ∃ n, wX_placeBest_75 post x1 f0 a1 a2 a3 a4 a5 a6 a7 a8 a9 a10 a11 a12 a13 a14 a15 n (-1) 0 := by
  refine pk_loop (σ := Unit) (fun n g _ => wX_placeBest_75 post x1 f0 a1 a2 a3 a4 a5 a6 a7 a8 a9 a10 a11 a12 a13 a14 a15 n (-1) (nI g)) (fun _ _ => True) 8 0 () (by omega) trivial ?_ ?_
  · intro n _ _
    exact pk_le 8 8 (fun _ => br_f (by decide) H) (fun z => absurd z (by omega))
  · intro n g _ hg _ hw
    have t := hw () trivial
    refine pk_le 8 g (fun z => absurd z (by omega)) (fun _ => ?_)
    rw [nI_clamp (show g < 2 ^ 31 by omega)]
    refine ⟨pk_in g 8 hg, ?_⟩
    by_cases e : g = 3
    · subst e
      exact br_t h8 (nm_r (nI_1 3) t)
    · exact br_c (fun _ => nm_r (nI_1 g) t) (fun _ => ⟨pk_in g 8 hg, br_t (h9 g hg e) (nm_r (nI_1 g) t)⟩)
theorem rr_pb40 {x1 : Int32} (S : rr_S c m a5 a6 a7) (h9 : ∀ j, j < 8 → j ≠ 3 → a9 j = 1000000) (h8 : ∀ j, j < 8 → a8 j = -1 ∨ ∃ k, k < 6 ∧ a8 j = nI k) (H : ∃ n, wX_placeBest_75 post x1 f0 a1 a2 a3 a4 a5 a6 a7 a8 a9 a10 a11 a12 a13 a14 a15 n (-1) 0) :
    ∃ n, wX_placeBest_40 post x1 n 0 f0 a1 a2 a3 a4 a5 a6 a7 a8 a9 a10 a11 a12 a13 a14 a15 := by
  refine pk_loop (σ := Unit) (fun n i _ => wX_placeBest_40 post x1 n (nI i) f0 a1 a2 a3 a4 a5 a6 a7 a8 a9 a10 a11 a12 a13 a14 a15) (fun _ _ => True) 8 0 () (by omega) trivial ?_ ?_
  · intro n _ _
    exact pk_le 8 8 (fun _ => H) (fun z => absurd z (by omega))
  · intro n i _ hi _ hw
    have t := hw () trivial
    refine pk_le 8 i (fun z => absurd z (by omega)) (fun _ => ?_)
    refine pk_loop (σ := Unit) (fun n2 g _ => wX_placeBest_48 post (wX_placeBest_40 post x1 n) x1 (nI i) n2 (nI g) f0 a1 a2 a3 a4 a5 a6 a7 a8 a9 a10 a11 a12 a13 a14 a15) (fun _ _ => True) 8 0 () (by omega) trivial ?_ ?_
    · intro n2 _ _
      exact pk_le 8 8 (fun _ => nm_r (nI_1 i) t) (fun z => absurd z (by omega))
    · intro n2 g _ hg _ hw2
      have t2 := hw2 () trivial
      exact pk_le 8 g (fun z => absurd z (by omega)) (fun _ => rr_ext hg S h9 h8 (nm_r (nI_1 g) t2))
theorem rr_pb {k : Nat} (hk : k < 6) (S : rr_S c m a5 a6 a7) (h8 : ∀ j, j < 8 → a8 j = -1 ∨ ∃ k, k < 6 ∧ a8 j = nI k)
    (H : ∀ b9 b10, (∀ j, j < 8 → j ≠ 3 → b9 j = 1000000) → b9 3 = m k → b10 3 = -1 → ∃ n, wX_placeBest_75 post (nI k) f0 a1 a2 a3 a4 a5 a6 a7 a8 b9 b10 a11 a12 a13 a14 a15 n (-1) 0) : wpX_placeBest post (f0, a1, a2, a3, a4, a5, a6, a7, a8, a9, a10, a11, a12, a13, a14, a15) (nI k) := by
  unfold wpX_placeBest
  refine pk_loop (fun n g (s : (Nat → Int32) × (Nat → Int32)) => wX_placeBest_2 post (nI k) f0 n (nI g) a1 a2 a3 a4 a5 a6 a7 a8 s.1 s.2 a11 a12 a13 a14 a15) (fun g s => ∀ j, j < g → s.1 j = (if j = 3 then m k else 1000000) ∧ s.2 j = -1) 8 0 (a9, a10) (by omega) (fun j hj => absurd hj (by omega)) ?_ ?_
  · intro n s h
    refine pk_le 8 8 (fun _ => ?_) (fun z => absurd z (by omega))
    have h9 : ∀ j, j < 8 → j ≠ 3 → s.1 j = 1000000 := fun j hj ne => by rw [(h j hj).1, if_neg ne]
    exact rr_pb40 S h9 h8 (H s.1 s.2 h9 (by rw [(h 3 (by omega)).1, if_pos rfl]) (h 3 (by omega)).2)
  · intro n g s hg h hw
    refine pk_le 8 g (fun z => absurd z (by omega)) (fun _ => ?_)
    rw [rr_ix, nI_clamp (show k * 8 + g < 2 ^ 31 by omega), nI_clamp (show g < 2 ^ 31 by omega), S.2.2 k g hk hg]
    refine ⟨pk_in (k * 8 + g) 48 (by omega), pk_in g 8 hg, nm_e ⟨pk_in g 8 hg, nm_e (nm_r (nI_1 g) (hw (upd s.1 g (if g = 3 then m k else 1000000), upd s.2 g (-1)) (fun j hj => ?_)))⟩⟩
    dsimp only
    by_cases e : j = g
    · rw [e, pk_us, pk_us]
      exact ⟨rfl, rfl⟩
    · rw [pk_un e, pk_un e]
      exact h j (by omega)
theorem rr_mix (hf : ¬ f0 = 0) (S : rr_S c m a5 a6 a7) (hc : ∀ i, c i ≤ 14) (hm : ∀ i, m i = 1000000 ↔ c i = 0)
    (H1 : rr_cnt c 6 ≤ 1 → ∀ b8 b9 b10, post (rr_mx c m 6) (f0, a1, a2, a3, a4, a5, a6, a7, b8, b9, b10, a11, a12, a13, a14, a15))
    (H2 : 1 < rr_cnt c 6 → ∀ b8 b9 b10, post 1000000 (f0, a1, a2, a3, a4, a5, a6, a7, b8, b9, b10, a11, a12, a13, a14, a15)) : wpX_mixedMost post (f0, a1, a2, a3, a4, a5, a6, a7, a8, a9, a10, a11, a12, a13, a14, a15) := by
  unfold wpX_mixedMost
  refine br_f hf ?_
  have L : ∀ b8, (∀ j, j < 8 → b8 j = -1) → ∃ n, wX_mixedMost_35 post n 0 0 f0 a1 a2 a3 a4 a5 a6 a7 b8 a9 a10 a11 a12 a13 a14 a15 := by
    intro b8 hb
    refine pk_loop (fun n i (s : (Nat → Int32) × (Nat → Int32) × (Nat → Int32)) => wX_mixedMost_35 post n (rr_mx c m i) (nI i) f0 a1 a2 a3 a4 a5 a6 a7 s.1 s.2.1 s.2.2 a11 a12 a13 a14 a15)
      (fun i s => (rr_cnt c i = 0 ∧ ∀ j, j < 8 → s.1 j = -1) ∨ (rr_cnt c i = 1 ∧ ∃ k, k < 6 ∧ s.1 3 = nI k ∧ ∀ j, j < 8 → j ≠ 3 → s.1 j = -1)) 6 0 (b8, a9, a10) (by omega) (Or.inl ⟨rfl, hb⟩) ?_ ?_
    · intro n s h
      exact pk_le 6 6 (fun _ => H1 (by omega) _ _ _) (fun z => absurd z (by omega))
    · intro n i s hi h hw
      have hci := hc i
      refine pk_le 6 i (fun z => absurd z (by omega)) (fun _ => ⟨pk_in i 6 hi, ?_⟩)
      rw [nI_clamp (show i < 2 ^ 31 by omega), S.1 i hi]
      refine pk_le (c i) 0 (fun z => nm_r (nI_1 i) ?_) (fun z => ?_)
      · have ci : c i = 0 := by omega
        have t := hw s (by rw [rr_cnt_s0 ci]; exact h)
        rw [show rr_mx c m (i + 1) = rr_mx c m i from if_pos ci] at t
        exact t
      · have ci : ¬ c i = 0 := by omega
        have mi : ¬ m i = 1000000 := fun y => ci ((hm i).mp y)
        rcases h with ⟨h0, h8⟩ | ⟨h0, k, hk, h83, h8⟩
        · refine rr_pb hi S (fun j hj => Or.inl (h8 j hj)) (fun b9 b10 g9 g93 g10 => rr_pbA h8 g9 (by rw [g93]; exact mi) g10 ?_)
          rw [g93]
          refine br_f mi (nm_e (nm_r (nI_1 i) ?_))
          have t := hw (upd s.1 3 (nI i), b9, b10) (Or.inr ⟨by rw [rr_cnt_s1 ci, h0], i, hi, (by dsimp only; exact pk_us), fun j hj ne => by dsimp only; rw [pk_un ne]; exact h8 j hj⟩)
          rw [show rr_mx c m (i + 1) = rr_mx c m i + m i from if_neg ci] at t
          exact t
        · have mo := rr_cnt_mono c (show i + 1 ≤ 6 by omega)
          rw [rr_cnt_s1 ci, h0] at mo
          refine rr_pb hi S (fun j hj => ?_) (fun b9 b10 g9 g93 g10 => rr_pbB (by rw [h83]; exact nI_pos' (by omega)) g9 ?_)
          · by_cases e : j = 3
            · exact Or.inr ⟨k, hk, by rw [e]; exact h83⟩
            · exact Or.inl (h8 j hj e)
          · exact br_t rfl (H2 (by omega) _ _ _)
  refine pk_loop (fun n i s => wX_mixedMost_12 post f0 n (nI i) a1 a2 a3 a4 a5 a6 a7 s a9 a10 a11 a12 a13 a14 a15) (fun i s => ∀ j, j < i → s j = -1) 8 0 a8 (by omega) (fun j hj => absurd hj (by omega)) ?_ ?_
  · intro n s h
    exact pk_le 8 8 (fun _ => L s h) (fun z => absurd z (by omega))
  · intro n i s hi h hw
    refine pk_le 8 i (fun z => absurd z (by omega)) (fun _ => ⟨pk_in i 8 hi, nm_e (nm_r (nI_1 i) (hw _ (fun j hj => ?_)))⟩)
    rw [nI_clamp (show i < 2 ^ 31 by omega)]
    by_cases e : j = i
    · rw [e, pk_us]
    · rw [pk_un e]
      exact h j (by omega)
theorem rr_mix0 {u : St2} (hu : u.1 = 0) (H : post 1000000 u) : wpX_mixedMost post u := by
  obtain ⟨f0, a1, a2, a3, a4, a5, a6, a7, a8, a9, a10, a11, a12, a13, a14, a15⟩ := u
  unfold wpX_mixedMost
  exact br_t hu H
end
end
end
section
theorem rr_six {k : Nat} (h : k < 6) : k = 0 ∨ k = 1 ∨ k = 2 ∨ k = 3 ∨ k = 4 ∨ k = 5 := by omega
theorem rr_min (v w : Int32) : (if v ≤ w then v else w) = if w ≤ v then w else v := by
  by_cases g : v ≤ w
  · by_cases g2 : w ≤ v
    · rw [if_pos g, if_pos g2]
      exact Int32.le_antisymm g g2
    · rw [if_pos g, if_neg g2]
  · by_cases g2 : w ≤ v
    · rw [if_neg g, if_pos g2]
    · rw [Int32.le_iff_toInt_le] at g g2
      omega
section
variable {K : Nat → Nat} {V : Nat → Int32}
theorem rr_sm1 {q : Bool} (hk : K 0 < 6) (hv : ¬ V 0 = 1000000) : rr_sm K V q 1 6 = V 0 := by
  rcases rr_six hk with e | e | e | e | e | e <;> simp [rr_sm, rr_cn, rr_cs, rr_pt, e]
theorem rr_md1 (hk : K 0 < 6) (hv : ¬ V 0 = 1000000) : rr_md (rr_cn K 1) (rr_mn K V 1) 6 = V 0 := by
  rcases rr_six hk with e | e | e | e | e | e <;> simp [rr_md, rr_cnt, rr_cn, rr_cs, rr_mn, rr_ms, e]
theorem rr_mx1 (hk : K 0 < 6) (hv : ¬ V 0 = 1000000) : rr_mx (rr_cn K 1) (rr_mn K V 1) 6 = V 0 := by
  rcases rr_six hk with e | e | e | e | e | e <;> simp [rr_mx, rr_cn, rr_cs, rr_mn, rr_ms, e]
theorem rr_rep1 : ∀ k, k < 6 → rr_rep (rr_cs (fun _ => 0) k) 6 = 1 := by decide
theorem rr_rep2 : ∀ k, k < 6 → ∀ l, l < 6 → rr_rep (rr_cs (rr_cs (fun _ => 0) k) l) 6 = if k = l then 2 else 1 := by decide
theorem rr_smE {q : Bool} (hk : K 0 < 6) (hl : K 1 = K 0) (hv : ¬ V 0 = 1000000) : rr_sm K V q 2 6 = if q then (if V 1 ≤ V 0 then V 0 else V 1) else (if V 0 ≤ V 1 then V 0 else V 1) := by
  rcases rr_six hk with e | e | e | e | e | e <;> simp [rr_sm, rr_cn, rr_cs, rr_pt, hl, e, hv]
theorem rr_mdE (hk : K 0 < 6) (hl : K 1 = K 0) (hv : ¬ V 0 = 1000000) : rr_md (rr_cn K 2) (rr_mn K V 2) 6 = if V 1 ≤ V 0 then V 0 else V 1 := by
  rcases rr_six hk with e | e | e | e | e | e <;> simp [rr_md, rr_cnt, rr_cn, rr_cs, rr_mn, rr_ms, hl, e, hv]
theorem rr_mxE (hk : K 0 < 6) (hl : K 1 = K 0) (hv : ¬ V 0 = 1000000) : rr_mx (rr_cn K 2) (rr_mn K V 2) 6 = if V 1 ≤ V 0 then V 0 else V 1 := by
  rcases rr_six hk with e | e | e | e | e | e <;> simp [rr_mx, rr_cn, rr_cs, rr_mn, rr_ms, hl, e, hv]
theorem rr_smN {q : Bool} (hk : K 0 < 6) (hl : K 1 < 6) (hn : ¬ K 0 = K 1) (hv : ¬ V 0 = 1000000) (hw : ¬ V 1 = 1000000) : rr_sm K V q 2 6 = V 0 + V 1 := by
  rcases rr_six hk with e | e | e | e | e | e <;> rcases rr_six hl with f | f | f | f | f | f <;> first
    | exact absurd (e.trans f.symm) hn
    | (simp [rr_sm, rr_cn, rr_cs, rr_pt, f, e, hv, hw]; done)
    | (simp [rr_sm, rr_cn, rr_cs, rr_pt, f, e, hv, hw]; exact Int32.add_comm _ _)
theorem rr_mdN (hk : K 0 < 6) (hl : K 1 < 6) (hn : ¬ K 0 = K 1) (hv : ¬ V 0 = 1000000) (hw : ¬ V 1 = 1000000) : rr_md (rr_cn K 2) (rr_mn K V 2) 6 = if V 1 ≤ V 0 then V 1 else V 0 := by
  have hm := rr_min (V 0) (V 1)
  rcases rr_six hk with e | e | e | e | e | e <;> rcases rr_six hl with f | f | f | f | f | f <;> first
    | exact absurd (e.trans f.symm) hn
    | (simp [rr_md, rr_cnt, rr_cn, rr_cs, rr_mn, rr_ms, f, e, hv, hw]; done)
    | (simp [rr_md, rr_cnt, rr_cn, rr_cs, rr_mn, rr_ms, f, e, hv, hw]; exact hm)
end
/-- what the last state answers -/
def rr_F (s : St2) (rho sl sm n de mu xi : Int32) : Prop :=
  (∀ p : Int32 → Prop, p rho → wpX_repairs p s) ∧ (∀ p : Int32 → Prop, p sl → wpX_sumLeast p s 3) ∧ (∀ p : Int32 → Prop, p sm → wpX_sumMost p s 3) ∧ (∀ p : Int32 → Prop, p n → wpX_countLeast p s 3) ∧ (∀ p : Int32 → Prop, p n → wpX_countMost p s 3) ∧
  (∀ p : Int32 → St2 → Prop, (∀ s2, (∀ p2 : Int32 → St2 → Prop, (∀ s3, (∀ p3 : Int32 → St2 → Prop, (∀ s4, p3 xi s4) → wpX_mixedMost p3 s3) → p2 mu s3) → wpX_middleMost p2 s2) → p de s2) → wpX_spreadLeast p s)
section
variable {a1 a2 a3 a4 a5 a6 a7 a8 a9 a10 a11 a12 a13 a14 a15 : Nat → Int32} {K : Nat → Nat} {V : Nat → Int32}
theorem rr_F0 (T : rr_T 0 K V a1 a2 a3 a4) (S : rr_S (rr_cn K 0) (rr_mn K V 0) a5 a6 a7) : rr_F (0, a1, a2, a3, a4, a5, a6, a7, a8, a9, a10, a11, a12, a13, a14, a15) 1 0 0 0 1000000 1000000 1000000 :=
  ⟨fun p hp => rr_repairs S (fun i => Nat.le_trans (rr_cn_le K 0 i) (by omega)) hp, fun p hp => rr_sumL (by omega) T S hp, fun p hp => rr_sumM (by omega) T S hp, fun p hp => rr_cntL S hp, fun p hp => rr_cntM S hp,
    fun p hp => rr_spread0 rfl (hp _ (fun p2 hp2 => rr_mid0 rfl (hp2 _ (fun p3 hp3 => rr_mix0 rfl (hp3 _)))))⟩
theorem rr_F1 (T : rr_T 1 K V a1 a2 a3 a4) (S : rr_S (rr_cn K 1) (rr_mn K V 1) a5 a6 a7) : rr_F (nI 1, a1, a2, a3, a4, a5, a6, a7, a8, a9, a10, a11, a12, a13, a14, a15) 1 (V 0) (V 0) 1 0 (V 0) (V 0) := by
  obtain ⟨hk, h1, h2⟩ := T.2.2 0 (by omega)
  have hv := rr_vn h2
  have hc : ∀ i, rr_cn K 1 i ≤ 14 := fun i => Nat.le_trans (rr_cn_le K 1 i) (by omega)
  have hm : ∀ i, (rr_mn K V 1 i = 1000000 ↔ rr_cn K 1 i = 0) := rr_cm 1 (fun i hi => (T.2.2 i hi).2.2)
  have hn : rr_cnt (rr_cn K 1) 6 = 1 := rr_cnt1 (K 0) hk
  have hf : ¬ nI 1 = 0 := by decide
  refine ⟨fun p hp => rr_repairs S hc ?_, fun p hp => rr_sumL (by omega) T S ?_, fun p hp => rr_sumM (by omega) T S ?_, fun p hp => rr_cntL S ?_, fun p hp => rr_cntM S ?_, fun p hp => rr_spread1 T S (fun b13 b14 => hp _ (fun p2 hp2 => rr_mid hf S hm (Or.inl hn) (fun b15 => ?_)))⟩
  · rw [show rr_rep (rr_cn K 1) 6 = 1 from rr_rep1 (K 0) hk]
    exact hp
  · rw [rr_sm1 hk hv]
    exact hp
  · rw [rr_sm1 hk hv]
    exact hp
  · rw [hn]
    exact hp
  · rw [hn]
    exact hp
  · rw [rr_md1 hk hv]
    refine hp2 _ (fun p3 hp3 => rr_mix hf S hc hm (fun _ b8 b9 b10 => ?_) (fun z => absurd z (by omega)))
    rw [rr_mx1 hk hv]
    exact hp3 _
theorem rr_F2 (T : rr_T 2 K V a1 a2 a3 a4) (S : rr_S (rr_cn K 2) (rr_mn K V 2) a5 a6 a7) (e : K 0 = K 1) :
    rr_F (nI 2, a1, a2, a3, a4, a5, a6, a7, a8, a9, a10, a11, a12, a13, a14, a15) 2 (if V 1 ≤ V 0 then V 1 else V 0) (if V 1 ≤ V 0 then V 0 else V 1) 1 0 (if V 1 ≤ V 0 then V 0 else V 1) (if V 1 ≤ V 0 then V 0 else V 1) := by
  obtain ⟨hk, h1, h2⟩ := T.2.2 0 (by omega)
  obtain ⟨hl, h3, h4⟩ := T.2.2 1 (by omega)
  have hv := rr_vn h2
  have hc : ∀ i, rr_cn K 2 i ≤ 14 := fun i => Nat.le_trans (rr_cn_le K 2 i) (by omega)
  have hm : ∀ i, (rr_mn K V 2 i = 1000000 ↔ rr_cn K 2 i = 0) := rr_cm 2 (fun i hi => (T.2.2 i hi).2.2)
  have hn : rr_cnt (rr_cn K 2) 6 = 1 := by
    rw [show rr_cnt (rr_cn K 2) 6 = _ from rr_cnt2 (K 0) hk (K 1) hl, if_pos e]
  have hf : ¬ nI 2 = 0 := by decide
  refine ⟨fun p hp => rr_repairs S hc ?_, fun p hp => rr_sumL (by omega) T S ?_, fun p hp => rr_sumM (by omega) T S ?_, fun p hp => rr_cntL S ?_, fun p hp => rr_cntM S ?_, fun p hp => rr_spread2 T S (fun b13 b14 => ?_)⟩
  · rw [show rr_rep (rr_cn K 2) 6 = _ from rr_rep2 (K 0) hk (K 1) hl, if_pos e]
    exact hp
  · rw [rr_smE hk e.symm hv, if_neg (by decide), rr_min]
    exact hp
  · rw [rr_smE hk e.symm hv, if_pos rfl]
    exact hp
  · rw [hn]
    exact hp
  · rw [hn]
    exact hp
  · rw [if_pos e]
    refine hp _ (fun p2 hp2 => rr_mid hf S hm (Or.inl hn) (fun b15 => ?_))
    rw [rr_mdE hk e.symm hv]
    refine hp2 _ (fun p3 hp3 => rr_mix hf S hc hm (fun _ b8 b9 b10 => ?_) (fun z => absurd z (by omega)))
    rw [rr_mxE hk e.symm hv]
    exact hp3 _
theorem rr_F3 (T : rr_T 2 K V a1 a2 a3 a4) (S : rr_S (rr_cn K 2) (rr_mn K V 2) a5 a6 a7) (e : ¬ K 0 = K 1) :
    rr_F (nI 2, a1, a2, a3, a4, a5, a6, a7, a8, a9, a10, a11, a12, a13, a14, a15) 1 (V 0 + V 1) (V 0 + V 1) 2 ((if V 1 ≤ V 0 then V 0 else V 1) - (if V 1 ≤ V 0 then V 1 else V 0)) (if V 1 ≤ V 0 then V 1 else V 0) 1000000 := by
  obtain ⟨hk, h1, h2⟩ := T.2.2 0 (by omega)
  obtain ⟨hl, h3, h4⟩ := T.2.2 1 (by omega)
  have hv := rr_vn h2
  have hw := rr_vn h4
  have hc : ∀ i, rr_cn K 2 i ≤ 14 := fun i => Nat.le_trans (rr_cn_le K 2 i) (by omega)
  have hm : ∀ i, (rr_mn K V 2 i = 1000000 ↔ rr_cn K 2 i = 0) := rr_cm 2 (fun i hi => (T.2.2 i hi).2.2)
  have hn : rr_cnt (rr_cn K 2) 6 = 2 := by
    rw [show rr_cnt (rr_cn K 2) 6 = _ from rr_cnt2 (K 0) hk (K 1) hl, if_neg e]
  have hf : ¬ nI 2 = 0 := by decide
  refine ⟨fun p hp => rr_repairs S hc ?_, fun p hp => rr_sumL (by omega) T S ?_, fun p hp => rr_sumM (by omega) T S ?_, fun p hp => rr_cntL S ?_, fun p hp => rr_cntM S ?_, fun p hp => rr_spread2 T S (fun b13 b14 => ?_)⟩
  · rw [show rr_rep (rr_cn K 2) 6 = _ from rr_rep2 (K 0) hk (K 1) hl, if_neg e]
    exact hp
  · rw [rr_smN hk hl e hv hw]
    exact hp
  · rw [rr_smN hk hl e hv hw]
    exact hp
  · rw [hn]
    exact hp
  · rw [hn]
    exact hp
  · have hd : (if K 0 = K 1 then 0 else if V 0 ≤ V 1 then V 1 - V 0 else V 0 - V 1) = (if V 1 ≤ V 0 then V 0 else V 1) - (if V 1 ≤ V 0 then V 1 else V 0) := by
      rw [if_neg e]
      by_cases g : V 0 ≤ V 1
      · by_cases g2 : V 1 ≤ V 0
        · rw [if_pos g, if_pos g2, if_pos g2, Int32.le_antisymm g g2]
        · rw [if_pos g, if_neg g2, if_neg g2]
      · by_cases g2 : V 1 ≤ V 0
        · rw [if_neg g, if_pos g2, if_pos g2]
        · rw [Int32.le_iff_toInt_le] at g g2
          omega
    rw [hd]
    refine hp _ (fun p2 hp2 => rr_mid hf S hm (Or.inr hn) (fun b15 => ?_))
    rw [rr_mdN hk hl e hv hw]
    exact hp2 _ (fun p3 hp3 => rr_mix hf S hc hm (fun z => absurd z (by omega)) (fun _ b8 b9 b10 => hp3 _))
end
end
section
section
variable {post : Int32 → St0 → Prop} {mc ms kc ks : Nat} {f0 x0 x1 x2 x3 x5 x6 x7 x8 x9 x10 x11 x12 x13 x14 x15 z0 rho sl sm nn de mu xi : Int32} {a1 a2 a3 a4 a5 a6 a7 a8 a9 a10 a11 a12 a13 a14 a15 : Nat → Int32}
theorem rr_l372 (hp : post 1 ()) (F : rr_F (f0, a1, a2, a3, a4, a5, a6, a7, a8, a9, a10, a11, a12, a13, a14, a15) rho sl sm nn de mu xi) (h1 : de = x15) (h2 : mu = z0) (h3 : xi = if x14 = 1 then x13 else 1000000) : wL_lawOf_372 post mc ms x13 x14 x15 z0 kc ks f0 a1 a2 a3 a4 a5 a6 a7 a8 a9 a10 a11 a12 a13 a14 a15 := by
  unfold wL_lawOf_372
  refine F.2.2.2.2.2 _ (fun s2 k2 => ?_)
  obtain ⟨g0, g1, g2, g3, g4, g5, g6, g7, g8, g9, g10, g11, g12, g13, g14, g15⟩ := s2
  refine br_t h1 (k2 _ (fun s3 k3 => ?_))
  obtain ⟨h0, k1, k2, k3, k4, k5, k6, k7, k8, k9, k10, k11, k12, k13, k14, k15⟩ := s3
  refine br_t h2 (k3 _ (fun s4 => ?_))
  obtain ⟨i0, i1, i2, i3, i4, i5, i6, i7, i8, i9, i10, i11, i12, i13, i14, i15⟩ := s4
  refine br_c (fun y => ?_) (fun y => ?_)
  · rw [if_pos y] at h3
    exact br_t h3 hp
  · rw [if_neg y] at h3
    exact br_t h3 hp
theorem rr_l338 (hp : post 1 ()) (F : rr_F (f0, a1, a2, a3, a4, a5, a6, a7, a8, a9, a10, a11, a12, a13, a14, a15) rho sl sm nn de mu xi) (h1 : de = z0) (h2 : mu = if x14 = 0 then 1000000 else if x8 = 0 then (if x7 = 0 then x9 else x10) else x11) (h3 : xi = if x14 = 1 then x13 else 1000000) :
    wL_lawOf_338 post mc ms x7 x8 x9 x10 x11 x13 x14 z0 kc ks f0 a1 a2 a3 a4 a5 a6 a7 a8 a9 a10 a11 a12 a13 a14 a15 := by
  unfold wL_lawOf_338
  refine br_c (fun y => rr_l372 hp F h1 ?_ h3) (fun y => br_c (fun y2 => br_c (fun y3 => rr_l372 hp F h1 ?_ h3) (fun y3 => rr_l372 hp F h1 ?_ h3)) (fun y2 => rr_l372 hp F h1 ?_ h3))
  · rw [h2, if_pos y]
  · rw [h2, if_neg y, if_pos y2, if_pos y3]
  · rw [h2, if_neg y, if_pos y2, if_neg y3]
  · rw [h2, if_neg y, if_neg y2]
theorem rr_l287 (hp : post 1 ()) (F : rr_F (f0, a1, a2, a3, a4, a5, a6, a7, a8, a9, a10, a11, a12, a13, a14, a15) rho sl sm nn de mu xi) (h0 : nn = z0) (h1 : de = if z0 = 0 then 1000000 else if z0 = 2 then x11 - x10 else 0) (h2 : mu = if z0 = 0 then 1000000 else if x8 = 0 then (if x7 = 0 then x9 else x10) else x11) (h3 : xi = if z0 = 1 then x13 else 1000000) :
    wL_lawOf_287 post mc ms x7 x8 x9 x10 x11 x13 z0 kc ks f0 a1 a2 a3 a4 a5 a6 a7 a8 a9 a10 a11 a12 a13 a14 a15 := by
  unfold wL_lawOf_287
  refine F.2.2.2.1 _ (br_t h0 (F.2.2.2.2.1 _ (br_t h0 (br_c (fun y => rr_l338 hp F ?_ h2 h3) (fun y => br_c (fun y2 => rr_l338 hp F ?_ h2 h3) (fun y2 => rr_l338 hp F ?_ h2 h3))))))
  · rw [h1, if_pos y]
  · rw [h1, if_neg y, if_pos y2]
  · rw [h1, if_neg y, if_neg y2]
theorem rr_l272 (h : ∀ z, z = (if x5 = 0 then (if x6 = 0 then 0 else 1) else 1) → wL_lawOf_287 post mc ms x7 x8 x9 x10 x11 x13 z kc ks f0 a1 a2 a3 a4 a5 a6 a7 a8 a9 a10 a11 a12 a13 a14 a15) : wL_lawOf_272 post mc ms x5 x6 x7 x8 x9 x10 x11 x13 kc ks f0 a1 a2 a3 a4 a5 a6 a7 a8 a9 a10 a11 a12 a13 a14 a15 := by
  unfold wL_lawOf_272
  exact br_c (fun y => br_c (fun y2 => h _ (by rw [if_pos y, if_pos y2])) (fun y2 => h _ (by rw [if_pos y, if_neg y2]))) (fun y => h _ (by rw [if_neg y]))
theorem rr_l231 (hp : post 1 ()) (F : rr_F (f0, a1, a2, a3, a4, a5, a6, a7, a8, a9, a10, a11, a12, a13, a14, a15) rho x12 x13 nn de mu xi) (hz : rho = z0)
    (hn : nn = if x7 = 0 then (if x5 = 0 then (if x6 = 0 then 0 else 1) else 1) else if x8 = 0 then 2 else (if x5 = 0 then (if x6 = 0 then 0 else 1) else 1))
    (h1 : de = if nn = 0 then 1000000 else if nn = 2 then x11 - x10 else 0) (h2 : mu = if nn = 0 then 1000000 else if x8 = 0 then (if x7 = 0 then x9 else x10) else x11) (h3 : xi = if nn = 1 then x13 else 1000000) :
    wL_lawOf_231 post mc ms x5 x6 x7 x8 x9 x10 x11 x12 x13 z0 rho kc ks f0 a1 a2 a3 a4 a5 a6 a7 a8 a9 a10 a11 a12 a13 a14 a15 := by
  unfold wL_lawOf_231
  have A : ∀ z, nn = z → wL_lawOf_287 post mc ms x7 x8 x9 x10 x11 x13 z kc ks f0 a1 a2 a3 a4 a5 a6 a7 a8 a9 a10 a11 a12 a13 a14 a15 := by
    intro z hz
    subst hz
    exact rr_l287 hp F rfl h1 h2 h3
  refine br_t hz (F.2.1 _ (br_t rfl (F.2.2.1 _ (br_t rfl (br_c (fun y => rr_l272 (fun z hz => A z ?_)) (fun y => br_c (fun y2 => A 2 ?_) (fun y2 => rr_l272 (fun z hz => A z ?_))))))))
  · rw [hn, if_pos y, hz]
  · rw [hn, if_neg y, if_pos y2]
  · rw [hn, if_neg y, if_neg y2, hz]
theorem rr_l214 (hp : post 1 ()) (F : rr_F (f0, a1, a2, a3, a4, a5, a6, a7, a8, a9, a10, a11, a12, a13, a14, a15) (if x8 = 0 then 1 else 2) x12 x13 nn de mu xi)
    (hn : nn = if x7 = 0 then (if x5 = 0 then (if x6 = 0 then 0 else 1) else 1) else if x8 = 0 then 2 else (if x5 = 0 then (if x6 = 0 then 0 else 1) else 1))
    (h1 : de = if nn = 0 then 1000000 else if nn = 2 then x11 - x10 else 0) (h2 : mu = if nn = 0 then 1000000 else if x8 = 0 then (if x7 = 0 then x9 else x10) else x11) (h3 : xi = if nn = 1 then x13 else 1000000) :
    wL_lawOf_214 post mc ms x5 x6 x7 x8 x9 x10 x11 x12 x13 kc ks f0 a1 a2 a3 a4 a5 a6 a7 a8 a9 a10 a11 a12 a13 a14 a15 := by
  unfold wL_lawOf_214
  refine F.1 _ (br_c (fun y => rr_l231 hp F ?_ hn h1 h2 h3) (fun y => rr_l231 hp F ?_ hn h1 h2 h3))
  · rw [if_pos y]
  · rw [if_neg y]
theorem rr_l189 (h : ∀ z, z = (if x8 = 0 then (if x7 = 0 then x9 else x2 + x3) else x11) → wL_lawOf_214 post mc ms x5 x6 x7 x8 x9 x10 x11 z0 z kc ks f0 a1 a2 a3 a4 a5 a6 a7 a8 a9 a10 a11 a12 a13 a14 a15) : wL_lawOf_189 post mc ms x2 x3 x5 x6 x7 x8 x9 x10 x11 z0 kc ks f0 a1 a2 a3 a4 a5 a6 a7 a8 a9 a10 a11 a12 a13 a14 a15 := by
  unfold wL_lawOf_189
  exact br_c (fun y => br_c (fun y2 => h _ (by rw [if_pos y, if_pos y2])) (fun y2 => h _ (by rw [if_pos y, if_neg y2]))) (fun y => h _ (by rw [if_neg y]))
theorem rr_l164 (h : ∀ z, z = (if x8 = 0 then (if x7 = 0 then x9 else x2 + x3) else x10) → wL_lawOf_189 post mc ms x2 x3 x5 x6 x7 x8 x9 x10 z0 z kc ks f0 a1 a2 a3 a4 a5 a6 a7 a8 a9 a10 a11 a12 a13 a14 a15) : wL_lawOf_164 post mc ms x2 x3 x5 x6 x7 x8 x9 x10 z0 kc ks f0 a1 a2 a3 a4 a5 a6 a7 a8 a9 a10 a11 a12 a13 a14 a15 := by
  unfold wL_lawOf_164
  exact br_c (fun y => br_c (fun y2 => h _ (by rw [if_pos y, if_pos y2])) (fun y2 => h _ (by rw [if_pos y, if_neg y2]))) (fun y => h _ (by rw [if_neg y]))
theorem rr_l152 (h : ∀ z, z = (if x3 ≤ x2 then x2 else x3) → wL_lawOf_164 post mc ms x2 x3 x5 x6 x7 x8 x9 z0 z kc ks f0 a1 a2 a3 a4 a5 a6 a7 a8 a9 a10 a11 a12 a13 a14 a15) : wL_lawOf_152 post mc ms x2 x3 x5 x6 x7 x8 x9 z0 kc ks f0 a1 a2 a3 a4 a5 a6 a7 a8 a9 a10 a11 a12 a13 a14 a15 := by
  unfold wL_lawOf_152
  exact br_c (fun y => h _ (by rw [if_pos y])) (fun y => h _ (by rw [if_neg y]))
theorem rr_l140 (h : ∀ z, z = (if x3 ≤ x2 then x3 else x2) → wL_lawOf_152 post mc ms x2 x3 x5 x6 x7 x8 z0 z kc ks f0 a1 a2 a3 a4 a5 a6 a7 a8 a9 a10 a11 a12 a13 a14 a15) : wL_lawOf_140 post mc ms x2 x3 x5 x6 x7 x8 z0 kc ks f0 a1 a2 a3 a4 a5 a6 a7 a8 a9 a10 a11 a12 a13 a14 a15 := by
  unfold wL_lawOf_140
  exact br_c (fun y => h _ (by rw [if_pos y])) (fun y => h _ (by rw [if_neg y]))
theorem rr_l119 (hp : post 1 ())
    (H : ∀ on lo hi le mo, on = (if x5 = 0 then (if x6 = 0 then 0 else x3) else x2) → lo = (if x3 ≤ x2 then x3 else x2) → hi = (if x3 ≤ x2 then x2 else x3) → le = (if x8 = 0 then (if x7 = 0 then on else x2 + x3) else lo) → mo = (if x8 = 0 then (if x7 = 0 then on else x2 + x3) else hi) →
      ∃ nn de mu xi, rr_F (f0, a1, a2, a3, a4, a5, a6, a7, a8, a9, a10, a11, a12, a13, a14, a15) (if x8 = 0 then 1 else 2) le mo nn de mu xi ∧
        (nn = if x7 = 0 then (if x5 = 0 then (if x6 = 0 then 0 else 1) else 1) else if x8 = 0 then 2 else (if x5 = 0 then (if x6 = 0 then 0 else 1) else 1)) ∧
        (de = if nn = 0 then 1000000 else if nn = 2 then hi - lo else 0) ∧ (mu = if nn = 0 then 1000000 else if x8 = 0 then (if x7 = 0 then on else lo) else hi) ∧ (xi = if nn = 1 then mo else 1000000)) :
    wL_lawOf_119 post mc ms x2 x3 x5 x6 x7 x8 kc ks f0 a1 a2 a3 a4 a5 a6 a7 a8 a9 a10 a11 a12 a13 a14 a15 := by
  have A : ∀ on, on = (if x5 = 0 then (if x6 = 0 then 0 else x3) else x2) → wL_lawOf_140 post mc ms x2 x3 x5 x6 x7 x8 on kc ks f0 a1 a2 a3 a4 a5 a6 a7 a8 a9 a10 a11 a12 a13 a14 a15 := by
    intro on hon
    refine rr_l140 (fun lo hlo => rr_l152 (fun hi hhi => rr_l164 (fun le hle => rr_l189 (fun mo hmo => ?_))))
    obtain ⟨nn, de, mu, xi, F, hn, h1, h2, h3⟩ := H on lo hi le mo hon hlo hhi hle hmo
    exact rr_l214 hp F hn h1 h2 h3
  unfold wL_lawOf_119
  exact br_c (fun y => br_c (fun y2 => A _ (by rw [if_pos y, if_pos y2])) (fun y2 => A _ (by rw [if_pos y, if_neg y2]))) (fun y => A _ (by rw [if_neg y]))
end
/-- a row that is taken, a row that isn't -/
def rr_V (p v : Int32) : Prop := ∃ k, k < 6 ∧ p = nI k ∧ ¬ v < (-1000) ∧ v ≤ 1000
def rr_N (p v : Int32) : Prop := p < 0 ∨ 5 < p ∨ v < (-1000) ∨ 1000 < v
section
variable {post : Int32 → St0 → Prop} {mc ms kc ks : Nat} {x0 x1 x2 x3 x5 z0 : Int32} {a1 a2 a3 a4 a5 a6 a7 a8 a9 a10 a11 a12 a13 a14 a15 : Nat → Int32} {K : Nat → Nat} {V : Nat → Int32}
theorem rr_l67 (hp : post 1 ()) (T : rr_T 0 K V a1 a2 a3 a4) (S : rr_S (rr_cn K 0) (rr_mn K V 0) a5 a6 a7)
    (h0 : x5 = 1 ∧ rr_V x0 x2 ∨ x5 = 0 ∧ rr_N x0 x2) (h1 : z0 = 1 ∧ rr_V x1 x3 ∨ z0 = 0 ∧ rr_N x1 x3) : wL_lawOf_67 post mc ms x0 x1 x2 x3 x5 z0 kc ks 0 a1 a2 a3 a4 a5 a6 a7 a8 a9 a10 a11 a12 a13 a14 a15 := by
  unfold wL_lawOf_67
  rcases h0 with ⟨rfl, k, hk, rfl, v1, v2⟩ | ⟨rfl, n0⟩
  · refine rr_add (r := 0) (by omega) T hk v1 v2 (fun b1 b2 b3 b4 b5 b6 b7 T1 S1 => ?_)
    rcases h1 with ⟨rfl, l, hl, rfl, w1, w2⟩ | ⟨rfl, n1⟩
    · refine rr_add (r := 1) (by omega) T1 hl w1 w2 (fun c1 c2 c3 c4 c5 c6 c7 T2 S2 => ?_)
      refine br_f (by decide) (br_f (by decide) ?_)
      unfold wL_lawOf_102
      refine br_f (by decide) (pk_eq k l (fun e => ?_) (fun e => ?_))
      · refine rr_l119 hp (fun on lo hi le mo hon hlo hhi hle hmo => ?_)
        rw [if_neg (by decide)] at hle hmo
        rw [hle, hmo, hlo, hhi, if_neg (by decide)]
        exact ⟨_, _, _, _, rr_F2 T2 S2 e, rfl, rfl, rfl, rfl⟩
      · refine rr_l119 hp (fun on lo hi le mo hon hlo hhi hle hmo => ?_)
        rw [if_pos rfl, if_neg (by decide)] at hle hmo
        rw [hle, hmo, hlo, hhi, if_pos rfl]
        exact ⟨_, _, _, _, rr_F3 T2 S2 e, rfl, rfl, rfl, rfl⟩
    · refine rr_addN n1 (fun x => ?_)
      refine br_f (by decide) (br_t rfl ?_)
      unfold wL_lawOf_101 wL_lawOf_102
      refine br_t rfl ?_
      unfold wL_lawOf_118
      refine rr_l119 hp (fun on lo hi le mo hon hlo hhi hle hmo => ?_)
      rw [if_neg (by decide)] at hon
      rw [if_pos rfl, if_pos rfl] at hle hmo
      rw [hle, hmo, hon, if_pos rfl]
      exact ⟨_, _, _, _, rr_F1 T1 S1, rfl, rfl, rfl, rfl⟩
  · refine rr_addN n0 (fun x => ?_)
    rcases h1 with ⟨rfl, l, hl, rfl, w1, w2⟩ | ⟨rfl, n1⟩
    · refine rr_add (r := 0) (by omega) T hl w1 w2 (fun b1 b2 b3 b4 b5 b6 b7 T1 S1 => ?_)
      refine br_t rfl ?_
      unfold wL_lawOf_101 wL_lawOf_102
      refine br_t rfl ?_
      unfold wL_lawOf_118
      refine rr_l119 hp (fun on lo hi le mo hon hlo hhi hle hmo => ?_)
      rw [if_pos rfl, if_neg (by decide)] at hon
      rw [if_pos rfl, if_pos rfl] at hle hmo
      rw [hle, hmo, hon, if_pos rfl]
      exact ⟨_, _, _, _, rr_F1 T1 S1, rfl, rfl, rfl, rfl⟩
    · refine rr_addN n1 (fun x2 => ?_)
      refine br_t rfl ?_
      unfold wL_lawOf_101 wL_lawOf_102
      refine br_t rfl ?_
      unfold wL_lawOf_118
      refine rr_l119 hp (fun on lo hi le mo hon hlo hhi hle hmo => ?_)
      rw [if_pos rfl, if_pos rfl] at hon
      rw [if_pos rfl, if_pos rfl] at hle hmo
      rw [hle, hmo, hon, if_pos rfl]
      exact ⟨_, _, _, _, rr_F0 T S, rfl, rfl, rfl, rfl⟩
theorem rr_mkV {p v : Int32} (h1 : ¬ p < 0) (h2 : ¬ 5 < p) (h3 : ¬ v < (-1000)) (h4 : ¬ 1000 < v) : rr_V p v := by
  obtain ⟨j, hj, e⟩ := nI_of2 (n := 5) (M := 5) (by decide) h1 (Int32.not_lt.mp h2)
  exact ⟨j, by omega, e, h3, Int32.not_lt.mp h4⟩
theorem rr_l37 (hp : post 1 ()) (T : rr_T 0 K V a1 a2 a3 a4) (S : rr_S (rr_cn K 0) (rr_mn K V 0) a5 a6 a7)
    (h0 : z0 = 1 ∧ rr_V x0 x2 ∨ z0 = 0 ∧ rr_N x0 x2) : wL_lawOf_37 post mc ms x0 x1 x2 x3 z0 kc ks 0 a1 a2 a3 a4 a5 a6 a7 a8 a9 a10 a11 a12 a13 a14 a15 := by
  have A : rr_N x1 x3 → wL_lawOf_66 post mc ms x0 x1 x2 x3 z0 kc ks 0 a1 a2 a3 a4 a5 a6 a7 a8 a9 a10 a11 a12 a13 a14 a15 := by
    intro h
    unfold wL_lawOf_66
    exact rr_l67 hp T S h0 (Or.inr ⟨rfl, h⟩)
  unfold wL_lawOf_37
  exact br_c (fun y => A (Or.inl y)) (fun y1 => br_c (fun y => A (Or.inr (Or.inl y))) (fun y2 => br_c (fun y => A (Or.inr (Or.inr (Or.inl y)))) (fun y3 => br_c (fun y => A (Or.inr (Or.inr (Or.inr y)))) (fun y4 => rr_l67 hp T S h0 (Or.inl ⟨rfl, rr_mkV y1 y2 y3 y4⟩)))))
end
theorem rr_lawOf {post : Int32 → St0 → Prop} {p0 p1 p2 p3 : Int32} (hp : post 1 ()) : wpL_lawOf post 16 198 () p0 p1 p2 p3 := by
  unfold wpL_lawOf
  refine ⟨by omega, by omega, 15, 182, by omega, by omega, rr_init (K := fun _ => 0) (V := fun _ => 0) (fun a1 a2 a3 a4 a5 a6 a7 a8 a9 a10 a11 a12 a13 a14 a15 T S => ?_)⟩
  have A : rr_N p0 p2 → wL_lawOf_36 post 16 198 p0 p1 p2 p3 (1 + 15) (16 + 182) 0 a1 a2 a3 a4 a5 a6 a7 a8 a9 a10 a11 a12 a13 a14 a15 := by
    intro h
    unfold wL_lawOf_36
    exact rr_l37 hp T S (Or.inr ⟨rfl, h⟩)
  exact br_c (fun y => A (Or.inl y)) (fun y1 => br_c (fun y => A (Or.inr (Or.inl y))) (fun y2 => br_c (fun y => A (Or.inr (Or.inr (Or.inl y)))) (fun y3 => br_c (fun y => A (Or.inr (Or.inr (Or.inr y)))) (fun y4 => rr_l37 hp T S (Or.inl ⟨rfl, rr_mkV y1 y2 y3 y4⟩)))))
theorem rr_cell {post : Int32 → Prop} {L : Nat} {xs : Nat → Int32} (hL : L ≤ 4) (j : Nat) (hj : j < 4) (H : ∀ x, post x) : wpL_cellAt post L xs () (nI j) := by
  unfold wpL_cellAt
  exact pk_le L j (fun _ => H _) (fun z => ⟨pk_in j L z, H _⟩)
theorem i_vc (xs : Nat → Int32) (L : Nat) (hL : L ≤ 4) : wpL_law (fun r => r = 1) L xs := by
  unfold wpL_law
  exact rr_cell hL 0 (by omega) (fun k => rr_cell hL 1 (by omega) (fun l => rr_cell hL 2 (by omega) (fun v => rr_cell hL 3 (by omega) (fun w => ⟨16, 198, by omega, by omega, rr_lawOf rfl⟩))))
end
