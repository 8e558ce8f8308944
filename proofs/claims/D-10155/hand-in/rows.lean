section
abbrev mc_M : Type := Nat × (Nat → Int32) × Nat × Nat × (Nat → Int32)
abbrev mc_X : Type := (Nat → Int32) × Nat × (Nat → Int32)
abbrev en_E : Type := (Fin 6 → Int32) × Nat × (Nat → Int32)
def mc_cmp (o p q : Int32) : Int32 :=
  if o = 2 then p + q else if o = 3 then p - q else if o = 4 then p * q else if o = 5 then p ^^^ q else if q ≤ p then 0 else 1
def mc_sg (i t j : Nat) : Nat := if j < i then j else if j < t then j + 1 else if j = t then i else j
def mc_pl {α : Type} (f : Nat → α) (i t : Nat) : Nat → α := fun j => f (mc_sg i t j)
def mc_pr (s : Nat × (Nat → Int32)) (v : Int32) : Nat × (Nat → Int32) :=
  (s.1 + 1, if s.1 < 64 then upd s.2 s.1 v else s.2)
def ly_u (L : Nat → Nat) (k x : Nat) : Nat → Nat := fun j => if j = k then x else L j
def ly_I : Nat → Nat := fun j => j
theorem ly_us {L : Nat → Nat} {k x : Nat} : ly_u L k x k = x := by simp [ly_u]
theorem ly_un {L : Nat → Nat} {k x j : Nat} (h : j ≠ k) : ly_u L k x j = L j := by simp [ly_u, h]
theorem mc_sg_lt {i t d j : Nat} (hd : t + 1 = d) (hi : i < d) (hj : j < d) : mc_sg i t j < d := by
  unfold mc_sg
  split
  · omega
  · split
    · omega
    · split <;> omega
theorem mc_sg_inj {i t d j k : Nat} (hd : t + 1 = d) (hi : i < d) (hj : j < d) (hk : k < d) (h : mc_sg i t j = mc_sg i t k) : j = k := by
  unfold mc_sg at h
  split at h <;> split at h <;> (try split at h) <;> (try split at h) <;> (try split at h) <;> omega
theorem mc_sg_onto {i t d j : Nat} (hd : t + 1 = d) (hi : i < d) (hj : j < d) : ∃ k, k < d ∧ mc_sg i t k = j := by
  by_cases h1 : j < i
  · exact ⟨j, hj, by unfold mc_sg; rw [if_pos h1]⟩
  · by_cases h2 : j = i
    · refine ⟨t, by omega, ?_⟩
      unfold mc_sg
      rw [if_neg (by omega), if_neg (by omega), if_pos rfl, h2]
    · refine ⟨j - 1, by omega, ?_⟩
      unfold mc_sg
      rw [if_neg (by omega), if_pos (by omega)]
      omega
def mc_S (o n : Int32) (c : Nat) (st : Nat → Int32) (d : Nat) (s : Nat × (Nat → Int32)) (m' : mc_M) : Prop :=
  (∃ k, o = nI k ∧ 2 ≤ k ∧ k ≤ 6 ∧ 2 ≤ d ∧ d ≤ 16 ∧ m' = (c + 1, upd st (d - 2) (mc_cmp o (st (d - 2)) (st (d - 1))), d - 1, s))
  ∨ (o = 0 ∧ d < 16 ∧ m' = (c + 1, upd st d n, d + 1, s))
  ∨ (∃ i, o = 1 ∧ i < d ∧ d < 16 ∧ n = nI (d - 1 - i) ∧ m' = (c + 1, upd st d (st i), d + 1, s))
  ∨ (∃ i, o = 7 ∧ i < d ∧ d ≤ 16 ∧ n = nI (d - 1 - i) ∧ m' = (c + 1, mc_pl st i (d - 1), d, s))
  ∨ (∃ k, o = 11 ∧ k ≤ 560 ∧ n = nI k ∧ m' = (k, st, d, s))
  ∨ (o = 8 ∧ 1 ≤ d ∧ d ≤ 16 ∧ m' = (c + 1, st, d - 1, s))
  ∨ (o = 9 ∧ 1 ≤ d ∧ d ≤ 16 ∧ m' = (c + 1, st, d - 1, mc_pr s (st (d - 1))))
  ∨ (∃ k, o = 10 ∧ 1 ≤ d ∧ d ≤ 16 ∧ k ≤ 560 ∧ n = nI k ∧ m' = (if 0 < st (d - 1) then c + 1 else k, st, d - 1, s))
theorem mc_S_ar {n : Int32} {c : Nat} {st : Nat → Int32} {d : Nat} {s : Nat × (Nat → Int32)} (k : Nat) (h1 : 2 ≤ k) (h2 : k ≤ 6) (h3 : 2 ≤ d) (h4 : d ≤ 16) :
    mc_S (nI k) n c st d s (c + 1, upd st (d - 2) (mc_cmp (nI k) (st (d - 2)) (st (d - 1))), d - 1, s) :=
  Or.inl ⟨k, rfl, h1, h2, h3, h4, rfl⟩
theorem mc_S_pu {n : Int32} {c : Nat} {st : Nat → Int32} {d : Nat} {s : Nat × (Nat → Int32)} (h : d < 16) :
    mc_S 0 n c st d s (c + 1, upd st d n, d + 1, s) := Or.inr (Or.inl ⟨rfl, h, rfl⟩)
theorem mc_S_du {c : Nat} {st : Nat → Int32} {d : Nat} {s : Nat × (Nat → Int32)} (i : Nat) (hi : i < d) (h : d < 16) :
    mc_S 1 (nI (d - 1 - i)) c st d s (c + 1, upd st d (st i), d + 1, s) := Or.inr (Or.inr (Or.inl ⟨i, rfl, hi, h, rfl, rfl⟩))
theorem mc_S_pl {c : Nat} {st : Nat → Int32} {d : Nat} {s : Nat × (Nat → Int32)} (i : Nat) (hi : i < d) (h : d ≤ 16) :
    mc_S 7 (nI (d - 1 - i)) c st d s (c + 1, mc_pl st i (d - 1), d, s) := Or.inr (Or.inr (Or.inr (Or.inl ⟨i, rfl, hi, h, rfl, rfl⟩)))
theorem mc_S_jm {c : Nat} {st : Nat → Int32} {d : Nat} {s : Nat × (Nat → Int32)} (k : Nat) (h : k ≤ 560) :
    mc_S 11 (nI k) c st d s (k, st, d, s) := Or.inr (Or.inr (Or.inr (Or.inr (Or.inl ⟨k, rfl, h, rfl, rfl⟩))))
theorem mc_S_dr {n : Int32} {c : Nat} {st : Nat → Int32} {d : Nat} {s : Nat × (Nat → Int32)} (h1 : 1 ≤ d) (h : d ≤ 16) :
    mc_S 8 n c st d s (c + 1, st, d - 1, s) := Or.inr (Or.inr (Or.inr (Or.inr (Or.inr (Or.inl ⟨rfl, h1, h, rfl⟩)))))
theorem mc_S_ou {n : Int32} {c : Nat} {st : Nat → Int32} {d : Nat} {s : Nat × (Nat → Int32)} (h1 : 1 ≤ d) (h : d ≤ 16) :
    mc_S 9 n c st d s (c + 1, st, d - 1, mc_pr s (st (d - 1))) := Or.inr (Or.inr (Or.inr (Or.inr (Or.inr (Or.inr (Or.inl ⟨rfl, h1, h, rfl⟩))))))
theorem mc_S_jp {c : Nat} {st : Nat → Int32} {d : Nat} {s : Nat × (Nat → Int32)} (k : Nat) (hk : k ≤ 560) (h1 : 1 ≤ d) (h : d ≤ 16) :
    mc_S 10 (nI k) c st d s (if 0 < st (d - 1) then c + 1 else k, st, d - 1, s) := Or.inr (Or.inr (Or.inr (Or.inr (Or.inr (Or.inr (Or.inr ⟨k, rfl, h1, h, hk, rfl, rfl⟩))))))
def mc_R (a6 a7 : Nat → Int32) (p q : Nat) : Nat → mc_M → mc_M → Prop
  | 0, m, m' => m = m'
  | t + 1, m, m' => p ≤ m.1 ∧ m.1 < q ∧ ∃ m1, mc_S (a6 m.1) (a7 m.1) m.1 m.2.1 m.2.2.1 m.2.2.2 m1 ∧ mc_R a6 a7 p q t m1 m'
theorem mc_tr {a6 a7 : Nat → Int32} {p q : Nat} : ∀ {t t' : Nat} {m m1 m2 : mc_M}, mc_R a6 a7 p q t m m1 → mc_R a6 a7 p q t' m1 m2 → mc_R a6 a7 p q (t + t') m m2 := by
  intro t
  induction t with
  | zero =>
    intro t' m m1 m2 h h'
    have e : m = m1 := h
    rw [e, Nat.zero_add]
    exact h'
  | succ t ih =>
    intro t' m m1 m2 h h'
    obtain ⟨h1, h2, m3, h3, h4⟩ := h
    rw [Nat.succ_add]
    exact ⟨h1, h2, m3, h3, ih h4 h'⟩
theorem mc_wd {a6 a7 : Nat → Int32} {p q p' q' : Nat} (hp : p' ≤ p) (hq : q ≤ q') : ∀ {t : Nat} {m m' : mc_M}, mc_R a6 a7 p q t m m' → mc_R a6 a7 p' q' t m m' := by
  intro t
  induction t with
  | zero => intro m m' h; exact h
  | succ t ih =>
    intro m m' h
    obtain ⟨h1, h2, m3, h3, h4⟩ := h
    exact ⟨by omega, by omega, m3, h3, ih h4⟩
theorem mc_cg {a6 a7 b6 b7 : Nat → Int32} {p q : Nat} (hc : ∀ j, p ≤ j → j < q → b6 j = a6 j ∧ b7 j = a7 j) : ∀ {t : Nat} {m m' : mc_M}, mc_R a6 a7 p q t m m' → mc_R b6 b7 p q t m m' := by
  intro t
  induction t with
  | zero => intro m m' h; exact h
  | succ t ih =>
    intro m m' h
    obtain ⟨h1, h2, m3, h3, h4⟩ := h
    refine ⟨h1, h2, m3, ?_, ih h4⟩
    rw [(hc m.1 h1 h2).1, (hc m.1 h1 h2).2]
    exact h3
theorem mc_1 {a6 a7 : Nat → Int32} {p q c : Nat} {st : Nat → Int32} {d : Nat} {s : Nat × (Nat → Int32)} {m' : mc_M} {o n : Int32} (h1 : p ≤ c) (h2 : c < q) (ho : a6 c = o) (hn : a7 c = n) (h : mc_S o n c st d s m') :
    mc_R a6 a7 p q 1 (c, st, d, s) m' := by
  subst ho hn
  exact ⟨h1, h2, m', h, rfl⟩
def sg_G (a6 a7 : Nat → Int32) (p q T : Nat) (L : Nat → Nat) (d : Nat) (L' : Nat → Nat) (d' : Nat) (g : mc_X → mc_X) : Prop :=
  ∀ (x : mc_X) (st : Nat → Int32), (∀ j, j < d → st j = x.1 (L j)) → ∃ t st', t ≤ T ∧ mc_R a6 a7 p q t (p, st, d, x.2) (q, st', d', (g x).2) ∧ ∀ j, j < d' → st' j = (g x).1 (L' j)
theorem sg_id {a6 a7 : Nat → Int32} {p : Nat} {L : Nat → Nat} {d : Nat} : sg_G a6 a7 p p 0 L d L d (fun x => x) :=
  fun x st h => ⟨0, st, Nat.le_refl 0, rfl, h⟩
theorem sg_cg {a6 a7 b6 b7 : Nat → Int32} {p q T d d' : Nat} {L L' : Nat → Nat} {g : mc_X → mc_X} (hc : ∀ j, p ≤ j → j < q → b6 j = a6 j ∧ b7 j = a7 j) (h : sg_G a6 a7 p q T L d L' d' g) : sg_G b6 b7 p q T L d L' d' g := by
  intro x st hm
  obtain ⟨t, st', h1, h2, h3⟩ := h x st hm
  exact ⟨t, st', h1, mc_cg hc h2, h3⟩
theorem sg_T {a6 a7 : Nat → Int32} {p q T T' d d' : Nat} {L L' : Nat → Nat} {g : mc_X → mc_X} (hT : T ≤ T') (h : sg_G a6 a7 p q T L d L' d' g) : sg_G a6 a7 p q T' L d L' d' g := by
  intro x st hm
  obtain ⟨t, st', h1, h2, h3⟩ := h x st hm
  exact ⟨t, st', by omega, h2, h3⟩
theorem sg_tr {a6 a7 : Nat → Int32} {p q r T T' d d' d'' : Nat} {L L' L'' : Nat → Nat} {g k : mc_X → mc_X} (hp : p ≤ q) (hq : q ≤ r) (h : sg_G a6 a7 p q T L d L' d' g) (h' : sg_G a6 a7 q r T' L' d' L'' d'' k) : sg_G a6 a7 p r (T + T') L d L'' d'' (fun x => k (g x)) := by
  intro x st hm
  obtain ⟨t, st', h1, h2, h3⟩ := h x st hm
  obtain ⟨t', st'', h4, h5, h6⟩ := h' (g x) st' h3
  exact ⟨t + t', st'', by omega, mc_tr (mc_wd (Nat.le_refl p) hq h2) (mc_wd hp (Nat.le_refl r) h5), h6⟩
theorem sg_L {a6 a7 : Nat → Int32} {p q T d d' : Nat} {L L' L'' : Nat → Nat} {g k : mc_X → mc_X} (h : sg_G a6 a7 p q T L d L' d' g) (h1 : ∀ x j, j < d' → (g x).1 (L' j) = (k x).1 (L'' j)) (h2 : ∀ x, (g x).2 = (k x).2) : sg_G a6 a7 p q T L d L'' d' k := by
  intro x st hm
  obtain ⟨t, st', e1, e2, e3⟩ := h x st hm
  refine ⟨t, st', e1, ?_, fun j hj => ?_⟩
  · rw [← h2 x]
    exact e2
  · rw [e3 j hj]
    exact h1 x j hj
theorem sg_em {a6 a7 : Nat → Int32} {p c T d d' d'' : Nat} {L L' L'' : Nat → Nat} {g k : mc_X → mc_X} {o n : Int32} (h : sg_G a6 a7 p c T L d L' d' g) (hp : p ≤ c)
    (hs : ∀ (x : mc_X) (st : Nat → Int32), (∀ j, j < d' → st j = x.1 (L' j)) → ∃ st', mc_S o n c st d' x.2 (c + 1, st', d'', (k x).2) ∧ ∀ j, j < d'' → st' j = (k x).1 (L'' j)) :
    sg_G (upd a6 c o) (upd a7 c n) p (c + 1) (T + 1) L d L'' d'' (fun x => k (g x)) := by
  refine sg_tr (q := c) (L' := L') (d' := d') (g := g) (k := k) hp (by omega) (sg_cg (fun j h1 h2 => ⟨pk_un (by omega), pk_un (by omega)⟩) h) ?_
  intro x st hm
  obtain ⟨st', h1, h2⟩ := hs x st hm
  exact ⟨1, st', Nat.le_refl 1, mc_1 (Nat.le_refl c) (by omega) pk_us pk_us h1, h2⟩
theorem sg_push {a6 a7 : Nat → Int32} {p c T d d' : Nat} {L L' : Nat → Nat} {g : mc_X → mc_X} {n : Int32} (nm : Nat) (h : sg_G a6 a7 p c T L d L' d' g) (hp : p ≤ c) (hd : d' < 16) (hn : ∀ j, j < d' → L' j ≠ nm) :
    sg_G (upd a6 c 0) (upd a7 c n) p (c + 1) (T + 1) L d (ly_u L' d' nm) (d' + 1) (fun x => (upd (g x).1 nm n, (g x).2)) := by
  refine sg_em (k := fun x => (upd x.1 nm n, x.2)) h hp (fun x st hm => ⟨_, mc_S_pu hd, fun j hj => ?_⟩)
  by_cases e : j = d'
  · rw [e, pk_us, ly_us]
    exact pk_us.symm
  · rw [pk_un e, ly_un e, hm j (by omega)]
    exact (pk_un (hn j (by omega))).symm
theorem sg_dup {a6 a7 : Nat → Int32} {p c T d d' : Nat} {L L' : Nat → Nat} {g : mc_X → mc_X} (nm i : Nat) (h : sg_G a6 a7 p c T L d L' d' g) (hp : p ≤ c) (hd : d' < 16) (hi : i < d') (hn : ∀ j, j < d' → L' j ≠ nm) :
    sg_G (upd a6 c 1) (upd a7 c (nI (d' - 1 - i))) p (c + 1) (T + 1) L d (ly_u L' d' nm) (d' + 1) (fun x => (upd (g x).1 nm ((g x).1 (L' i)), (g x).2)) := by
  refine sg_em (k := fun x => (upd x.1 nm (x.1 (L' i)), x.2)) h hp (fun x st hm => ⟨_, mc_S_du i hi hd, fun j hj => ?_⟩)
  by_cases e : j = d'
  · rw [e, pk_us, ly_us, hm i hi]
    exact pk_us.symm
  · rw [pk_un e, ly_un e, hm j (by omega)]
    exact (pk_un (hn j (by omega))).symm
theorem sg_pull {a6 a7 : Nat → Int32} {p c T d d' : Nat} {L L' : Nat → Nat} {g : mc_X → mc_X} (i : Nat) (h : sg_G a6 a7 p c T L d L' d' g) (hp : p ≤ c) (hd : d' ≤ 16) (hi : i < d') :
    sg_G (upd a6 c 7) (upd a7 c (nI (d' - 1 - i))) p (c + 1) (T + 1) L d (mc_pl L' i (d' - 1)) d' g := by
  refine sg_em (k := fun x => x) h hp (fun x st hm => ⟨_, mc_S_pl i hi hd, fun j hj => ?_⟩)
  exact hm _ (mc_sg_lt (by omega) hi hj)
theorem sg_ar {a6 a7 : Nat → Int32} {p c T d d' : Nat} {L L' : Nat → Nat} {g : mc_X → mc_X} {n : Int32} (k r1 r2 : Nat) (h : sg_G a6 a7 p c T L d L' d' g) (hp : p ≤ c) (hk : 2 ≤ k) (hk' : k ≤ 6) (hd : d' ≤ 16) (h2 : 2 ≤ d') (e1 : L' (d' - 2) = r1) (e2 : L' (d' - 1) = r2) (hn : ∀ j, j < d' - 2 → L' j ≠ r1) :
    sg_G (upd a6 c (nI k)) (upd a7 c n) p (c + 1) (T + 1) L d L' (d' - 1) (fun x => (upd (g x).1 r1 (mc_cmp (nI k) ((g x).1 r1) ((g x).1 r2)), (g x).2)) := by
  refine sg_em (k := fun x => (upd x.1 r1 (mc_cmp (nI k) (x.1 r1) (x.1 r2)), x.2)) h hp (fun x st hm => ⟨_, mc_S_ar k hk hk' h2 hd, fun j hj => ?_⟩)
  by_cases e : j = d' - 2
  · rw [e, pk_us, hm _ (by omega), hm _ (by omega), e1, e2]
    exact pk_us.symm
  · rw [pk_un e, hm j (by omega)]
    exact (pk_un (hn j (by omega))).symm
theorem sg_drop {a6 a7 : Nat → Int32} {p c T d d' : Nat} {L L' : Nat → Nat} {g : mc_X → mc_X} {n : Int32} (h : sg_G a6 a7 p c T L d L' d' g) (hp : p ≤ c) (hd : d' ≤ 16) (h1 : 1 ≤ d') :
    sg_G (upd a6 c 8) (upd a7 c n) p (c + 1) (T + 1) L d L' (d' - 1) g := by
  refine sg_em (k := fun x => x) h hp (fun x st hm => ⟨_, mc_S_dr h1 hd, fun j hj => hm j (by omega)⟩)
theorem sg_out {a6 a7 : Nat → Int32} {p c T d d' : Nat} {L L' : Nat → Nat} {g : mc_X → mc_X} {n : Int32} (h : sg_G a6 a7 p c T L d L' d' g) (hp : p ≤ c) (hd : d' ≤ 16) (h1 : 1 ≤ d') :
    sg_G (upd a6 c 9) (upd a7 c n) p (c + 1) (T + 1) L d L' (d' - 1) (fun x => ((g x).1, mc_pr (g x).2 ((g x).1 (L' (d' - 1))))) := by
  refine sg_em (k := fun x => (x.1, mc_pr x.2 (x.1 (L' (d' - 1))))) h hp (fun x st hm => ⟨st, ?_, fun j hj => hm j (by omega)⟩)
  have e := hm (d' - 1) (by omega)
  show mc_S 9 n c st d' x.2 (c + 1, st, d' - 1, mc_pr x.2 (x.1 (L' (d' - 1))))
  rw [← e]
  exact mc_S_ou h1 hd
def en_rs (v : Nat → Int32) : Fin 6 → Int32 := fun i => v i.val
def en_mx (r : Fin 6 → Int32) (v : Nat → Int32) : Nat → Int32 := fun j => if h : j < 6 then r ⟨j, h⟩ else v j
def en_lf (F : en_E → en_E) (x : mc_X) : mc_X := (en_mx (F (en_rs x.1, x.2)).1 x.1, (F (en_rs x.1, x.2)).2)
def en_g (r : Fin 6 → Int32) (v : Nat) : Int32 := if h : v < 6 then r ⟨v, h⟩ else 0
def en_s (r : Fin 6 → Int32) (v : Nat) (z : Int32) : Fin 6 → Int32 := fun i => if i.val = v then z else r i
theorem en_rs_mx (r : Fin 6 → Int32) (v : Nat → Int32) : en_rs (en_mx r v) = r := by
  funext i
  unfold en_rs en_mx
  rw [dif_pos i.isLt]
theorem en_mx_rs (v : Nat → Int32) : en_mx (en_rs v) v = v := by
  funext j
  unfold en_rs en_mx
  split <;> rfl
theorem en_mx_mx (r s : Fin 6 → Int32) (v : Nat → Int32) : en_mx r (en_mx s v) = en_mx r v := by
  funext j
  unfold en_mx
  split <;> rfl
theorem en_mx_lo {r : Fin 6 → Int32} {v : Nat → Int32} {j : Nat} (h : j < 6) : en_mx r v j = en_g r j := by
  unfold en_mx en_g
  rw [dif_pos h, dif_pos h]
theorem en_mx_hi {r : Fin 6 → Int32} {v : Nat → Int32} {j : Nat} (h : 6 ≤ j) : en_mx r v j = v j := by
  unfold en_mx
  rw [dif_neg (by omega)]
theorem en_g_rs {v : Nat → Int32} {j : Nat} (h : j < 6) : en_g (en_rs v) j = v j := by
  unfold en_g en_rs
  rw [dif_pos h]
theorem en_mx_s {v : Nat → Int32} {j : Nat} {z : Int32} (h : j < 6) : en_mx (en_s (en_rs v) j z) v = upd v j z := by
  funext i
  unfold en_mx en_s en_rs upd
  by_cases e : i < 6
  · rw [dif_pos e]
  · rw [dif_neg e, if_neg (by omega)]
theorem en_rs_hi {v : Nat → Int32} {j : Nat} {z : Int32} (h : 6 ≤ j) : en_rs (upd v j z) = en_rs v := by
  funext i
  unfold en_rs
  exact pk_un (by have := i.isLt; omega)
theorem en_lf_cp (F G : en_E → en_E) (x : mc_X) : en_lf F (en_lf G x) = en_lf (fun e => F (G e)) x := by
  unfold en_lf
  dsimp only
  rw [en_rs_mx, en_mx_mx]
theorem en_lf_id (x : mc_X) : en_lf (fun e => e) x = x := by
  unfold en_lf
  dsimp only
  rw [en_mx_rs]
def en_if (v : Nat) (F G : en_E → en_E) : en_E → en_E := fun e => if 0 < en_g e.1 v then F e else G e
def en_it (F : en_E → en_E) : Nat → en_E → en_E
  | 0, e => e
  | k + 1, e => en_it F k (F e)
end
section
theorem bk_if2 {a6 a7 : Nat → Int32} {h j q T1 T2 l v : Nat} {F G : en_E → en_E} (hl : l ≤ 3) (hv : v < 6) (hq : q ≤ 560) (hj : h + 2 ≤ j) (hjq : j + 1 ≤ q)
    (c0 : a6 h = 1) (n0 : a7 h = nI (5 + l - v)) (c1 : a6 (h + 1) = 10) (n1 : a7 (h + 1) = nI (j + 1)) (c2 : a6 j = 11) (n2 : a7 j = nI q)
    (h1 : sg_G a6 a7 (h + 2) j T1 ly_I (6 + l) ly_I (6 + l) (en_lf F)) (h2 : sg_G a6 a7 (j + 1) q T2 ly_I (6 + l) ly_I (6 + l) (en_lf G)) :
    sg_G a6 a7 h q (T1 + T2 + 3) ly_I (6 + l) ly_I (6 + l) (en_lf (en_if v F G)) := by
  intro x st hm
  have s1 : mc_R a6 a7 h q 1 (h, st, 6 + l, x.2) (h + 1, upd st (6 + l) (st v), 6 + l + 1, x.2) :=
    mc_1 (Nat.le_refl h) (by omega) c0 (n0.trans (by rw [show 5 + l - v = 6 + l - 1 - v by omega])) (mc_S_du v (by omega) (by omega))
  have s2 : mc_R a6 a7 h q 1 (h + 1, upd st (6 + l) (st v), 6 + l + 1, x.2) (if 0 < upd st (6 + l) (st v) (6 + l + 1 - 1) then h + 1 + 1 else j + 1, upd st (6 + l) (st v), 6 + l + 1 - 1, x.2) :=
    mc_1 (by omega) (by omega) c1 n1 (mc_S_jp (j + 1) (by omega) (by omega) (by omega))
  rw [show 6 + l + 1 - 1 = 6 + l by omega, pk_us, hm v (by omega)] at s2
  have hm' : ∀ i, i < 6 + l → upd st (6 + l) (st v) i = x.1 (ly_I i) := fun i hi => by rw [pk_un (by omega), hm i hi]
  have ev : x.1 (ly_I v) = en_g (en_rs x.1) v := (en_g_rs hv).symm
  rw [ev] at s2
  by_cases c : 0 < en_g (en_rs x.1) v
  · rw [if_pos c] at s2
    obtain ⟨t, st', e1, e2, e3⟩ := h1 x _ hm'
    have s3 : mc_R a6 a7 h q 1 (j, st', 6 + l, (en_lf F x).2) (q, st', 6 + l, (en_lf F x).2) := mc_1 (by omega) (by omega) c2 n2 (mc_S_jm q hq)
    have ef : en_lf (en_if v F G) x = en_lf F x := by
      unfold en_lf en_if
      dsimp only
      rw [if_pos c]
    rw [ef]
    rw [hm v (by omega), ev] at s1
    rw [hm v (by omega), ev] at e2
    exact ⟨1 + 1 + t + 1, st', by omega, mc_tr (mc_tr (mc_tr s1 s2) (mc_wd (by omega) (by omega) e2)) s3, e3⟩
  · rw [if_neg c] at s2
    obtain ⟨t, st', e1, e2, e3⟩ := h2 x _ hm'
    have ef : en_lf (en_if v F G) x = en_lf G x := by
      unfold en_lf en_if
      dsimp only
      rw [if_neg c]
    rw [ef]
    rw [hm v (by omega), ev] at s1
    rw [hm v (by omega), ev] at e2
    exact ⟨1 + 1 + t, st', by omega, mc_tr (mc_tr s1 s2) (mc_wd (by omega) (by omega) e2), e3⟩
theorem bk_if1 {a6 a7 : Nat → Int32} {h q T1 l v : Nat} {F : en_E → en_E} (hl : l ≤ 3) (hv : v < 6) (hq : q ≤ 560) (hj : h + 2 ≤ q)
    (c0 : a6 h = 1) (n0 : a7 h = nI (5 + l - v)) (c1 : a6 (h + 1) = 10) (n1 : a7 (h + 1) = nI q)
    (h1 : sg_G a6 a7 (h + 2) q T1 ly_I (6 + l) ly_I (6 + l) (en_lf F)) :
    sg_G a6 a7 h q (T1 + 2) ly_I (6 + l) ly_I (6 + l) (en_lf (en_if v F (fun e => e))) := by
  intro x st hm
  have s1 : mc_R a6 a7 h q 1 (h, st, 6 + l, x.2) (h + 1, upd st (6 + l) (st v), 6 + l + 1, x.2) :=
    mc_1 (Nat.le_refl h) (by omega) c0 (n0.trans (by rw [show 5 + l - v = 6 + l - 1 - v by omega])) (mc_S_du v (by omega) (by omega))
  have s2 : mc_R a6 a7 h q 1 (h + 1, upd st (6 + l) (st v), 6 + l + 1, x.2) (if 0 < upd st (6 + l) (st v) (6 + l + 1 - 1) then h + 1 + 1 else q, upd st (6 + l) (st v), 6 + l + 1 - 1, x.2) :=
    mc_1 (by omega) (by omega) c1 n1 (mc_S_jp q (by omega) (by omega) (by omega))
  rw [show 6 + l + 1 - 1 = 6 + l by omega, pk_us, hm v (by omega)] at s2
  have hm' : ∀ i, i < 6 + l → upd st (6 + l) (st v) i = x.1 (ly_I i) := fun i hi => by rw [pk_un (by omega), hm i hi]
  have ev : x.1 (ly_I v) = en_g (en_rs x.1) v := (en_g_rs hv).symm
  rw [ev] at s2
  rw [hm v (by omega), ev] at s1
  by_cases c : 0 < en_g (en_rs x.1) v
  · rw [if_pos c] at s2
    obtain ⟨t, st', e1, e2, e3⟩ := h1 x _ hm'
    have ef : en_lf (en_if v F (fun e => e)) x = en_lf F x := by
      unfold en_lf en_if
      dsimp only
      rw [if_pos c]
    rw [ef]
    rw [hm v (by omega), ev] at e2
    exact ⟨1 + 1 + t, st', by omega, mc_tr (mc_tr s1 s2) (mc_wd (by omega) (by omega) e2), e3⟩
  · rw [if_neg c] at s2
    have ef : en_lf (en_if v F (fun e => e)) x = en_lf (fun e => e) x := by
      unfold en_lf en_if
      dsimp only
      rw [if_neg c]
    rw [ef, en_lf_id]
    rw [hm v (by omega), ev] at hm'
    exact ⟨1 + 1, _, by omega, mc_tr s1 s2, hm'⟩
theorem bk_lp {a6 a7 : Nat → Int32} {h j T l : Nat} {F : en_E → en_E} (hl : l ≤ 3) (hq : j + 4 ≤ 560) (hj : h + 3 ≤ j)
    (c1 : a6 (h + 1) = 1) (n1 : a7 (h + 1) = 0) (c2 : a6 (h + 2) = 10) (n2 : a7 (h + 2) = nI (j + 3))
    (d0 : a6 j = 0) (m0 : a7 j = -1) (d1 : a6 (j + 1) = 2) (d2 : a6 (j + 2) = 11) (m2 : a7 (j + 2) = nI (h + 1)) (d3 : a6 (j + 3) = 8)
    (hb : sg_G a6 a7 (h + 3) j T ly_I (6 + (l + 1)) ly_I (6 + (l + 1)) (en_lf F)) :
    ∀ (k : Nat) (x : mc_X) (st : Nat → Int32), k < 100 → (∀ i, i < 6 + l → st i = x.1 i) → st (6 + l) = nI k →
      ∃ t st', t ≤ 3 + k * (T + 5) ∧ mc_R a6 a7 h (j + 4) t (h + 1, st, 6 + (l + 1), x.2) (j + 4, st', 6 + l, (en_lf (en_it F k) x).2) ∧ ∀ i, i < 6 + l → st' i = (en_lf (en_it F k) x).1 i := by
  intro k
  induction k with
  | zero =>
    intro x st hk hm hc
    have s1 : mc_R a6 a7 h (j + 4) 1 (h + 1, st, 6 + (l + 1), x.2) (h + 1 + 1, upd st (6 + (l + 1)) (st (6 + l)), 6 + (l + 1) + 1, x.2) :=
      mc_1 (by omega) (by omega) c1 (n1.trans (by rw [show (0 : Int32) = nI 0 from rfl, show 6 + (l + 1) - 1 - (6 + l) = 0 by omega])) (mc_S_du (6 + l) (by omega) (by omega))
    have s2 : mc_R a6 a7 h (j + 4) 1 (h + 2, upd st (6 + (l + 1)) (st (6 + l)), 6 + (l + 1) + 1, x.2) (if 0 < upd st (6 + (l + 1)) (st (6 + l)) (6 + (l + 1) + 1 - 1) then h + 2 + 1 else j + 3, upd st (6 + (l + 1)) (st (6 + l)), 6 + (l + 1) + 1 - 1, x.2) :=
      mc_1 (by omega) (by omega) c2 n2 (mc_S_jp (j + 3) (by omega) (by omega) (by omega))
    rw [show 6 + (l + 1) + 1 - 1 = 6 + (l + 1) by omega, pk_us, hc, if_neg (by decide)] at s2
    have s3 : mc_R a6 a7 h (j + 4) 1 (j + 3, upd st (6 + (l + 1)) (nI 0), 6 + (l + 1), x.2) (j + 3 + 1, upd st (6 + (l + 1)) (nI 0), 6 + (l + 1) - 1, x.2) :=
      mc_1 (by omega) (by omega) d3 rfl (mc_S_dr (by omega) (by omega))
    rw [show 6 + (l + 1) - 1 = 6 + l by omega] at s3
    rw [hc] at s1
    have e0 : en_lf (en_it F 0) x = x := en_lf_id x
    rw [e0]
    refine ⟨1 + 1 + 1, _, by omega, mc_tr (mc_tr s1 s2) s3, fun i hi => ?_⟩
    rw [pk_un (by omega), hm i hi]
  | succ k ih =>
    intro x st hk hm hc
    have s1 : mc_R a6 a7 h (j + 4) 1 (h + 1, st, 6 + (l + 1), x.2) (h + 1 + 1, upd st (6 + (l + 1)) (st (6 + l)), 6 + (l + 1) + 1, x.2) :=
      mc_1 (by omega) (by omega) c1 (n1.trans (by rw [show (0 : Int32) = nI 0 from rfl, show 6 + (l + 1) - 1 - (6 + l) = 0 by omega])) (mc_S_du (6 + l) (by omega) (by omega))
    have s2 : mc_R a6 a7 h (j + 4) 1 (h + 2, upd st (6 + (l + 1)) (st (6 + l)), 6 + (l + 1) + 1, x.2) (if 0 < upd st (6 + (l + 1)) (st (6 + l)) (6 + (l + 1) + 1 - 1) then h + 2 + 1 else j + 3, upd st (6 + (l + 1)) (st (6 + l)), 6 + (l + 1) + 1 - 1, x.2) :=
      mc_1 (by omega) (by omega) c2 n2 (mc_S_jp (j + 3) (by omega) (by omega) (by omega))
    have hpos : (0 : Int32) < nI (k + 1) := nI_lt (a := 0) (by omega) (by omega)
    rw [show 6 + (l + 1) + 1 - 1 = 6 + (l + 1) by omega, pk_us, hc, if_pos hpos] at s2
    rw [hc] at s1
    have hm1 : ∀ i, i < 6 + (l + 1) → upd st (6 + (l + 1)) (nI (k + 1)) i = ((upd x.1 (6 + l) (nI (k + 1)), x.2) : mc_X).1 (ly_I i) := by
      intro i hi
      rw [pk_un (by omega)]
      show st i = upd x.1 (6 + l) (nI (k + 1)) i
      by_cases e : i = 6 + l
      · rw [e, hc, pk_us]
      · rw [pk_un e, hm i (by omega)]
    obtain ⟨t, st1, e1, e2, e3⟩ := hb (upd x.1 (6 + l) (nI (k + 1)), x.2) _ hm1
    have ex : ∀ i, i < 6 + (l + 1) → (en_lf F (upd x.1 (6 + l) (nI (k + 1)), x.2)).1 i = if i = 6 + l then nI (k + 1) else (en_lf F x).1 i := by
      intro i hi
      unfold en_lf
      dsimp only
      rw [en_rs_hi (by omega)]
      by_cases e : i = 6 + l
      · rw [if_pos e, e, en_mx_hi (by omega), pk_us]
      · rw [if_neg e]
        by_cases e' : i < 6
        · rw [en_mx_lo e', en_mx_lo e']
        · rw [en_mx_hi (by omega), en_mx_hi (by omega), pk_un e]
    have ex2 : (en_lf F (upd x.1 (6 + l) (nI (k + 1)), x.2)).2 = (en_lf F x).2 := by
      unfold en_lf
      dsimp only
      rw [en_rs_hi (by omega)]
    rw [ex2] at e2
    have f1 : st1 (6 + l) = nI (k + 1) := by
      rw [e3 _ (by omega)]
      show (en_lf F (upd x.1 (6 + l) (nI (k + 1)), x.2)).1 (6 + l) = _
      rw [ex _ (by omega), if_pos rfl]
    have f2 : ∀ i, i < 6 + l → st1 i = (en_lf F x).1 i := by
      intro i hi
      rw [e3 _ (by omega)]
      show (en_lf F (upd x.1 (6 + l) (nI (k + 1)), x.2)).1 i = _
      rw [ex _ (by omega), if_neg (by omega)]
    have s3 : mc_R a6 a7 h (j + 4) 1 (j, st1, 6 + (l + 1), (en_lf F x).2) (j + 1, upd st1 (6 + (l + 1)) (-1), 6 + (l + 1) + 1, (en_lf F x).2) :=
      mc_1 (by omega) (by omega) d0 m0 (mc_S_pu (by omega))
    have s4 : mc_R a6 a7 h (j + 4) 1 (j + 1, upd st1 (6 + (l + 1)) (-1), 6 + (l + 1) + 1, (en_lf F x).2) (j + 1 + 1, upd (upd st1 (6 + (l + 1)) (-1)) (6 + (l + 1) + 1 - 2) (mc_cmp (nI 2) (upd st1 (6 + (l + 1)) (-1) (6 + (l + 1) + 1 - 2)) (upd st1 (6 + (l + 1)) (-1) (6 + (l + 1) + 1 - 1))), 6 + (l + 1) + 1 - 1, (en_lf F x).2) :=
      mc_1 (by omega) (by omega) d1 rfl (mc_S_ar 2 (by omega) (by omega) (by omega) (by omega))
    rw [show 6 + (l + 1) + 1 - 2 = 6 + l by omega, show 6 + (l + 1) + 1 - 1 = 6 + (l + 1) by omega, pk_us, pk_un (show 6 + l ≠ 6 + (l + 1) by omega), f1] at s4
    have s5 : mc_R a6 a7 h (j + 4) 1 (j + 2, upd (upd st1 (6 + (l + 1)) (-1)) (6 + l) (mc_cmp (nI 2) (nI (k + 1)) (-1)), 6 + (l + 1), (en_lf F x).2) (h + 1, upd (upd st1 (6 + (l + 1)) (-1)) (6 + l) (mc_cmp (nI 2) (nI (k + 1)) (-1)), 6 + (l + 1), (en_lf F x).2) :=
      mc_1 (by omega) (by omega) d2 m2 (mc_S_jm (h + 1) (by omega))
    have ec : mc_cmp (nI 2) (nI (k + 1)) (-1) = nI k := by
      unfold mc_cmp
      rw [if_pos (show nI 2 = 2 from rfl)]
      exact pk_m1 k
    rw [ec] at s4 s5
    obtain ⟨t2, st2, g1, g2, g3⟩ := ih (en_lf F x) (upd (upd st1 (6 + (l + 1)) (-1)) (6 + l) (nI k)) (by omega) (fun i hi => by rw [pk_un (by omega), pk_un (by omega), f2 i hi]) pk_us
    have ei : en_lf (en_it F k) (en_lf F x) = en_lf (en_it F (k + 1)) x := en_lf_cp _ _ _
    rw [ei] at g2 g3
    refine ⟨1 + 1 + t + 1 + 1 + 1 + t2, st2, ?_, mc_tr (mc_tr (mc_tr (mc_tr (mc_tr (mc_tr s1 s2) (mc_wd (by omega) (by omega) e2)) s3) s4) s5) g2, g3⟩
    have : (k + 1) * (T + 5) = k * (T + 5) + (T + 5) := Nat.succ_mul k (T + 5)
    omega
theorem bk_loop {a6 a7 : Nat → Int32} {h j T l v : Nat} {F : en_E → en_E} (hl : l ≤ 3) (hv : v < 6) (hq : j + 4 ≤ 560) (hj : h + 3 ≤ j)
    (c0 : a6 h = 0) (n0 : a7 h = nI v) (c1 : a6 (h + 1) = 1) (n1 : a7 (h + 1) = 0) (c2 : a6 (h + 2) = 10) (n2 : a7 (h + 2) = nI (j + 3))
    (d0 : a6 j = 0) (m0 : a7 j = -1) (d1 : a6 (j + 1) = 2) (d2 : a6 (j + 2) = 11) (m2 : a7 (j + 2) = nI (h + 1)) (d3 : a6 (j + 3) = 8)
    (hb : sg_G a6 a7 (h + 3) j T ly_I (6 + (l + 1)) ly_I (6 + (l + 1)) (en_lf F)) :
    sg_G a6 a7 h (j + 4) (5 * T + 29) ly_I (6 + l) ly_I (6 + l) (en_lf (en_it F v)) := by
  intro x st hm
  have s1 : mc_R a6 a7 h (j + 4) 1 (h, st, 6 + l, x.2) (h + 1, upd st (6 + l) (nI v), 6 + l + 1, x.2) :=
    mc_1 (Nat.le_refl h) (by omega) c0 n0 (mc_S_pu (by omega))
  obtain ⟨t, st', e1, e2, e3⟩ := bk_lp hl hq hj c1 n1 c2 n2 d0 m0 d1 d2 m2 d3 hb v x (upd st (6 + l) (nI v)) (by omega) (fun i hi => by rw [pk_un (by omega), hm i hi]; rfl) pk_us
  refine ⟨1 + t, st', ?_, mc_tr s1 e2, e3⟩
  have : v * (T + 5) ≤ 5 * (T + 5) := Nat.mul_le_mul_right _ (by omega)
  omega
end
section
abbrev so_P : Type := Nat → Nat × Nat × Nat × Nat × Int32
def so_k (P : so_P) (i : Nat) : Nat := (P i).1
def so_x (P : so_P) (i : Nat) : Nat := (P i).2.1
def so_y (P : so_P) (i : Nat) : Nat := (P i).2.2.1
def so_z (P : so_P) (i : Nat) : Nat := (P i).2.2.2.1
def so_w (P : so_P) (i : Nat) : Int32 := (P i).2.2.2.2
def so_R (P : so_P) (n : Nat) (a1 a2 a3 a4 : Nat → Int32) : Prop :=
  ∀ i, i < n → a1 i = nI (so_k P i) ∧ so_k P i ≤ 11 ∧ so_x P i < 6 ∧ so_y P i < 6 ∧ so_z P i < 6 ∧
    (so_k P i = 0 → a3 i = nI (so_x P i) ∧ a2 i = so_w P i) ∧
    (so_k P i ≠ 0 → so_k P i ≠ 9 → so_k P i ≠ 11 → a2 i = nI (so_x P i)) ∧
    (1 ≤ so_k P i → so_k P i ≤ 6 → a3 i = nI (so_y P i)) ∧
    (2 ≤ so_k P i → so_k P i ≤ 6 → a4 i = nI (so_z P i))
def so_rd (P : so_P) (i v : Nat) : Prop :=
  (so_k P i = 7 ∧ so_x P i = v) ∨ (so_k P i = 1 ∧ so_y P i = v) ∨ (2 ≤ so_k P i ∧ so_k P i ≤ 6 ∧ (so_y P i = v ∨ so_z P i = v))
def so_NW (P : so_P) (n i v : Nat) : Prop :=
  ∃ q, i ≤ q ∧ q < n ∧ so_k P q ≤ 6 ∧ so_x P q = v ∧ ∀ j, i ≤ j → j ≤ q → so_k P j ≤ 7 ∧ ¬ so_rd P j v
theorem so_NW_in {P : so_P} {n i v : Nat} (h : so_NW P n i v) : i < n ∧ so_k P i ≤ 7 ∧ ¬ so_rd P i v := by
  obtain ⟨q, h1, h2, h3, h4, h5⟩ := h
  exact ⟨by omega, h5 i (Nat.le_refl i) h1⟩
theorem so_NW_nx {P : so_P} {n i v : Nat} (h : so_NW P n i v) (hw : ¬ (so_k P i ≤ 6 ∧ so_x P i = v)) : so_NW P n (i + 1) v := by
  obtain ⟨q, h1, h2, h3, h4, h5⟩ := h
  refine ⟨q, ?_, h2, h3, h4, fun j e1 e2 => h5 j (by omega) e2⟩
  rcases Nat.lt_or_ge i q with z | z
  · exact z
  · have e : q = i := by omega
    subst e
    exact absurd ⟨h3, h4⟩ hw
def st_F (k x y z : Nat) (w : Int32) : en_E → en_E := fun e =>
  if k = 7 then (e.1, mc_pr e.2 (en_g e.1 x))
  else if k = 0 then (en_s e.1 x w, e.2)
  else if k = 1 then (en_s e.1 x (en_g e.1 y), e.2)
  else (en_s e.1 x (mc_cmp (nI k) (en_g e.1 y) (en_g e.1 z)), e.2)
abbrev se_f : Type := Nat × Nat × (en_E → en_E) × (en_E → en_E)
def se_B (f : se_f) : en_E → en_E :=
  if f.1 = 10 then en_it f.2.2.1 f.2.1 else if f.1 = 8 then en_if f.2.1 f.2.2.1 (fun e => e) else en_if f.2.1 f.2.2.2 f.2.2.1
def se_S (k x y z : Nat) (w : Int32) (fs : List se_f) : Option (List se_f) :=
  match fs with
  | [] => none
  | f :: r =>
    if k ≤ 7 then some ((f.1, f.2.1, (fun e => st_F k x y z w (f.2.2.1 e)), f.2.2.2) :: r)
    else if k = 8 ∨ k = 10 then (if r.length = 3 then none else some ((k, x, (fun e => e), (fun e => e)) :: f :: r))
    else if k = 9 then (if f.1 = 8 then some ((9, f.2.1, (fun e => e), f.2.2.1) :: r) else none)
    else (match r with
      | [] => none
      | f2 :: r2 => some ((f2.1, f2.2.1, (fun e => se_B f (f2.2.2.1 e)), f2.2.2.2) :: r2))
def se_F (P : so_P) : Nat → Option (List se_f)
  | 0 => some [(0, 0, (fun e => e), (fun e => e))]
  | i + 1 => match se_F P i with
    | none => none
    | some fs => se_S (so_k P i) (so_x P i) (so_y P i) (so_z P i) (so_w P i) fs
theorem se_F_s {P : so_P} {i : Nat} {fs : List se_f} (h : se_F P i = some fs) : se_F P (i + 1) = se_S (so_k P i) (so_x P i) (so_y P i) (so_z P i) (so_w P i) fs := by
  show (match se_F P i with
    | none => none
    | some fs => se_S (so_k P i) (so_x P i) (so_y P i) (so_z P i) (so_w P i) fs) = _
  rw [h]
theorem se_F_n {P : so_P} {i : Nat} (h : se_F P i = none) : se_F P (i + 1) = none := by
  show (match se_F P i with
    | none => none
    | some fs => se_S (so_k P i) (so_x P i) (so_y P i) (so_z P i) (so_w P i) fs) = _
  rw [h]
theorem se_F_nn {P : so_P} {i : Nat} (h : se_F P i = none) : ∀ k, se_F P (i + k) = none := by
  intro k
  induction k with
  | zero => exact h
  | succ k ih => exact se_F_n ih
theorem se_F_no {P : so_P} {i n : Nat} (h : se_F P i = none) (hi : i ≤ n) : se_F P n = none := by
  have := se_F_nn h (n - i)
  rwa [show i + (n - i) = n by omega] at this
theorem se_F_so {P : so_P} {i n : Nat} {fs : List se_f} (h : se_F P n = some fs) (hi : i ≤ n) : ∃ gs, se_F P i = some gs := by
  cases e : se_F P i with
  | none => rw [se_F_no e hi] at h; exact absurd h (by simp)
  | some gs => exact ⟨gs, rfl⟩
theorem se_F_cg {P P' : so_P} : ∀ {n : Nat}, (∀ i, i < n → P' i = P i) → se_F P' n = se_F P n := by
  intro n
  induction n with
  | zero => intro _; rfl
  | succ n ih =>
    intro h
    have e := ih (fun i hi => h i (by omega))
    have e2 := h n (by omega)
    show (match se_F P' n with
      | none => none
      | some fs => se_S (so_k P' n) (so_x P' n) (so_y P' n) (so_z P' n) (so_w P' n) fs) = (match se_F P n with
      | none => none
      | some fs => se_S (so_k P n) (so_x P n) (so_y P n) (so_z P n) (so_w P n) fs)
    rw [e]
    unfold so_k so_x so_y so_z so_w
    rw [e2]
theorem se_S_1 {k x y z : Nat} {w : Int32} {f : se_f} {r : List se_f} (h : k ≤ 7) : se_S k x y z w (f :: r) = some ((f.1, f.2.1, (fun e => st_F k x y z w (f.2.2.1 e)), f.2.2.2) :: r) := by
  unfold se_S
  dsimp only
  rw [if_pos h]
theorem se_S_2 {k x y z : Nat} {w : Int32} {f : se_f} {r : List se_f} (h : k = 8 ∨ k = 10) : se_S k x y z w (f :: r) = if r.length = 3 then none else some ((k, x, (fun e => e), (fun e => e)) :: f :: r) := by
  unfold se_S
  dsimp only
  rw [if_neg (by omega), if_pos h]
theorem se_S_3 {x y z : Nat} {w : Int32} {f : se_f} {r : List se_f} : se_S 9 x y z w (f :: r) = if f.1 = 8 then some ((9, f.2.1, (fun e => e), f.2.2.1) :: r) else none := by
  unfold se_S
  dsimp only
  rw [if_neg (by omega), if_neg (by omega), if_pos rfl]
theorem se_S_4 {x y z : Nat} {w : Int32} {f : se_f} : se_S 11 x y z w [f] = none := by
  unfold se_S
  dsimp only
  rw [if_neg (by omega), if_neg (by omega), if_neg (by omega)]
theorem se_S_5 {x y z : Nat} {w : Int32} {f f2 : se_f} {r : List se_f} : se_S 11 x y z w (f :: f2 :: r) = some ((f2.1, f2.2.1, (fun e => se_B f (f2.2.2.1 e)), f2.2.2.2) :: r) := by
  unfold se_S
  dsimp only
  rw [if_neg (by omega), if_neg (by omega), if_neg (by omega)]
theorem se_S_len {k x y z : Nat} {w : Int32} {fs gs : List se_f} (h : se_S k x y z w fs = some gs) (hl : fs.length ≤ 4) : gs ≠ [] ∧ gs.length ≤ 4 := by
  unfold se_S at h
  split at h
  · exact absurd h (by simp)
  · rename_i f r
    have hl' : r.length + 1 ≤ 4 := hl
    split at h
    · injection h with h
      subst h
      exact ⟨by simp, hl'⟩
    · split at h
      · split at h
        · exact absurd h (by simp)
        · injection h with h
          subst h
          refine ⟨by simp, ?_⟩
          show r.length + 1 + 1 ≤ 4
          omega
      · split at h
        · split at h
          · injection h with h
            subst h
            exact ⟨by simp, hl'⟩
          · exact absurd h (by simp)
        · split at h
          · exact absurd h (by simp)
          · rename_i f2 r2
            injection h with h
            subst h
            refine ⟨by simp, ?_⟩
            have hl2 : r2.length + 1 + 1 ≤ 4 := hl'
            show r2.length + 1 ≤ 4
            omega
theorem se_F_len {P : so_P} : ∀ {i : Nat} {fs : List se_f}, se_F P i = some fs → fs ≠ [] ∧ fs.length ≤ 4 := by
  intro i
  induction i with
  | zero =>
    intro fs h
    have h' : some [((0, 0, (fun e => e), (fun e => e)) : se_f)] = some fs := h
    injection h' with h'
    subst h'
    exact ⟨by simp, by simp⟩
  | succ i ih =>
    intro fs h
    cases e : se_F P i with
    | none => rw [se_F_n e] at h; exact absurd h (by simp)
    | some gs =>
      rw [se_F_s e] at h
      exact se_S_len h (ih e).2
theorem st_F_cp {v : Nat} {w : Int32} (hv : v < 6) (e : en_E) : st_F 1 v v 0 w e = e := by
  unfold st_F
  rw [if_neg (by omega), if_neg (by omega), if_pos rfl]
  have : en_s e.1 v (en_g e.1 v) = e.1 := by
    funext i
    unfold en_s en_g
    rw [dif_pos hv]
    split
    · rename_i h
      have e2 : (⟨v, hv⟩ : Fin 6) = i := Fin.ext h.symm
      rw [e2]
    · rfl
  rw [this]
theorem se_F_cp {P P' : so_P} {n v : Nat} (hv : v < 6) (hP : ∀ i, i < n → P' i = P i) (hn : P' n = (1, v, v, 0, 0)) : se_F P' (n + 1) = se_F P n := by
  cases e : se_F P n with
  | none => exact se_F_n ((se_F_cg hP).trans e)
  | some fs =>
    rw [se_F_s ((se_F_cg hP).trans e)]
    unfold so_k so_x so_y so_z so_w
    rw [hn]
    dsimp only
    obtain ⟨h1, h2⟩ := se_F_len e
    cases fs with
    | nil => exact absurd rfl h1
    | cons f r =>
      rw [se_S_1 (by omega)]
      have : (fun e => st_F 1 v v 0 0 (f.2.2.1 e)) = f.2.2.1 := by
        funext e
        exact st_F_cp hv _
      rw [this]
end
section
def fr_K (r : Nat) : Nat := if r = 0 then 1875 else if r = 1 then 375 else if r = 2 then 75 else 15
def fr_H (a6 a7 a9 a10 : Nat → Int32) (k v : Nat) (G : en_E → en_E) (r s l i0 : Nat) (Q : Nat → Nat → Nat → Prop) : Prop :=
  (k = 0 ∧ r = 0 ∧ s = 0 ∧ l = 0)
  ∨ (k = 8 ∧ 1 ≤ r ∧ ∃ h i1, i1 + 1 ≤ i0 ∧ s = h + 2 ∧ v < 6 ∧ a6 h = 1 ∧ a7 h = nI (5 + l - v) ∧ a6 (h + 1) = 10 ∧ a9 (r - 1) = 8 ∧ a10 (r - 1) = nI (h + 1) ∧ Q h l i1)
  ∨ (k = 9 ∧ 1 ≤ r ∧ ∃ h i1 j m1, i1 + m1 + 2 ≤ i0 ∧ s = j + 1 ∧ h + 2 ≤ j ∧ v < 6 ∧ a6 h = 1 ∧ a7 h = nI (5 + l - v) ∧ a6 (h + 1) = 10 ∧ a7 (h + 1) = nI (j + 1) ∧ a6 j = 11 ∧ sg_G a6 a7 (h + 2) j (fr_K r * m1 + 9) ly_I (6 + l) ly_I (6 + l) (en_lf G) ∧ a9 (r - 1) = 8 ∧ a10 (r - 1) = nI j ∧ Q h l i1)
  ∨ (k = 10 ∧ 1 ≤ r ∧ ∃ h i1 l1, l = l1 + 1 ∧ i1 + 1 ≤ i0 ∧ s = h + 3 ∧ v < 6 ∧ a6 h = 0 ∧ a7 h = nI v ∧ a6 (h + 1) = 1 ∧ a7 (h + 1) = 0 ∧ a6 (h + 2) = 10 ∧ a9 (r - 1) = 10 ∧ a10 (r - 1) = nI (h + 2) ∧ Q h l1 i1)
def fr_P (a6 a7 a9 a10 : Nat → Int32) : List se_f → Nat → Nat → (Nat → Nat) → Nat → Nat → Nat → Prop
  | [], _, _, _, _, _, _ => False
  | f :: rest, c, e, L, d, l, i => ∃ s m i0, s ≤ c ∧ m + i0 ≤ i ∧ sg_G a6 a7 s c (fr_K rest.length * m + e) ly_I (6 + l) L d (en_lf f.2.2.1) ∧
      fr_H a6 a7 a9 a10 f.1 f.2.1 f.2.2.2 rest.length s l i0 (fun h l1 i1 => fr_P a6 a7 a9 a10 rest h 9 ly_I (6 + l1) l1 i1)
theorem fr_H_ext {a6 a7 a9 a10 b6 b7 b9 b10 : Nat → Int32} {k v : Nat} {G : en_E → en_E} {r s l i0 : Nat} {Q Q' : Nat → Nat → Nat → Prop}
    (hc : ∀ j, j < s → b6 j = a6 j ∧ b7 j = a7 j) (h9 : ∀ j, j < r → b9 j = a9 j ∧ b10 j = a10 j) (hQ : ∀ h l1 i1, h < s → Q h l1 i1 → Q' h l1 i1)
    (h : fr_H a6 a7 a9 a10 k v G r s l i0 Q) : fr_H b6 b7 b9 b10 k v G r s l i0 Q' := by
  rcases h with h | h | h | h
  · exact Or.inl h
  · obtain ⟨e0, e1, h, i1, e2, e3, e4, e5, e6, e7, e8, e9, e10⟩ := h
    refine Or.inr (Or.inl ⟨e0, e1, h, i1, e2, e3, e4, ?_, ?_, ?_, ?_, ?_, hQ h l i1 (by omega) e10⟩)
    · rw [(hc h (by omega)).1, e5]
    · rw [(hc h (by omega)).2, e6]
    · rw [(hc (h + 1) (by omega)).1, e7]
    · rw [(h9 (r - 1) (by omega)).1, e8]
    · rw [(h9 (r - 1) (by omega)).2, e9]
  · obtain ⟨e0, e1, h, i1, j, m1, e2, e3, e3', e4, e5, e6, e7, e7', e11, e12, e8, e9, e10⟩ := h
    refine Or.inr (Or.inr (Or.inl ⟨e0, e1, h, i1, j, m1, e2, e3, e3', e4, ?_, ?_, ?_, ?_, ?_, ?_, ?_, ?_, hQ h l i1 (by omega) e10⟩))
    · rw [(hc h (by omega)).1, e5]
    · rw [(hc h (by omega)).2, e6]
    · rw [(hc (h + 1) (by omega)).1, e7]
    · rw [(hc (h + 1) (by omega)).2, e7']
    · rw [(hc j (by omega)).1, e11]
    · exact sg_cg (fun j' h1 h2 => hc j' (by omega)) e12
    · rw [(h9 (r - 1) (by omega)).1, e8]
    · rw [(h9 (r - 1) (by omega)).2, e9]
  · obtain ⟨e0, e1, h, i1, l1, e1', e2, e3, e4, e5, e6, e7, e7', e7'', e8, e9, e10⟩ := h
    refine Or.inr (Or.inr (Or.inr ⟨e0, e1, h, i1, l1, e1', e2, e3, e4, ?_, ?_, ?_, ?_, ?_, ?_, ?_, hQ h l1 i1 (by omega) e10⟩))
    · rw [(hc h (by omega)).1, e5]
    · rw [(hc h (by omega)).2, e6]
    · rw [(hc (h + 1) (by omega)).1, e7]
    · rw [(hc (h + 1) (by omega)).2, e7']
    · rw [(hc (h + 2) (by omega)).1, e7'']
    · rw [(h9 (r - 1) (by omega)).1, e8]
    · rw [(h9 (r - 1) (by omega)).2, e9]
theorem fr_ext {a6 a7 a9 a10 b6 b7 b9 b10 : Nat → Int32} : ∀ {fs : List se_f} {c e : Nat} {L : Nat → Nat} {d l i : Nat},
    (∀ j, j < c → b6 j = a6 j ∧ b7 j = a7 j) → (∀ j, j + 1 < fs.length → b9 j = a9 j ∧ b10 j = a10 j) →
    fr_P a6 a7 a9 a10 fs c e L d l i → fr_P b6 b7 b9 b10 fs c e L d l i := by
  intro fs
  induction fs with
  | nil => intro c e L d l i _ _ h; exact h
  | cons f rest ih =>
    intro c e L d l i hc h9 h
    have h9' : ∀ j, j < rest.length → b9 j = a9 j ∧ b10 j = a10 j := fun j hj => h9 j (by show j + 1 < rest.length + 1; omega)
    obtain ⟨s, m, i0, e1, e2, e3, e4⟩ := h
    exact ⟨s, m, i0, e1, e2, sg_cg (fun j h1 h2 => hc j h2) e3, fr_H_ext (fun j hj => hc j (by omega)) h9' (fun h l1 i1 hh q => ih (fun j hj => hc j (by omega)) (fun j hj => h9' j (by omega)) q) e4⟩
theorem fr_l {a6 a7 a9 a10 : Nat → Int32} : ∀ {fs : List se_f} {c e : Nat} {L : Nat → Nat} {d l i : Nat},
    fr_P a6 a7 a9 a10 fs c e L d l i → l + 1 ≤ fs.length := by
  intro fs
  induction fs with
  | nil => intro c e L d l i h; exact h.elim
  | cons f rest ih =>
    intro c e L d l i h
    obtain ⟨s, m, i0, e1, e2, e3, e4⟩ := h
    show l + 1 ≤ rest.length + 1
    rcases e4 with h | h | h | h
    · omega
    · obtain ⟨e0, e1, h, i1, e2, e3, e4, e5, e6, e7, e8, e9, e10⟩ := h
      have := ih e10
      omega
    · obtain ⟨e0, e1, h, i1, j, m1, e2, e3, e3', e4, e5, e6, e7, e7', e11, e12, e8, e9, e10⟩ := h
      have := ih e10
      omega
    · obtain ⟨e0, e1, h, i1, l1, e1', e2, e3, e4, e5, e6, e7, e7', e7'', e8, e9, e10⟩ := h
      have := ih e10
      omega
theorem fr_0 {a6 a7 a9 a10 : Nat → Int32} : fr_P a6 a7 a9 a10 [(0, 0, (fun e => e), (fun e => e))] 0 0 ly_I 6 0 0 :=
  ⟨0, 0, 0, Nat.le_refl 0, Nat.le_refl 0, sg_L (g := fun x => x) (L' := ly_I) (sg_T (Nat.zero_le _) sg_id) (fun x j hj => by rw [en_lf_id]) (fun x => by rw [en_lf_id]), Or.inl ⟨rfl, rfl, rfl, rfl⟩⟩
theorem fr_map {a6 a7 a9 a10 b6 b7 : Nat → Int32} {k v : Nat} {F F' G : en_E → en_E} {rest : List se_f} {c e c' e' : Nat} {L L' : Nat → Nat} {d d' l i x i' : Nat}
    (h : fr_P a6 a7 a9 a10 ((k, v, F, G) :: rest) c e L d l i) (hc : ∀ j, j < c → b6 j = a6 j ∧ b7 j = a7 j) (hcc : c ≤ c') (hi : i + x ≤ i')
    (hs : ∀ s T, s ≤ c → sg_G a6 a7 s c T ly_I (6 + l) L d (en_lf F) → ∃ T', T' + e ≤ T + (fr_K rest.length * x + e') ∧ sg_G b6 b7 s c' T' ly_I (6 + l) L' d' (en_lf F')) :
    fr_P b6 b7 a9 a10 ((k, v, F', G) :: rest) c' e' L' d' l i' := by
  obtain ⟨s, m, i0, e1, e2, e3, e4⟩ := h
  obtain ⟨T', f1, f2⟩ := hs s _ e1 e3
  refine ⟨s, m + x, i0, by omega, by omega, sg_T ?_ f2, fr_H_ext (fun j hj => hc j (by omega)) (fun _ _ => ⟨rfl, rfl⟩) (fun h l1 i1 hh q => fr_ext (fun j hj => hc j (by omega)) (fun _ _ => ⟨rfl, rfl⟩) q) e4⟩
  rw [Nat.mul_add]
  omega
end
section
theorem sg_lf {a6 a7 : Nat → Int32} {p q r T T' d d' d'' : Nat} {L L' L'' : Nat → Nat} {F B : en_E → en_E} (hp : p ≤ q) (hq : q ≤ r) (h : sg_G a6 a7 p q T L d L' d' (en_lf F)) (h' : sg_G a6 a7 q r T' L' d' L'' d'' (en_lf B)) : sg_G a6 a7 p r (T + T') L d L'' d'' (en_lf (fun e => B (F e))) := by
  have t := sg_tr hp hq h h'
  rw [show (fun x => en_lf B (en_lf F x)) = en_lf (fun e => B (F e)) from funext (fun x => en_lf_cp _ _ x)] at t
  exact t
theorem sg_lf0 {a6 a7 : Nat → Int32} {p d : Nat} {L : Nat → Nat} (T : Nat) : sg_G a6 a7 p p T L d L d (en_lf (fun e => e)) := by
  rw [show en_lf (fun e => e) = fun x => x from funext en_lf_id]
  exact sg_T (Nat.zero_le _) sg_id
theorem fr_K5 {r2 : Nat} (h : r2 + 1 ≤ 3) : fr_K r2 = 5 * fr_K (r2 + 1) ∧ 15 ≤ fr_K (r2 + 1) := by
  rcases (show r2 = 0 ∨ r2 = 1 ∨ r2 = 2 by omega) with e | e | e <;> subst e <;> decide
theorem fr_if {a6 a7 a9 a10 b6 b7 b9 b10 : Nat → Int32} {fs : List se_f} {c l i v r : Nat} (h : fr_P a6 a7 a9 a10 fs c 9 ly_I (6 + l) l i) (hr : fs.length = r + 1) (hv : v < 6)
    (hc : ∀ j, j < c → b6 j = a6 j ∧ b7 j = a7 j) (h9 : ∀ j, j < r → b9 j = a9 j ∧ b10 j = a10 j)
    (c0 : b6 c = 1) (n0 : b7 c = nI (5 + l - v)) (c1 : b6 (c + 1) = 10) (k9 : b9 r = 8) (k10 : b10 r = nI (c + 1)) :
    fr_P b6 b7 b9 b10 ((8, v, (fun e => e), (fun e => e)) :: fs) (c + 2) 0 ly_I (6 + l) l (i + 1) := by
  refine ⟨c + 2, 0, i + 1, Nat.le_refl _, by omega, sg_lf0 _, Or.inr (Or.inl ⟨rfl, by omega, c, i, Nat.le_refl _, rfl, hv, c0, n0, c1, ?_, ?_, fr_ext hc (fun j hj => h9 j (by omega)) h⟩)⟩
  · rw [hr]; exact k9
  · rw [hr]; exact k10
theorem fr_lo {a6 a7 a9 a10 b6 b7 b9 b10 : Nat → Int32} {fs : List se_f} {c l i v r : Nat} (h : fr_P a6 a7 a9 a10 fs c 9 ly_I (6 + l) l i) (hr : fs.length = r + 1) (hv : v < 6)
    (hc : ∀ j, j < c → b6 j = a6 j ∧ b7 j = a7 j) (h9 : ∀ j, j < r → b9 j = a9 j ∧ b10 j = a10 j)
    (c0 : b6 c = 0) (n0 : b7 c = nI v) (c1 : b6 (c + 1) = 1) (n1 : b7 (c + 1) = 0) (c2 : b6 (c + 2) = 10) (k9 : b9 r = 10) (k10 : b10 r = nI (c + 2)) :
    fr_P b6 b7 b9 b10 ((10, v, (fun e => e), (fun e => e)) :: fs) (c + 3) 0 ly_I (6 + (l + 1)) (l + 1) (i + 1) := by
  refine ⟨c + 3, 0, i + 1, Nat.le_refl _, by omega, sg_lf0 _, Or.inr (Or.inr (Or.inr ⟨rfl, by omega, c, i, l, rfl, Nat.le_refl _, rfl, hv, c0, n0, c1, n1, c2, ?_, ?_, fr_ext hc (fun j hj => h9 j (by omega)) h⟩))⟩
  · rw [hr]; exact k9
  · rw [hr]; exact k10
theorem fr_el {a6 a7 a9 a10 : Nat → Int32} {f : se_f} {rest : List se_f} {c l i r : Nat} (h : fr_P a6 a7 a9 a10 (f :: rest) c 9 ly_I (6 + l) l i) (hk : f.1 = 8) (hr : rest.length = r) :
    1 ≤ r ∧ ∃ pt, pt < c ∧ a10 (r - 1) = nI pt ∧ ∀ b6 b7 b10 : Nat → Int32, (∀ j, j < c → b6 j = a6 j) → (∀ j, j < c → j ≠ pt → b7 j = a7 j) → b7 pt = nI (c + 1) → b6 c = 11 →
      (∀ j, j + 1 < r → b10 j = a10 j) → b10 (r - 1) = nI c → fr_P b6 b7 a9 b10 ((9, f.2.1, (fun e => e), f.2.2.1) :: rest) (c + 1) 0 ly_I (6 + l) l (i + 1) := by
  subst hr
  obtain ⟨s, m, i0, e1, e2, e3, e4⟩ := h
  rcases e4 with h | h | h | h
  · omega
  · obtain ⟨e0, f1, h, i1, f2, f3, f4, f5, f6, f7, f8, f9, f10⟩ := h
    refine ⟨f1, h + 1, by omega, f9, fun b6 b7 b10 q6 q7 qp qc q10 qr => ?_⟩
    subst f3
    refine ⟨c + 1, 0, i + 1, Nat.le_refl _, by omega, sg_lf0 _, Or.inr (Or.inr (Or.inl ⟨rfl, f1, h, i1, c, m, by omega, rfl, by omega, f4, ?_, ?_, ?_, qp, qc, ?_, f8, qr, ?_⟩))⟩
    · rw [q6 h (by omega), f5]
    · rw [q7 h (by omega) (by omega), f6]
    · rw [q6 (h + 1) (by omega), f7]
    · exact sg_cg (fun j h1 h2 => ⟨q6 j h2, q7 j h2 (by omega)⟩) e3
    · exact fr_ext (fun j hj => ⟨q6 j (by omega), q7 j (by omega) (by omega)⟩) (fun j hj => ⟨rfl, q10 j hj⟩) f10
  · omega
  · omega
theorem fr_en {a6 a7 a9 a10 : Nat → Int32} {f f2 : se_f} {r2 : List se_f} {c l i r : Nat} (h : fr_P a6 a7 a9 a10 (f :: f2 :: r2) c 9 ly_I (6 + l) l i) (hr : r2.length + 1 = r) (hr3 : r ≤ 3) :
    ∃ pt, pt < c ∧ a10 (r - 1) = nI pt ∧
      ((a9 (r - 1) = 8 ∧ (c ≤ 560 → ∀ b7 : Nat → Int32, (∀ j, j < c → j ≠ pt → b7 j = a7 j) → b7 pt = nI c →
          fr_P a6 b7 a9 a10 ((f2.1, f2.2.1, (fun e => se_B f (f2.2.2.1 e)), f2.2.2.2) :: r2) c 0 ly_I (6 + l) l (i + 1))) ∨
       (a9 (r - 1) = 10 ∧ 1 ≤ pt ∧ ∃ l1, l = l1 + 1 ∧ (c + 4 ≤ 560 → ∀ b6 b7 : Nat → Int32, (∀ j, j < c → b6 j = a6 j) → (∀ j, j < c → j ≠ pt → b7 j = a7 j) → b7 pt = nI (c + 3) →
          b6 c = 0 → b7 c = -1 → b6 (c + 1) = 2 → b6 (c + 2) = 11 → b7 (c + 2) = nI (pt - 1) → b6 (c + 3) = 8 →
          fr_P b6 b7 a9 a10 ((f2.1, f2.2.1, (fun e => se_B f (f2.2.2.1 e)), f2.2.2.2) :: r2) (c + 4) 0 ly_I (6 + l1) l1 (i + 1)))) := by
  have hl := fr_l h
  have hl3 : l ≤ 3 := by
    have : l + 1 ≤ r2.length + 1 + 1 := hl
    omega
  subst hr
  obtain ⟨s, m, i0, e1, e2, e3, e4⟩ := h
  obtain ⟨k5, k15⟩ := fr_K5 hr3
  have e3' : sg_G a6 a7 s c (fr_K (r2.length + 1) * m + 9) ly_I (6 + l) ly_I (6 + l) (en_lf f.2.2.1) := e3
  have e4' : fr_H a6 a7 a9 a10 f.1 f.2.1 f.2.2.2 (r2.length + 1) s l i0 (fun h l1 i1 => fr_P a6 a7 a9 a10 (f2 :: r2) h 9 ly_I (6 + l1) l1 i1) := e4
  clear e3 e4
  generalize hK : fr_K (r2.length + 1) = K at *
  rcases e4' with h | h | h | h
  · omega
  · obtain ⟨e0, f1, h, i1, f2', f3, f4, f5, f6, f7, f8, f9, f10⟩ := h
    subst f3
    refine ⟨h + 1, by omega, f9, Or.inl ⟨f8, fun hc5 b7 q7 qp => ?_⟩⟩
    have eb : se_B f = en_if f.2.1 f.2.2.1 (fun e => e) := by
      unfold se_B
      rw [if_neg (by omega), if_pos e0]
    rw [eb]
    have blk := bk_if1 (a6 := a6) (a7 := b7) (h := h) (q := c) (v := f.2.1) (F := f.2.2.1) hl3 f4 hc5 e1 f5 ((q7 h (by omega) (by omega)).trans f6) f7 qp (sg_cg (fun j h1 h2 => ⟨rfl, q7 j h2 (by omega)⟩) e3')
    refine fr_map (x := m + 2) (F := f2.2.2.1) f10 (fun j hj => ⟨rfl, q7 j (by omega) (by omega)⟩) (by omega) (by omega) (fun s2 T hs2 hg => ⟨T + _, ?_, sg_lf hs2 (by omega) (sg_cg (fun j h1 h2 => ⟨rfl, q7 j (by omega) (by omega)⟩) hg) blk⟩)
    rw [k5]
    have : 5 * K * (m + 2) = 5 * (K * m) + 10 * K := by
      rw [Nat.mul_add, Nat.mul_assoc]
      omega
    omega
  · obtain ⟨e0, f1, h, i1, j, m1, f2', f3, f3', f4, f5, f6, f7, f7', f11, f12, f8, f9, f10⟩ := h
    subst f3
    rw [hK] at f12
    refine ⟨j, by omega, f9, Or.inl ⟨f8, fun hc5 b7 q7 qp => ?_⟩⟩
    have eb : se_B f = en_if f.2.1 f.2.2.2 f.2.2.1 := by
      unfold se_B
      rw [if_neg (by omega), if_neg (by omega)]
    rw [eb]
    have blk := bk_if2 (a6 := a6) (a7 := b7) (h := h) (j := j) (q := c) (v := f.2.1) (F := f.2.2.2) (G := f.2.2.1) hl3 f4 hc5 f3' e1 f5 ((q7 h (by omega) (by omega)).trans f6) f7 ((q7 (h + 1) (by omega) (by omega)).trans f7') f11 qp
      (sg_cg (fun j' h1 h2 => ⟨rfl, q7 j' (by omega) (by omega)⟩) f12) (sg_cg (fun j' h1 h2 => ⟨rfl, q7 j' h2 (by omega)⟩) e3')
    refine fr_map (x := m1 + m + 3) (F := f2.2.2.1) f10 (fun j hj => ⟨rfl, q7 j (by omega) (by omega)⟩) (by omega) (by omega) (fun s2 T hs2 hg => ⟨T + _, ?_, sg_lf hs2 (by omega) (sg_cg (fun j h1 h2 => ⟨rfl, q7 j (by omega) (by omega)⟩) hg) blk⟩)
    rw [k5]
    have : 5 * K * (m1 + m + 3) = 5 * (K * m1) + 5 * (K * m) + 15 * K := by
      rw [Nat.mul_add, Nat.mul_add, Nat.mul_assoc, Nat.mul_assoc]
      omega
    omega
  · obtain ⟨e0, f1, h, i1, l1, f1', f2', f3, f4, f5, f6, f7, f7', f7'', f8, f9, f10⟩ := h
    subst f3 f1'
    refine ⟨h + 2, by omega, f9, Or.inr ⟨f8, by omega, l1, rfl, fun hc5 b6 b7 q6 q7 qp g0 g0' g1 g2 g2' g3 => ?_⟩⟩
    have eb : se_B f = en_it f.2.2.1 f.2.1 := by
      unfold se_B
      rw [if_pos e0]
    rw [eb]
    have blk := bk_loop (a6 := b6) (a7 := b7) (h := h) (j := c) (v := f.2.1) (F := f.2.2.1) (l := l1) (T := K * m + 9) (by omega) f4 hc5 e1 ((q6 h (by omega)).trans f5) ((q7 h (by omega) (by omega)).trans f6)
      ((q6 (h + 1) (by omega)).trans f7) ((q7 (h + 1) (by omega) (by omega)).trans f7') ((q6 (h + 2) (by omega)).trans f7'') qp g0 g0' g1 g2 g2' g3
      (sg_cg (fun j' h1 h2 => ⟨q6 j' h2, q7 j' h2 (by omega)⟩) e3')
    refine fr_map (x := m + 2) (F := f2.2.2.1) f10 (fun j hj => ⟨q6 j (by omega), q7 j (by omega) (by omega)⟩) (by omega) (by omega) (fun s2 T hs2 hg => ⟨T + _, ?_, sg_lf hs2 (by omega) (sg_cg (fun j h1 h2 => ⟨q6 j (by omega), q7 j (by omega) (by omega)⟩) hg) blk⟩)
    rw [k5]
    have : 5 * K * (m + 2) = 5 * (K * m) + 10 * K := by
      rw [Nat.mul_add, Nat.mul_assoc]
      omega
    omega
end
section
def ly_J (L : Nat → Nat) (d : Nat) : Prop := ∀ i j, i < d → j < d → L i = L j → i = j
def ly_has (L : Nat → Nat) (d nm : Nat) : Prop := ∃ j, j < d ∧ L j = nm
theorem ly_pg : ∀ (m d : Nat) (f : Nat → Nat), (∀ j, j < d → f j < m) → ly_J f d → d ≤ m := by
  intro m
  induction m with
  | zero =>
    intro d f h _
    rcases Nat.eq_zero_or_pos d with z | z
    · omega
    · exact absurd (h 0 z) (by omega)
  | succ m ih =>
    intro d f h hJ
    cases d with
    | zero => omega
    | succ d =>
      have key : d ≤ m := by
        refine ih d (fun j => if f j = m then f d else f j) (fun j hj => ?_) (fun i j hi hj e => ?_)
        · by_cases c : f j = m
          · rw [if_pos c]
            have h1 := h d (by omega)
            have h2 : f d ≠ m := fun z => absurd (hJ j d (by omega) (by omega) (c.trans z.symm)) (by omega)
            omega
          · rw [if_neg c]
            have h1 := h j (by omega)
            omega
        · dsimp only at e
          by_cases c1 : f i = m
          · by_cases c2 : f j = m
            · exact hJ i j (by omega) (by omega) (c1.trans c2.symm)
            · rw [if_pos c1, if_neg c2] at e
              exact absurd (hJ d j (by omega) (by omega) e) (by omega)
          · by_cases c2 : f j = m
            · rw [if_neg c1, if_pos c2] at e
              exact absurd (hJ i d (by omega) (by omega) e) (by omega)
            · rw [if_neg c1, if_neg c2] at e
              exact hJ i j (by omega) (by omega) e
      omega
theorem ly_full {L : Nat → Nat} {d m : Nat} (h : ∀ nm, nm < m → ly_has L d nm) : m ≤ d := by
  have hg : ∀ nm, ∃ j, nm < m → j < d ∧ L j = nm := by
    intro nm
    by_cases c : nm < m
    · obtain ⟨j, h1, h2⟩ := h nm c
      exact ⟨j, fun _ => ⟨h1, h2⟩⟩
    · exact ⟨0, fun z => absurd z c⟩
  let g : Nat → Nat := fun nm => Classical.choose (hg nm)
  have gs : ∀ nm, nm < m → g nm < d ∧ L (g nm) = nm := fun nm hn => Classical.choose_spec (hg nm) hn
  refine ly_pg d m g (fun j hj => (gs j hj).1) (fun i j hi hj e => ?_)
  rw [← (gs i hi).2, ← (gs j hj).2, e]
def ly_W (P : so_P) (n i l : Nat) (L : Nat → Nat) (d : Nat) : Prop :=
  ly_J L d ∧ (∀ j, j < d → L j < 6 + l) ∧ (∀ nm, 6 ≤ nm → nm < 6 + l → ly_has L d nm) ∧ (∀ v, v < 6 → ly_has L d v ∨ so_NW P n i v)
theorem ly_W_d {P : so_P} {n i l : Nat} {L : Nat → Nat} {d : Nat} (h : ly_W P n i l L d) : d ≤ 6 + l := ly_pg _ _ L h.2.1 h.1
theorem ly_W_b {P : so_P} {n i l : Nat} {L : Nat → Nat} {d : Nat} (h : ly_W P n i l L d) (hb : n ≤ i ∨ 8 ≤ so_k P i) : d = 6 + l ∧ ∀ nm, nm < d → ly_has L d nm := by
  have hf : ∀ nm, nm < 6 + l → ly_has L d nm := by
    intro nm hn
    by_cases c : nm < 6
    · rcases h.2.2.2 nm c with z | z
      · exact z
      · have := so_NW_in z
        omega
    · exact h.2.2.1 nm (by omega) hn
  have h1 := ly_W_d h
  have h2 := ly_full hf
  have e : d = 6 + l := by omega
  exact ⟨e, fun nm hn => hf nm (by omega)⟩
theorem ly_W_I {P : so_P} {n i l : Nat} : ly_W P n i l ly_I (6 + l) :=
  ⟨fun i j _ _ e => e, fun j hj => hj, fun nm _ h2 => ⟨nm, h2, rfl⟩, fun v hv => Or.inl ⟨v, by omega, rfl⟩⟩
theorem ly_J_pl {L : Nat → Nat} {d i : Nat} (h : ly_J L d) (hi : i < d) : ly_J (mc_pl L i (d - 1)) d := by
  intro j k hj hk e
  exact mc_sg_inj (by omega) hi hj hk (h _ _ (mc_sg_lt (by omega) hi hj) (mc_sg_lt (by omega) hi hk) e)
theorem ly_has_pl {L : Nat → Nat} {d i nm : Nat} (h : ly_has L d nm) (hi : i < d) : ly_has (mc_pl L i (d - 1)) d nm := by
  obtain ⟨j, h1, h2⟩ := h
  obtain ⟨k, h3, h4⟩ := mc_sg_onto (i := i) (t := d - 1) (d := d) (by omega) hi h1
  exact ⟨k, h3, by unfold mc_pl; rw [h4, h2]⟩
theorem ly_top_pl {L : Nat → Nat} {d i : Nat} (hi : i < d) : mc_pl L i (d - 1) (d - 1) = L i := by
  unfold mc_pl mc_sg
  rw [if_neg (by omega), if_neg (by omega), if_pos rfl]
def ar_V (L : Nat → Nat) (d f w : Nat) : Prop :=
  f ≤ w ∧ w ≤ d ∧ ly_J L d ∧ (∀ nm, nm < d → ly_has L d nm) ∧ (∀ j, j < f → L j = j) ∧ (∀ k, k < w - f → L (d - (w - f) + k) = f + k)
theorem ar_s {L : Nat → Nat} {d f w : Nat} (h : ar_V L d f w) (hw : w < d) : ∃ i, i < d ∧ L i = w ∧ ar_V (mc_pl L i (d - 1)) d f (w + 1) := by
  obtain ⟨h1, h2, h3, h4, h5, h6⟩ := h
  obtain ⟨i, hi, e⟩ := h4 w hw
  have i1 : f ≤ i := by
    rcases Nat.lt_or_ge i f with z | z
    · have := h5 i z
      omega
    · exact z
  have i2 : i < d - (w - f) := by
    rcases Nat.lt_or_ge i (d - (w - f)) with z | z
    · exact z
    · have := h6 (i - (d - (w - f))) (by omega)
      rw [show d - (w - f) + (i - (d - (w - f))) = i by omega] at this
      omega
  refine ⟨i, hi, e, by omega, by omega, ly_J_pl h3 hi, fun nm hn => ly_has_pl (h4 nm hn) hi, fun j hj => ?_, fun k hk => ?_⟩
  · unfold mc_pl mc_sg
    rw [if_pos (by omega), h5 j hj]
  · by_cases c : k < w - f
    · have e1 : mc_sg i (d - 1) (d - (w + 1 - f) + k) = d - (w - f) + k := by
        unfold mc_sg
        rw [if_neg (by omega), if_pos (by omega)]
        omega
      unfold mc_pl
      rw [e1, h6 k c]
    · rw [show d - (w + 1 - f) + k = d - 1 by omega, ly_top_pl hi, e]
      omega
theorem ar_e {L : Nat → Nat} {d f : Nat} (h : ar_V L d f d) : ∀ j, j < d → L j = j := by
  obtain ⟨h1, h2, h3, h4, h5, h6⟩ := h
  intro j hj
  by_cases c : j < f
  · exact h5 j c
  · have := h6 (j - f) (by omega)
    rw [show d - (d - f) + (j - f) = j by omega] at this
    omega
def la_R (a8 : Nat → Int32) (L : Nat → Nat) (d : Nat) : Prop := ∀ j, j < d → a8 j = nI (min (L j) 9)
theorem la_b : ∀ m, m < 128 → (nI m).toInt8.toInt32 = nI m := by decide +kernel
theorem la_s : ∀ m, m < 600 → (nI m).toInt16.toInt32 = nI m := by decide +kernel
theorem la_eq {x w : Nat} (hw : w < 9) : nI (min x 9) = nI w ↔ x = w := by
  rw [nI_eq (by omega) (by omega)]
  omega
theorem la_pl {a8 b8 : Nat → Int32} {L : Nat → Nat} {d i : Nat} (h : la_R a8 L d) (hi : i < d) (h1 : ∀ j, j < i → b8 j = a8 j) (h2 : ∀ j, i ≤ j → j < d - 1 → b8 j = vp_nar .byte (a8 (j + 1))) (h3 : b8 (d - 1) = a8 i) : la_R b8 (mc_pl L i (d - 1)) d := by
  intro j hj
  unfold mc_pl mc_sg
  by_cases c1 : j < i
  · rw [if_pos c1, h1 j c1, h j hj]
  · rw [if_neg c1]
    by_cases c2 : j < d - 1
    · rw [if_pos c2, h2 j (by omega) c2, h (j + 1) (by omega), vp_nar_byte, la_b _ (by omega)]
    · rw [if_neg c2, if_pos (by omega), show j = d - 1 by omega, h3, h i hi]
end
section
theorem ix_1 {d k : Nat} (h : k + 1 ≤ d) : nI d - 1 - nI k = nI (d - 1 - k) := by
  rw [show (1 : Int32) = nI 1 from rfl, pk_sub (by omega), pk_sub (by omega)]
theorem ix_0 {d : Nat} (h : 1 ≤ d) : nI d - 1 = nI (d - 1) := by
  rw [show (1 : Int32) = nI 1 from rfl, pk_sub (by omega)]
theorem di_ok {post : Int32 → Prop} {len cm sd ce ol ob dp pc : Int32} {a1 a2 a3 a4 a5 a6 a7 a8 a9 a10 a11 a12 : Nat → Int32} {L : Nat → Nat} {d i w : Nat} (hd : d ≤ 15) (hw : w < 9) (hL : la_R a8 L d) (hJ : ly_J L d) (hi : i < d) (e : L i = w) (hp : post (nI (d - 1 - i))) :
    wpX_distance post (len, cm, sd, ce, nI d, ol, ob, dp, pc, a1, a2, a3, a4, a5, a6, a7, a8, a9, a10, a11, a12) (nI w) := by
  show ∃ fu, wX_distance_2 post (nI w) len cm sd ce (nI d) ol ob dp pc a1 a2 a3 a4 a5 a6 a7 a8 a9 a10 a11 a12 fu 0
  refine pk_loop (σ := Unit) (fun n k _ => wX_distance_2 post (nI w) len cm sd ce (nI d) ol ob dp pc a1 a2 a3 a4 a5 a6 a7 a8 a9 a10 a11 a12 n (nI k)) (fun _ _ => True) (d - 1 - i) 0 () (by omega) trivial (fun n _ _ => ?_) (fun n k _ hk _ hw' => ?_)
  · refine pk_le d (d - 1 - i) (fun z => absurd z (by omega)) (fun _ => ⟨?_, br_t ?_ hp⟩)
    · rw [ix_1 (by omega)]
      exact vp_in_nI (by omega) (by omega)
    · rw [ix_1 (by omega), nI_clamp (by omega), hL _ (by omega), show d - 1 - (d - 1 - i) = i by omega, e, show min w 9 = w by omega]
  · refine pk_le d k (fun z => absurd z (by omega)) (fun _ => ⟨?_, br_f ?_ (nm_r (nI_1 k) (hw' () trivial))⟩)
    · rw [ix_1 (by omega)]
      exact vp_in_nI (by omega) (by omega)
    · rw [ix_1 (by omega), nI_clamp (by omega), hL _ (by omega), la_eq hw]
      intro z
      have := hJ (d - 1 - k) i (by omega) hi (z.trans e.symm)
      omega
theorem di_no {post : Int32 → Prop} {len cm sd ce ol ob dp pc : Int32} {a1 a2 a3 a4 a5 a6 a7 a8 a9 a10 a11 a12 : Nat → Int32} {L : Nat → Nat} {d w : Nat} (hd : d ≤ 15) (hw : w < 9) (hL : la_R a8 L d) (hn : ¬ ly_has L d w) (hp : post (-1)) :
    wpX_distance post (len, cm, sd, ce, nI d, ol, ob, dp, pc, a1, a2, a3, a4, a5, a6, a7, a8, a9, a10, a11, a12) (nI w) := by
  show ∃ fu, wX_distance_2 post (nI w) len cm sd ce (nI d) ol ob dp pc a1 a2 a3 a4 a5 a6 a7 a8 a9 a10 a11 a12 fu 0
  refine pk_loop (σ := Unit) (fun n k _ => wX_distance_2 post (nI w) len cm sd ce (nI d) ol ob dp pc a1 a2 a3 a4 a5 a6 a7 a8 a9 a10 a11 a12 n (nI k)) (fun _ _ => True) d 0 () (by omega) trivial (fun n _ _ => ?_) (fun n k _ hk _ hw' => ?_)
  · exact pk_le d d (fun z => hp) (fun z => absurd z (by omega))
  · refine pk_le d k (fun z => absurd z (by omega)) (fun _ => ⟨?_, br_f ?_ (nm_r (nI_1 k) (hw' () trivial))⟩)
    · rw [ix_1 (by omega)]
      exact vp_in_nI (by omega) (by omega)
    · rw [ix_1 (by omega), nI_clamp (by omega), hL _ (by omega), la_eq hw]
      intro z
      exact hn ⟨_, by omega, z⟩
theorem wr_ok {post : St1 → Prop} {len cm sd ld ol ob dp pc : Int32} {a1 a2 a3 a4 a5 a6 a7 a8 a9 a10 a11 a12 : Nat → Int32} {c : Nat} {o o' n : Int32} (hc : c < 560) (ho : o.toInt8.toInt32 = o') (hp : post (len, cm, sd, nI (c + 1), ld, ol, ob, dp, pc, a1, a2, a3, a4, a5, upd a6 c o', upd a7 c n, a8, a9, a10, a11, a12)) :
    wpX_write post (len, cm, sd, nI c, ld, ol, ob, dp, pc, a1, a2, a3, a4, a5, a6, a7, a8, a9, a10, a11, a12) o n := by
  subst ho
  exact ⟨pk_in c 560 hc, nm_r (by rw [nI_clamp (by omega)]) ⟨pk_in c 560 hc, nm_r (by rw [nI_clamp (by omega)]) (nm_r (nI_1 c) hp)⟩⟩
theorem pl_ok {post : St1 → Prop} {len cm sd ce ol ob dp pc : Int32} {a1 a2 a3 a4 a5 a6 a7 a8 a9 a10 a11 a12 : Nat → Int32} {d w : Nat} (hd : d < 16) (hw : w < 128) (hp : post (len, cm, sd, ce, nI (d + 1), ol, ob, dp, pc, a1, a2, a3, a4, a5, a6, a7, upd a8 d (nI w), a9, a10, a11, a12)) :
    wpX_pushLayout post (len, cm, sd, ce, nI d, ol, ob, dp, pc, a1, a2, a3, a4, a5, a6, a7, a8, a9, a10, a11, a12) (nI w) := by
  exact ⟨pk_in d 16 hd, nm_r (by rw [nI_clamp (by omega), la_b w hw]) (nm_r (nI_1 d) hp)⟩
theorem pu_26 {post : St1 → Prop} {len cm sd ce ol ob dp pc : Int32} {a1 a2 a3 a4 a5 a6 a7 a8 a9 a10 a11 a12 : Nat → Int32} {L : Nat → Nat} {d i w : Nat} (hd : d ≤ 15) (hL : la_R a8 L d) (hi : i < d) (hw : w < 9) (e : L i = w)
    (hp : ∀ b8 : Nat → Int32, la_R b8 (mc_pl L i (d - 1)) d → post (len, cm, sd, ce, nI d, ol, ob, dp, pc, a1, a2, a3, a4, a5, a6, a7, b8, a9, a10, a11, a12)) :
    ∃ fu, wX_pullUp_26 post (nI w) len cm sd ce (nI d) ol ob dp pc fu (nI i) a1 a2 a3 a4 a5 a6 a7 a8 a9 a10 a11 a12 := by
  refine pk_loop (fun n k s => wX_pullUp_26 post (nI w) len cm sd ce (nI d) ol ob dp pc n (nI k) a1 a2 a3 a4 a5 a6 a7 s a9 a10 a11 a12) (fun k s => i ≤ k ∧ (∀ j, j < i → s j = a8 j) ∧ (∀ j, i ≤ j → j < k → s j = vp_nar .byte (a8 (j + 1))) ∧ (∀ j, k ≤ j → s j = a8 j)) (d - 1) i a8 (by omega) ⟨Nat.le_refl i, fun _ _ => rfl, fun j h1 h2 => absurd h1 (by omega), fun _ _ => rfl⟩ (fun n s hs => ?_) (fun n k s hk hs hw' => ?_)
  · obtain ⟨h1, h2, h3, h4⟩ := hs
    refine pk_le (d - 1) (d - 1) (fun _ => ⟨?_, ?_⟩) (fun z => absurd z (by omega)) (hx := ix_0 (by omega))
    · rw [ix_0 (by omega)]
      exact vp_in_nI (by omega) (by omega)
    · refine nm_r (e' := upd s (d - 1) (nI w)) ?_ (hp _ ?_)
      · rw [ix_0 (by omega), nI_clamp (by omega), la_b w (by omega)]
      · refine la_pl hL hi (fun j hj => ?_) (fun j j1 j2 => ?_) ?_
        · rw [pk_un (by omega), h2 j hj]
        · rw [pk_un (by omega), h3 j j1 j2]
        · rw [pk_us, hL i hi, e, show min w 9 = w by omega]
  · obtain ⟨h1, h2, h3, h4⟩ := hs
    refine pk_le (d - 1) k (fun z => absurd z (by omega)) (fun _ => ⟨?_, pk_in k 16 (by omega), nm_e (nm_r (nI_1 k) ?_)⟩) (hx := ix_0 (by omega))
    · rw [nI_1]
      exact vp_in_nI (by omega) (by omega)
    · rw [nI_1, nI_clamp (by omega), nI_clamp (by omega)]
      refine hw' _ ⟨by omega, fun j hj => ?_, fun j j1 j2 => ?_, fun j hj => ?_⟩
      · rw [pk_un (by omega), h2 j hj]
      · by_cases c : j = k
        · rw [c, pk_us, h4 (k + 1) (by omega)]
        · rw [pk_un c, h3 j j1 (by omega)]
      · rw [pk_un (by omega), h4 j (by omega)]
def cp_P (a6 a7 a8 : Nat → Int32) (p c T l : Nat) (L : Nat → Nat) (d : Nat) (g : mc_X → mc_X) : Prop :=
  p ≤ c ∧ sg_G a6 a7 p c T ly_I (6 + l) L d g ∧ la_R a8 L d ∧ ly_J L d
def cx_E (a6 a7 b6 b7 : Nat → Int32) (c : Nat) : Prop := ∀ j, j < c → b6 j = a6 j ∧ b7 j = a7 j
theorem cx_u {a6 a7 : Nat → Int32} {c : Nat} {o n : Int32} : cx_E a6 a7 (upd a6 c o) (upd a7 c n) c := fun j hj => ⟨pk_un (by omega), pk_un (by omega)⟩
theorem cx_r {a6 a7 : Nat → Int32} {c : Nat} : cx_E a6 a7 a6 a7 c := fun _ _ => ⟨rfl, rfl⟩
theorem cx_t {a6 a7 b6 b7 d6 d7 : Nat → Int32} {c c' : Nat} (h : cx_E a6 a7 b6 b7 c) (h' : cx_E b6 b7 d6 d7 c') (hc : c ≤ c') : cx_E a6 a7 d6 d7 c :=
  fun j hj => ⟨(h' j (by omega)).1.trans (h j hj).1, (h' j (by omega)).2.trans (h j hj).2⟩
theorem pu_ok {post : St1 → Prop} {len cm sd ol ob dp pc : Int32} {a1 a2 a3 a4 a5 a6 a7 a8 a9 a10 a11 a12 : Nat → Int32} {p c T l : Nat} {L : Nat → Nat} {d i w : Nat} {g : mc_X → mc_X} (h : cp_P a6 a7 a8 p c T l L d g) (hd : d ≤ 15) (hc : c < 560) (hi : i < d) (hw : w < 9) (e : L i = w)
    (hp : ∀ (c' : Nat) (b6 b7 b8 : Nat → Int32), c ≤ c' → c' ≤ c + 1 → cx_E a6 a7 b6 b7 c → cp_P b6 b7 b8 p c' (T + 1) l (mc_pl L i (d - 1)) d g → post (len, cm, sd, nI c', nI d, ol, ob, dp, pc, a1, a2, a3, a4, a5, b6, b7, b8, a9, a10, a11, a12)) :
    wpX_pullUp post (len, cm, sd, nI c, nI d, ol, ob, dp, pc, a1, a2, a3, a4, a5, a6, a7, a8, a9, a10, a11, a12) (nI w) := by
  obtain ⟨h1, h2, h3, h4⟩ := h
  refine di_ok hd hw h3 h4 hi e ?_
  refine pk_le (d - 1 - i) 0 (fun z => ?_) (fun z => ?_)
  · refine nm_r (ix_1 (by omega)) ?_
    rw [show d - 1 - (d - 1 - i) = i by omega]
    refine pu_26 hd h3 hi hw e (fun b8 h8 => hp c a6 a7 b8 (Nat.le_refl c) (by omega) cx_r ⟨h1, ?_, h8, ly_J_pl h4 hi⟩)
    refine sg_L (sg_T (Nat.le_succ T) h2) (fun x j hj => ?_) (fun _ => rfl)
    unfold mc_pl mc_sg
    by_cases c1 : j < i
    · rw [if_pos c1]
    · rw [if_neg c1, if_neg (by omega), if_pos (by omega), show j = i by omega]
  · refine wr_ok hc (show (7 : Int32).toInt8.toInt32 = 7 from rfl) ?_
    refine nm_r (ix_1 (by omega)) ?_
    rw [show d - 1 - (d - 1 - i) = i by omega]
    exact pu_26 hd h3 hi hw e (fun b8 h8 => hp (c + 1) _ _ b8 (by omega) (Nat.le_refl _) cx_u ⟨by omega, sg_pull i h2 h1 (by omega) hi, h8, ly_J_pl h4 hi⟩)
theorem ar_33 {post : St1 → Prop} {len cm sd ol ob dp pc : Int32} {a1 a2 a3 a4 a5 a6 a7 a8 a9 a10 a11 a12 : Nat → Int32} {p c T l : Nat} {L : Nat → Nat} {f : Nat} {g : mc_X → mc_X} (h : cp_P a6 a7 a8 p c T l L (6 + l) g) (hl : l ≤ 3) (hc : c + (6 + l) ≤ 560) (hf : ar_V L (6 + l) f f)
    (hp : ∀ (c' : Nat) (b6 b7 b8 : Nat → Int32), c ≤ c' → c' ≤ c + (6 + l) → cx_E a6 a7 b6 b7 c → cp_P b6 b7 b8 p c' (T + (6 + l)) l ly_I (6 + l) g → post (len, cm, sd, nI c', nI (6 + l), ol, ob, dp, pc, a1, a2, a3, a4, a5, b6, b7, b8, a9, a10, a11, a12)) :
    ∃ fu, wX_arrange_33 post (nI (6 + l)) fu (nI f) len cm sd (nI c) (nI (6 + l)) ol ob dp pc a1 a2 a3 a4 a5 a6 a7 a8 a9 a10 a11 a12 := by
  refine pk_loop (fun n k (s : Nat × (Nat → Int32) × (Nat → Int32) × (Nat → Int32)) => wX_arrange_33 post (nI (6 + l)) n (nI k) len cm sd (nI s.1) (nI (6 + l)) ol ob dp pc a1 a2 a3 a4 a5 s.2.1 s.2.2.1 s.2.2.2 a9 a10 a11 a12)
    (fun k s => c ≤ s.1 ∧ s.1 + f ≤ c + k ∧ cx_E a6 a7 s.2.1 s.2.2.1 c ∧ ∃ L', ar_V L' (6 + l) f k ∧ cp_P s.2.1 s.2.2.1 s.2.2.2 p s.1 (T + (k - f)) l L' (6 + l) g) (6 + l) f (c, a6, a7, a8) hf.2.1 ⟨Nat.le_refl c, Nat.le_refl _, cx_r, L, hf, ?_⟩ (fun n s hs => ?_) (fun n k s hk hs hw' => ?_)
  · rw [Nat.sub_self]
    exact h
  · obtain ⟨s1, s2, s3, L', s4, s5⟩ := hs
    obtain ⟨h1, h2, h3, h4⟩ := s5
    refine pk_le (6 + l) (6 + l) (fun _ => ?_) (fun z => absurd z (by omega))
    have ee := ar_e s4
    refine hp s.1 _ _ _ s1 (by omega) s3 ⟨h1, ?_, fun j hj => ?_, fun i j _ _ e => e⟩
    · refine sg_L (sg_T (by omega) h2) (fun x j hj => ?_) (fun _ => rfl)
      rw [ee j hj]
      rfl
    · rw [h3 j hj, ee j hj]
      rfl
  · obtain ⟨s1, s2, s3, L', s4, s5⟩ := hs
    refine pk_le (6 + l) k (fun z => absurd z (by omega)) (fun _ => ?_)
    obtain ⟨i, hi, e, s4'⟩ := ar_s s4 hk
    refine pu_ok s5 (by omega) (by omega) hi (by omega) e (fun c' b6 b7 b8 q1 q2 q3 q4 => nm_r (nI_1 k) ?_)
    refine hw' (c', b6, b7, b8) ⟨by show c ≤ c'; omega, by show c' + f ≤ c + (k + 1); omega, cx_t s3 q3 s1, _, s4', ?_⟩
    have : T + (k - f) + 1 = T + (k + 1 - f) := by
      have := s4.1
      omega
    rw [← this]
    exact q4
theorem ar_ok {post : St1 → Prop} {len cm sd ob dp pc : Int32} {a1 a2 a3 a4 a5 a6 a7 a8 a9 a10 a11 a12 : Nat → Int32} {p c T l : Nat} {L : Nat → Nat} {d : Nat} {g : mc_X → mc_X} (h : cp_P a6 a7 a8 p c T l L d g) (hl : l ≤ 3) (hc : c + (6 + l) ≤ 560) (hd : d = 6 + l) (hf : ∀ nm, nm < d → ly_has L d nm)
    (hp : ∀ (c' : Nat) (b6 b7 b8 : Nat → Int32), c ≤ c' → c' ≤ c + (6 + l) → cx_E a6 a7 b6 b7 c → cp_P b6 b7 b8 p c' (T + (6 + l)) l ly_I (6 + l) g → post (len, cm, sd, nI c', nI (6 + l), nI l, ob, dp, pc, a1, a2, a3, a4, a5, b6, b7, b8, a9, a10, a11, a12)) :
    wpX_arrange post (len, cm, sd, nI c, nI d, nI l, ob, dp, pc, a1, a2, a3, a4, a5, a6, a7, a8, a9, a10, a11, a12) := by
  subst hd
  refine nm_r (e' := nI (6 + l)) (nI_add 6 l) ?_
  have hV : ∀ k, k ≤ 6 + l → (∀ j, j < k → L j = j) → ar_V L (6 + l) k k := fun k hk hj => ⟨Nat.le_refl k, hk, h.2.2.2, hf, hj, fun k' hk' => absurd hk' (by omega)⟩
  have hx : ∀ k, k ≤ 6 + l → (∀ j, j < k → L j = j) → ∃ fu, wX_arrange_33 post (nI (6 + l)) fu (nI k) len cm sd (nI c) (nI (6 + l)) (nI l) ob dp pc a1 a2 a3 a4 a5 a6 a7 a8 a9 a10 a11 a12 := fun k hk hj => ar_33 h hl hc (hV k hk hj) hp
  have key : ∀ m k, k + m = 6 + l → (∀ j, j < k → L j = j) → wX_arrange_10 post (nI (6 + l)) len cm sd (nI c) (nI (6 + l)) (nI l) ob dp pc a1 a2 a3 a4 a5 a6 a7 a8 a9 a10 a11 a12 (m + 1) (nI k) := by
    intro m
    induction m with
    | zero =>
      intro k hk hj
      exact pk_le (6 + l) k (fun _ => hx k (by omega) hj) (fun z => absurd z (by omega))
    | succ m ih =>
      intro k hk hj
      refine pk_le (6 + l) k (fun z => absurd z (by omega)) (fun _ => ⟨pk_in k 16 (by omega), br_c (fun z => nm_r (nI_1 k) (ih (k + 1) (by omega) ?_)) (fun _ => hx k (by omega) hj)⟩)
      rw [nI_clamp (by omega), h.2.2.1 k (by omega), la_eq (by omega)] at z
      intro j hj'
      by_cases c : j = k
      · rw [c, z]
      · exact hj j (by omega)
  exact ⟨6 + l + 1, key (6 + l) 0 (by omega) (fun j hj => absurd hj (by omega))⟩
end
section
theorem nm_1 : ∀ v, v < 128 → ¬ (-1 : Int32) = nI v := by decide +kernel
theorem ib_ok {post : Int32 → Prop} {cm sd ce ld ol ob dp pc : Int32} {a1 a2 a3 a4 a5 a6 a7 a8 a9 a10 a11 a12 : Nat → Int32} {P : so_P} {n i : Nat} (hR : so_R P n a1 a2 a3 a4) (hn : n ≤ 40) (hi : i ≤ 40)
    (h1 : (n ≤ i ∨ 8 ≤ so_k P i) → post 1) (h0 : i < n → so_k P i ≤ 7 → post 0) : wpX_isBoundary post (nI n, cm, sd, ce, ld, ol, ob, dp, pc, a1, a2, a3, a4, a5, a6, a7, a8, a9, a10, a11, a12) (nI i) := by
  refine pk_le n i (fun z => h1 (Or.inl z)) (fun z => ⟨pk_in i 40 (by omega), ?_⟩)
  have hk := hR i z
  exact pk_lt (so_k P i) 8 (fun z' => h0 z (by omega)) (fun z' => h1 (Or.inr z')) (hx := by rw [nI_clamp (by omega)]; exact hk.1) (ha := by have := hk.2.1; omega)
theorem ws_ok {post : Int32 → Prop} {len cm sd ce ld ol ob dp pc : Int32} {a1 a2 a3 a4 a5 a6 a7 a8 a9 a10 a11 a12 : Nat → Int32} {P : so_P} {n i : Nat} (hR : so_R P n a1 a2 a3 a4) (hn : n ≤ 40) (hi : i < n)
    (h1 : so_k P i ≤ 6 → post (nI (so_x P i))) (h2 : 7 ≤ so_k P i → post (-1)) : wpX_writes post (len, cm, sd, ce, ld, ol, ob, dp, pc, a1, a2, a3, a4, a5, a6, a7, a8, a9, a10, a11, a12) (nI i) := by
  obtain ⟨k1, k2, k3, k4, k5, k6, k7, k8, k9⟩ := hR i hi
  refine ⟨pk_in i 40 (by omega), nm_r (e' := nI (so_k P i)) (by rw [nI_clamp (by omega), k1]) ?_⟩
  refine pk_eq (so_k P i) 0 (fun z => ⟨pk_in i 40 (by omega), ?_⟩) (fun z => ?_)
  · rw [nI_clamp (by omega), (k6 z).1]
    exact h1 (by omega)
  · refine pk_lt 6 (so_k P i) (fun z' => h2 z') (fun z' => ⟨pk_in i 40 (by omega), ?_⟩)
    rw [nI_clamp (by omega), k7 z (by omega) (by omega)]
    exact h1 z'
theorem rd_ok {post : Int32 → Prop} {len cm sd ce ld ol ob dp pc : Int32} {a1 a2 a3 a4 a5 a6 a7 a8 a9 a10 a11 a12 : Nat → Int32} {P : so_P} {n i v : Nat} (hR : so_R P n a1 a2 a3 a4) (hn : n ≤ 40) (hi : i < n) (hk : so_k P i ≤ 7) (hv : v < 6)
    (h1 : so_rd P i v → post 1) (h0 : ¬ so_rd P i v → post 0) : wpX_reads post (len, cm, sd, ce, ld, ol, ob, dp, pc, a1, a2, a3, a4, a5, a6, a7, a8, a9, a10, a11, a12) (nI i) (nI v) := by
  obtain ⟨k1, k2, k3, k4, k5, k6, k7, k8, k9⟩ := hR i hi
  have hin : vp_in (nI i) 40 := pk_in i 40 (by omega)
  have hcl : (nI i).toNatClampNeg = i := nI_clamp (by omega)
  refine ⟨hin, nm_r (e' := nI (so_k P i)) (by rw [hcl, k1]) ?_⟩
  refine pk_eq (so_k P i) 7 (fun z => ⟨hin, ?_⟩) (fun z => ?_)
  · refine pk_eq (so_x P i) v (fun z' => h1 (Or.inl ⟨z, z'⟩)) (fun z' => h0 ?_) (hx := by rw [hcl]; exact k7 (by omega) (by omega) (by omega))
    unfold so_rd
    omega
  · refine pk_eq (so_k P i) 8 (fun z' => absurd z' (by omega)) (fun _ => ?_)
    refine pk_eq (so_k P i) 1 (fun z' => ⟨hin, ?_⟩) (fun z' => ?_)
    · refine pk_eq (so_y P i) v (fun z2 => h1 (Or.inr (Or.inl ⟨z', z2⟩))) (fun z2 => h0 ?_) (hx := by rw [hcl]; exact k8 (by omega) (by omega))
      unfold so_rd
      omega
    · refine pk_lt (so_k P i) 2 (fun z2 => h0 ?_) (fun z2 => ?_)
      · unfold so_rd
        omega
      · refine pk_lt 6 (so_k P i) (fun z3 => absurd z3 (by omega)) (fun z3 => ⟨hin, ?_⟩)
        refine pk_eq (so_y P i) v (fun z4 => h1 (Or.inr (Or.inr ⟨z2, z3, Or.inl z4⟩))) (fun z4 => ⟨hin, ?_⟩) (hx := by rw [hcl]; exact k8 (by omega) (by omega))
        refine pk_eq (so_z P i) v (fun z5 => h1 (Or.inr (Or.inr ⟨z2, z3, Or.inr z5⟩))) (fun z5 => h0 ?_) (hx := by rw [hcl]; exact k9 (by omega) (by omega))
        unfold so_rd
        omega
theorem wa_ok {post : Int32 → Prop} {cm sd ce ld ol ob dp pc : Int32} {a1 a2 a3 a4 a5 a6 a7 a8 a9 a10 a11 a12 : Nat → Int32} {P : so_P} {n i v : Nat} (hR : so_R P n a1 a2 a3 a4) (hn : n ≤ 40) (hi : i < n) (hv : v < 6)
    (h1 : post 1) (h0 : so_NW P n (i + 1) v → post 0) : wpX_wantedAfter post (nI n, cm, sd, ce, ld, ol, ob, dp, pc, a1, a2, a3, a4, a5, a6, a7, a8, a9, a10, a11, a12) (nI i) (nI v) := by
  have key : ∀ m j, j + m = n → i + 1 ≤ j → (∀ q, i + 1 ≤ q → q < j → so_k P q ≤ 7 ∧ ¬ so_rd P q v) → wX_wantedAfter_4 post (nI v) (nI n) cm sd ce ld ol ob dp pc a1 a2 a3 a4 a5 a6 a7 a8 a9 a10 a11 a12 (m + 1) (nI j) := by
    intro m
    induction m with
    | zero =>
      intro j hj _ _
      unfold wX_wantedAfter_4
      refine ib_ok hR hn (show j ≤ 40 by omega) ?_ ?_
      · exact fun _ => br_f (by decide) h1
      · exact fun z _ => absurd z (by omega)
    | succ m ih =>
      intro j hj hij hq
      unfold wX_wantedAfter_4
      refine ib_ok hR hn (show j ≤ 40 by omega) ?_ ?_
      · exact fun _ => br_f (by decide) h1
      refine fun z zk => br_t rfl ?_
      refine rd_ok hR hn z zk hv (fun _ => br_f (by decide) h1) (fun zr => br_t rfl ?_)
      have hq' : ∀ q, i + 1 ≤ q → q < j + 1 → so_k P q ≤ 7 ∧ ¬ so_rd P q v := by
        intro q q1 q2
        by_cases c : q = j
        · rw [c]
          exact ⟨zk, zr⟩
        · exact hq q q1 (by omega)
      have nx := ih (j + 1) (by omega) (by omega) hq'
      refine ws_ok hR hn z (fun k6 => ?_) (fun k7 => br_f (nm_1 v (by omega)) (nm_r (nI_1 j) nx))
      refine pk_eq (so_x P j) v (fun e => h0 ⟨j, hij, z, k6, e, fun q q1 q2 => hq' q q1 (by omega)⟩) (fun _ => nm_r (nI_1 j) nx) (ha := by have := (hR j z).2.2.1; omega)
  exact nm_r (nI_1 i) ⟨n - (i + 1) + 1, key (n - (i + 1)) (i + 1) (by omega) (Nat.le_refl _) (fun q q1 q2 => absurd q1 (by omega))⟩
def fe_Q (P : so_P) (n i v : Nat) (z : Int32) (L : Nat → Nat) (d : Nat) (L' : Nat → Nat) (d' nm : Nat) : Prop :=
  d ≤ d' ∧ d' ≤ d + 1 ∧ L' (d' - 1) = nm ∧ (∀ j, j < d' - 1 → ly_has L d (L' j)) ∧ (∀ w, ly_has L d w → w ≠ v → ly_has L' (d' - 1) w) ∧
  (ly_has L' (d' - 1) v ∨ (z = 0 ∧ ((so_k P i ≤ 6 ∧ so_x P i = v) ∨ so_NW P n (i + 1) v))) ∧ (L (d - 1) ≠ v → 2 ≤ d' ∧ L' (d' - 2) = L (d - 1))
theorem fe_53 {post : St1 → Prop} {len cm sd ol ob dp pc : Int32} {a1 a2 a3 a4 a5 a6 a7 a8 a9 a10 a11 a12 : Nat → Int32} {P : so_P} {n i v q nm : Nat} {z : Int32} {p c T l : Nat} {L : Nat → Nat} {d : Nat} {g : mc_X → mc_X} (h : cp_P a6 a7 a8 p c T l L d g) (hd : d ≤ 13) (hc : c < 560) (hq : q < d) (e : L q = v) (hv : v < 6) (h9 : 9 ≤ nm) (hnm : ∀ j, j < d → L j ≠ nm)
    (hp : ∀ (c' : Nat) (b6 b7 b8 : Nat → Int32) (L' : Nat → Nat) (d' : Nat), c ≤ c' → c' ≤ c + 1 → cx_E a6 a7 b6 b7 c → cp_P b6 b7 b8 p c' (T + 1) l L' d' (fun x => (upd (g x).1 nm ((g x).1 v), (g x).2)) → fe_Q P n i v z L d L' d' nm → post (len, cm, sd, nI c', nI d', ol, ob, dp, pc, a1, a2, a3, a4, a5, b6, b7, b8, a9, a10, a11, a12)) :
    wX_fetch_53 post (nI v) len cm sd (nI c) (nI d) ol ob dp pc a1 a2 a3 a4 a5 a6 a7 a8 a9 a10 a11 a12 := by
  obtain ⟨h1, h2, h3, h4⟩ := h
  refine di_ok (by omega) (by omega) h3 h4 hq e ?_
  refine wr_ok hc (show (1 : Int32).toInt8.toInt32 = 1 from rfl) ?_
  refine pl_ok (w := 9) (by omega) (by omega) ?_
  refine hp (c + 1) _ _ _ (ly_u L d nm) (d + 1) (by omega) (Nat.le_refl _) cx_u ⟨by omega, ?_, fun j hj => ?_, fun i j hi hj ee => ?_⟩ ⟨by omega, Nat.le_refl _, ?_, fun j hj => ?_, fun w hw _ => ?_, Or.inl ?_, fun hne => ⟨by omega, ?_⟩⟩
  · have t := sg_dup nm q h2 h1 (by omega) hq hnm
    rw [e] at t
    exact t
  · by_cases c1 : j = d
    · rw [c1, pk_us, ly_us, show min nm 9 = 9 by omega]
    · rw [pk_un c1, ly_un c1, h3 j (by omega)]
  · by_cases c1 : i = d
    · by_cases c2 : j = d
      · omega
      · rw [c1, ly_us, ly_un c2] at ee
        exact absurd ee.symm (hnm j (by omega))
    · by_cases c2 : j = d
      · rw [c2, ly_us, ly_un c1] at ee
        exact absurd ee (hnm i (by omega))
      · rw [ly_un c1, ly_un c2] at ee
        exact h4 i j (by omega) (by omega) ee
  · exact ly_us
  · exact ⟨j, by omega, (ly_un (by omega)).symm⟩
  · obtain ⟨j, j1, j2⟩ := hw
    exact ⟨j, by omega, (ly_un (by omega)).trans j2⟩
  · exact ⟨q, by omega, (ly_un (by omega)).trans e⟩
  · rw [show d + 1 - 2 = d - 1 by omega]
    exact ly_un (by omega)
theorem fe_23 {post : St1 → Prop} {len cm sd ol ob dp pc : Int32} {a1 a2 a3 a4 a5 a6 a7 a8 a9 a10 a11 a12 : Nat → Int32} {P : so_P} {n i v q nm : Nat} {p c T l : Nat} {L : Nat → Nat} {d : Nat} {g : mc_X → mc_X} (h : cp_P a6 a7 a8 p c T l L d g) (hd : d ≤ 13) (hc : c < 560) (hq : q < d) (e : L q = v) (hv : v < 6) (h9 : 9 ≤ nm) (hnm : ∀ j, j < d → L j ≠ nm)
    (hlast : (so_k P i ≤ 6 ∧ so_x P i = v) ∨ so_NW P n (i + 1) v)
    (hp : ∀ (c' : Nat) (b6 b7 b8 : Nat → Int32) (L' : Nat → Nat) (d' : Nat), c ≤ c' → c' ≤ c + 1 → cx_E a6 a7 b6 b7 c → cp_P b6 b7 b8 p c' (T + 1) l L' d' (fun x => (upd (g x).1 nm ((g x).1 v), (g x).2)) → fe_Q P n i v 0 L d L' d' nm → post (len, cm, sd, nI c', nI d', ol, ob, dp, pc, a1, a2, a3, a4, a5, b6, b7, b8, a9, a10, a11, a12)) :
    wX_fetch_23 post (nI v) 0 1 len cm sd (nI c) (nI d) ol ob dp pc a1 a2 a3 a4 a5 a6 a7 a8 a9 a10 a11 a12 := by
  refine br_f (by decide) (br_t rfl ?_)
  refine pu_ok h (by omega) hc hq (by omega) e (fun c' b6 b7 b8 q1 q2 q3 q4 => ⟨?_, ?_⟩)
  · rw [ix_0 (by omega)]
    exact vp_in_nI (by omega) (by omega)
  · obtain ⟨h1, h2, h3, h4⟩ := q4
    have tp : mc_pl L q (d - 1) (d - 1) = v := (ly_top_pl hq).trans e
    have nn : ∀ j, j < d → mc_pl L q (d - 1) j ≠ nm := fun j hj => hnm _ (mc_sg_lt (by omega) hq hj)
    refine nm_r (e' := upd b8 (d - 1) 9) (by rw [ix_0 (by omega), nI_clamp (by omega)]) ?_
    refine hp c' b6 b7 _ (ly_u (mc_pl L q (d - 1)) (d - 1) nm) d q1 q2 q3 ⟨h1, ?_, fun j hj => ?_, fun i j hi hj ee => ?_⟩ ⟨Nat.le_refl _, by omega, ly_us, fun j hj => ?_, fun w hw hne => ?_, Or.inr ⟨rfl, hlast⟩, fun hne => ?_⟩
    · refine sg_L h2 (fun x j hj => ?_) (fun _ => rfl)
      by_cases c1 : j = d - 1
      · rw [c1, tp, ly_us]
        exact pk_us.symm
      · rw [ly_un c1]
        exact (pk_un (nn j hj)).symm
    · by_cases c1 : j = d - 1
      · rw [c1, pk_us, ly_us, show min nm 9 = 9 by omega]
        rfl
      · rw [pk_un c1, ly_un c1, h3 j hj]
    · by_cases c1 : i = d - 1
      · by_cases c2 : j = d - 1
        · omega
        · rw [c1, ly_us, ly_un c2] at ee
          exact absurd ee.symm (nn j hj)
      · by_cases c2 : j = d - 1
        · rw [c2, ly_us, ly_un c1] at ee
          exact absurd ee (nn i hi)
        · rw [ly_un c1, ly_un c2] at ee
          exact h4 i j hi hj ee
    · refine ⟨mc_sg q (d - 1) j, mc_sg_lt (by omega) hq (by omega), ?_⟩
      rw [ly_un (by omega)]
      rfl
    · obtain ⟨j, j1, j2⟩ := ly_has_pl hw hq
      have j3 : j ≠ d - 1 := fun z => hne (by rw [← j2, z, tp])
      exact ⟨j, by omega, (ly_un j3).trans j2⟩
    · have hq' : q ≠ d - 1 := fun z => hne (by rw [← z, e])
      refine ⟨by omega, ?_⟩
      rw [ly_un (by omega)]
      unfold mc_pl mc_sg
      rw [if_neg (by omega), if_pos (by omega), show d - 2 + 1 = d - 1 by omega]
theorem fe_ok {post : St1 → Prop} {cm sd ol ob dp pc : Int32} {a1 a2 a3 a4 a5 a6 a7 a8 a9 a10 a11 a12 : Nat → Int32} {P : so_P} {n i v q nm : Nat} {z : Int32} {p c T l : Nat} {L : Nat → Nat} {d : Nat} {g : mc_X → mc_X} (hR : so_R P n a1 a2 a3 a4) (hn : n ≤ 40) (hi : i < n) (hz : z = 0 ∨ z = 1) (h : cp_P a6 a7 a8 p c T l L d g) (hd : d ≤ 13) (hc : c < 560) (hq : q < d) (e : L q = v) (hv : v < 6) (h9 : 9 ≤ nm) (hnm : ∀ j, j < d → L j ≠ nm)
    (hp : ∀ (c' : Nat) (b6 b7 b8 : Nat → Int32) (L' : Nat → Nat) (d' : Nat), c ≤ c' → c' ≤ c + 1 → cx_E a6 a7 b6 b7 c → cp_P b6 b7 b8 p c' (T + 1) l L' d' (fun x => (upd (g x).1 nm ((g x).1 v), (g x).2)) → fe_Q P n i v z L d L' d' nm → post (nI n, cm, sd, nI c', nI d', ol, ob, dp, pc, a1, a2, a3, a4, a5, b6, b7, b8, a9, a10, a11, a12)) :
    wpX_fetch post (nI n, cm, sd, nI c, nI d, ol, ob, dp, pc, a1, a2, a3, a4, a5, a6, a7, a8, a9, a10, a11, a12) (nI i) (nI v) z := by
  have hlast : ((so_k P i ≤ 6 ∧ so_x P i = v) ∨ so_NW P n (i + 1) v) → wX_fetch_23 post (nI v) z 1 (nI n) cm sd (nI c) (nI d) ol ob dp pc a1 a2 a3 a4 a5 a6 a7 a8 a9 a10 a11 a12 := by
    intro hl
    rcases hz with ez | ez
    · subst ez
      exact fe_23 h hd hc hq e hv h9 hnm hl hp
    · subst ez
      exact br_f (by decide) (br_f (by decide) (fe_53 h hd hc hq e hv h9 hnm hp))
  have hw : wpX_wantedAfter (fun r_146 => (((r_146 = 0 → (wX_fetch_18 post (nI v) z (nI n) cm sd (nI c) (nI d) ol ob dp pc a1 a2 a3 a4 a5 a6 a7 a8 a9 a10 a11 a12)) ∧ (¬ r_146 = 0 → (wX_fetch_23 post (nI v) z 0 (nI n) cm sd (nI c) (nI d) ol ob dp pc a1 a2 a3 a4 a5 a6 a7 a8 a9 a10 a11 a12))))) (nI n, cm, sd, nI c, nI d, ol, ob, dp, pc, a1, a2, a3, a4, a5, a6, a7, a8, a9, a10, a11, a12) (nI i) (nI v) :=
    wa_ok hR hn hi hv (br_f (by decide) (br_t rfl (fe_53 h hd hc hq e hv h9 hnm hp))) (fun nw => br_t rfl (hlast (Or.inr nw)))
  unfold wpX_fetch
  refine ws_ok hR hn hi ?_ ?_
  rotate_left 1
  · exact fun k7 => br_f (nm_1 v (by omega)) hw
  intro k6
  exact pk_eq (so_x P i) v (fun ex => hlast (Or.inl ⟨k6, ex⟩)) (fun _ => hw) (ha := by have := (hR i hi).2.2.1; omega)
end
section
theorem se_ok {post : St1 → Prop} {len cm sd ol ob dp pc : Int32} {a1 a2 a3 a4 a5 a6 a7 a8 a9 a10 a11 a12 : Nat → Int32} {v nm : Nat} {p c T l : Nat} {L : Nat → Nat} {d : Nat} {g : mc_X → mc_X} (h : cp_P a6 a7 a8 p c T l L d g) (hd : d ≤ 13) (hd1 : 1 ≤ d) (hc : c + 2 ≤ 560) (hv : v < 6) (h9 : 9 ≤ nm) (ht : L (d - 1) = nm)
    (hp : ∀ (c' : Nat) (b6 b7 b8 : Nat → Int32) (L' : Nat → Nat) (d' : Nat), c ≤ c' → c' ≤ c + 2 → cx_E a6 a7 b6 b7 c → cp_P b6 b7 b8 p c' (T + 2) l L' d' (fun x => (upd (g x).1 v ((g x).1 nm), (g x).2)) →
      (∀ j, j < d' → L' j = v ∨ ly_has L (d - 1) (L' j)) → ly_has L' d' v → (∀ w, ly_has L (d - 1) w → ly_has L' d' w) → post (len, cm, sd, nI c', nI d', ol, ob, dp, pc, a1, a2, a3, a4, a5, b6, b7, b8, a9, a10, a11, a12)) :
    wpX_settle post (len, cm, sd, nI c, nI d, ol, ob, dp, pc, a1, a2, a3, a4, a5, a6, a7, a8, a9, a10, a11, a12) (nI v) := by
  obtain ⟨h1, h2, h3, h4⟩ := h
  by_cases hh : ly_has L d v
  · obtain ⟨q, hq, e⟩ := hh
    have hqd : q ≠ d - 1 := fun z => absurd (e.symm.trans ((congrArg L z).trans ht)) (by omega)
    refine di_ok (by omega) (by omega) h3 h4 hq e ?_
    refine br_f (nI_pos (by omega)) ?_
    refine pu_ok ⟨h1, h2, h3, h4⟩ (by omega) (by omega) hq (by omega) e (fun c' b6 b7 b8 q1 q2 q3 q4 => ?_)
    refine wr_ok (show c' < 560 by omega) (show (8 : Int32).toInt8.toInt32 = 8 from rfl) ?_
    refine nm_r (ix_0 (by omega)) ?_
    refine ⟨?_, ?_⟩
    · rw [ix_0 (by omega)]
      exact vp_in_nI (by omega) (by omega)
    · obtain ⟨g1, g2, g3, g4⟩ := q4
      have tp : mc_pl L q (d - 1) (d - 1) = v := (ly_top_pl hq).trans e
      have t2 : mc_pl L q (d - 1) (d - 2) = nm := by
        unfold mc_pl mc_sg
        rw [if_neg (by omega), if_pos (by omega), show d - 2 + 1 = d - 1 by omega, ht]
      have nv : ∀ j, j < d - 1 → mc_pl L q (d - 1) j ≠ v := fun j hj z => absurd (g4 j (d - 1) (by omega) (by omega) (z.trans tp.symm)) (by omega)
      refine nm_r (e' := upd b8 (d - 2) (nI v)) (by rw [ix_0 (by omega), nI_clamp (by omega), la_b v (by omega), show d - 1 - 1 = d - 2 by omega]) ?_
      refine hp (c' + 1) _ _ _ (ly_u (mc_pl L q (d - 1)) (d - 2) v) (d - 1) (by omega) (by omega) (cx_t q3 cx_u q1) ⟨by omega, ?_, fun j hj => ?_, fun i j hi hj ee => ?_⟩ (fun j hj => ?_) ⟨d - 2, by omega, ly_us⟩ (fun w hw => ?_)
      · refine sg_L (sg_drop g2 g1 (by omega) (by omega)) (fun x j hj => ?_) (fun _ => rfl)
        by_cases c1 : j = d - 2
        · rw [c1, t2, ly_us]
          exact pk_us.symm
        · rw [ly_un c1]
          exact (pk_un (nv j hj)).symm
      · by_cases c1 : j = d - 2
        · rw [c1, pk_us, ly_us, show min v 9 = v by omega]
        · rw [pk_un c1, ly_un c1, g3 j (by omega)]
      · by_cases c1 : i = d - 2
        · by_cases c2 : j = d - 2
          · omega
          · rw [c1, ly_us, ly_un c2] at ee
            exact absurd ee.symm (nv j hj)
        · by_cases c2 : j = d - 2
          · rw [c2, ly_us, ly_un c1] at ee
            exact absurd ee (nv i hi)
          · rw [ly_un c1, ly_un c2] at ee
            exact g4 i j (by omega) (by omega) ee
      · by_cases c1 : j = d - 2
        · rw [c1, ly_us]
          exact Or.inl rfl
        · rw [ly_un c1]
          refine Or.inr ⟨mc_sg q (d - 1) j, ?_, rfl⟩
          unfold mc_sg
          split <;> omega
      · obtain ⟨j0, j1, j2⟩ := hw
        by_cases cv : w = v
        · rw [cv]
          exact ⟨d - 2, by omega, ly_us⟩
        · obtain ⟨j, k1, k2⟩ := ly_has_pl (L := L) (d := d) (i := q) ⟨j0, by omega, j2⟩ hq
          have n1 : j ≠ d - 1 := fun z => cv (by rw [← k2, z, tp])
          have n2 : j ≠ d - 2 := by
            intro z
            rw [z, t2] at k2
            have := h4 j0 (d - 1) (by omega) (by omega) (j2.trans (k2.symm.trans ht.symm))
            omega
          exact ⟨j, by omega, (ly_un n2).trans k2⟩
  · refine di_no (by omega) (by omega) h3 hh ?_
    refine br_t (by decide) ⟨?_, ?_⟩
    · rw [ix_0 (by omega)]
      exact vp_in_nI (by omega) (by omega)
    · have nv : ∀ j, j < d → L j ≠ v := fun j hj z => hh ⟨j, hj, z⟩
      refine nm_r (e' := upd a8 (d - 1) (nI v)) (by rw [ix_0 (by omega), nI_clamp (by omega), la_b v (by omega)]) ?_
      refine hp c _ _ _ (ly_u L (d - 1) v) d (by omega) (by omega) cx_r ⟨h1, ?_, fun j hj => ?_, fun i j hi hj ee => ?_⟩ (fun j hj => ?_) ⟨d - 1, by omega, ly_us⟩ (fun w hw => ?_)
      · refine sg_L (sg_T (by omega) h2) (fun x j hj => ?_) (fun _ => rfl)
        by_cases c1 : j = d - 1
        · rw [c1, ht, ly_us]
          exact pk_us.symm
        · rw [ly_un c1]
          exact (pk_un (nv j hj)).symm
      · by_cases c1 : j = d - 1
        · rw [c1, pk_us, ly_us, show min v 9 = v by omega]
        · rw [pk_un c1, ly_un c1, h3 j hj]
      · by_cases c1 : i = d - 1
        · by_cases c2 : j = d - 1
          · omega
          · rw [c1, ly_us, ly_un c2] at ee
            exact absurd ee.symm (nv j hj)
        · by_cases c2 : j = d - 1
          · rw [c2, ly_us, ly_un c1] at ee
            exact absurd ee (nv i hi)
          · rw [ly_un c1, ly_un c2] at ee
            exact h4 i j hi hj ee
      · by_cases c1 : j = d - 1
        · rw [c1, ly_us]
          exact Or.inl rfl
        · rw [ly_un c1]
          exact Or.inr ⟨j, by omega, rfl⟩
      · obtain ⟨j0, j1, j2⟩ := hw
        exact ⟨j0, by omega, (ly_un (by omega)).trans j2⟩
def md_Q (P : so_P) (n i : Nat) (L : Nat → Nat) (d : Nat) (g : mc_X → mc_X) (L' : Nat → Nat) (d' : Nat) (g' : mc_X → mc_X) (res : mc_X → Int32) : Prop :=
  1 ≤ d' ∧ d' ≤ d + 1 ∧ L' (d' - 1) = 9 ∧ (∀ x, (g' x).1 9 = res (g x)) ∧ (∀ x w, w < 9 → (g' x).1 w = (g x).1 w) ∧ (∀ x, (g' x).2 = (g x).2) ∧
  (∀ j, j < d' - 1 → ly_has L d (L' j)) ∧ (∀ w, ly_has L d w → ly_has L' (d' - 1) w ∨ (w < 6 ∧ ((so_k P i ≤ 6 ∧ so_x P i = w) ∨ so_NW P n (i + 1) w)))
theorem ca_65 {post : St1 → Prop} {len cm sd ol ob dp pc : Int32} {a1 a2 a3 a4 a5 a6 a7 a8 a9 a10 a11 a12 : Nat → Int32} {P : so_P} {n i : Nat} {p c T l : Nat} {L : Nat → Nat} {d : Nat} {g : mc_X → mc_X} (hR : so_R P n a1 a2 a3 a4) (hn : n ≤ 40) (hi : i < n) (hk : 2 ≤ so_k P i) (hk' : so_k P i ≤ 6) (h : cp_P a6 a7 a8 p c T l L d g) (hd : d ≤ 15) (hd2 : 2 ≤ d) (hc : c < 560) (e1 : L (d - 2) = 9) (e2 : L (d - 1) = 10)
    (hp : ∀ (b6 b7 : Nat → Int32), cx_E a6 a7 b6 b7 c → cp_P b6 b7 a8 p (c + 1) (T + 1) l L (d - 1) (fun x => (upd (g x).1 9 (mc_cmp (nI (so_k P i)) ((g x).1 9) ((g x).1 10)), (g x).2)) → post (len, cm, sd, nI (c + 1), nI (d - 1), ol, ob, dp, pc, a1, a2, a3, a4, a5, b6, b7, a8, a9, a10, a11, a12)) :
    wX_compileArithmetic_65 post (nI i) len cm sd (nI c) (nI d) ol ob dp pc a1 a2 a3 a4 a5 a6 a7 a8 a9 a10 a11 a12 := by
  obtain ⟨h1, h2, h3, h4⟩ := h
  refine ⟨pk_in i 40 (by omega), ?_⟩
  refine wr_ok hc (o' := nI (so_k P i)) (by rw [nI_clamp (by omega), (hR i hi).1, la_b _ (by omega)]) ?_
  refine nm_r (ix_0 (by omega)) (hp _ _ cx_u ⟨by omega, sg_ar (so_k P i) 9 10 h2 h1 hk hk' (by omega) hd2 e1 e2 (fun j hj z => ?_), fun j hj => h3 j (by omega), fun a b ha hb e => h4 a b (by omega) (by omega) e⟩)
  have := h4 j (d - 2) (by omega) (by omega) (z.trans e1.symm)
  omega
theorem ca_ok {post : St1 → Prop} {cm sd ol ob dp pc : Int32} {a1 a2 a3 a4 a5 a6 a7 a8 a9 a10 a11 a12 : Nat → Int32} {P : so_P} {n i : Nat} {p c T l : Nat} {L : Nat → Nat} {d : Nat} {g : mc_X → mc_X} (hR : so_R P n a1 a2 a3 a4) (hn : n ≤ 40) (hi : i < n) (hk : 2 ≤ so_k P i) (hk' : so_k P i ≤ 6) (h : cp_P a6 a7 a8 p c T l L d g) (hd : d ≤ 9) (hc : c + 3 ≤ 560) (hL9 : ∀ j, j < d → L j < 9)
    (hy : ly_has L d (so_y P i)) (hz : ly_has L d (so_z P i))
    (hp : ∀ (c' : Nat) (b6 b7 b8 : Nat → Int32) (L' : Nat → Nat) (d' : Nat) (g' : mc_X → mc_X), c ≤ c' → c' ≤ c + 3 → cx_E a6 a7 b6 b7 c → cp_P b6 b7 b8 p c' (T + 3) l L' d' g' →
      md_Q P n i L d g L' d' g' (fun x => mc_cmp (nI (so_k P i)) (x.1 (so_y P i)) (x.1 (so_z P i))) → post (nI n, cm, sd, nI c', nI d', ol, ob, dp, pc, a1, a2, a3, a4, a5, b6, b7, b8, a9, a10, a11, a12)) :
    wpX_compileArithmetic post (nI n, cm, sd, nI c, nI d, ol, ob, dp, pc, a1, a2, a3, a4, a5, a6, a7, a8, a9, a10, a11, a12) (nI i) := by
  obtain ⟨k1, k2, k3, k4, k5, k6, k7, k8, k9⟩ := hR i hi
  have hin : vp_in (nI i) 40 := pk_in i 40 (by omega)
  have hcl : (nI i).toNatClampNeg = i := nI_clamp (by omega)
  obtain ⟨qy, hqy, ey⟩ := hy
  refine ⟨hin, nm_r (e' := nI (so_y P i)) (by rw [hcl, k8 (by omega) hk']) ⟨hin, nm_r (e' := nI (so_z P i)) (by rw [hcl, k9 (by omega) hk']) ?_⟩⟩
  refine pk_eq (so_y P i) (so_z P i) (fun eyz => ?_) (fun nyz => ?_)
  · refine fe_ok hR hn hi (Or.inr rfl) h (by omega) (by omega) hqy ey k4 (nm := 9) (Nat.le_refl _) (fun j hj => by have := hL9 j hj; omega) (fun c1 b6 b7 b8 L1 d1 q1 q2 q3 q4 q5 => ?_)
    obtain ⟨f1, f2, f3, f4, f5, f6, f7⟩ := q5
    refine br_t (by rw [eyz]) ?_
    have hy1 : ly_has L1 (d1 - 1) (so_y P i) := by
      rcases f6 with z | z
      · exact z
      · exact absurd z.1 (by decide)
    obtain ⟨q, hq, eq⟩ := hy1
    obtain ⟨g1, g2, g3, g4⟩ := q4
    refine di_ok (by omega) (by omega) g3 g4 (show q < d1 by omega) eq ?_
    refine wr_ok (show c1 < 560 by omega) (show (1 : Int32).toInt8.toInt32 = 1 from rfl) ?_
    refine pl_ok (w := 9) (by omega) (by omega) ?_
    have n10 : ∀ j, j < d1 → L1 j ≠ 10 := by
      intro j hj
      by_cases c2 : j = d1 - 1
      · rw [c2, f3]; omega
      · obtain ⟨j', j1, j2⟩ := f4 j (by omega)
        have := hL9 j' j1
        omega
    have sd := sg_dup 10 q g2 g1 (by omega) (show q < d1 by omega) n10
    refine ca_65 (L := ly_u L1 d1 10) (d := d1 + 1) hR hn hi hk hk' ⟨by omega, sd, fun j hj => ?_, fun a b ha hb e => ?_⟩ (by omega) (by omega) (by omega) ?_ ?_ (fun d6 d7 r1 r2 => ?_)
    · by_cases c2 : j = d1
      · rw [c2, pk_us, ly_us]
        rfl
      · rw [pk_un c2, ly_un c2, g3 j (by omega)]
    · by_cases c2 : a = d1
      · by_cases c3 : b = d1
        · omega
        · rw [c2, ly_us, ly_un c3] at e
          exact absurd e.symm (n10 b (by omega))
      · by_cases c3 : b = d1
        · rw [c3, ly_us, ly_un c2] at e
          exact absurd e (n10 a (by omega))
        · rw [ly_un c2, ly_un c3] at e
          exact g4 a b (by omega) (by omega) e
    · rw [show d1 + 1 - 2 = d1 - 1 by omega, ly_un (by omega), f3]
    · rw [show d1 + 1 - 1 = d1 by omega, ly_us]
    · refine hp (c1 + 1 + 1) _ _ _ _ _ _ (by omega) (by omega) (cx_t q3 (cx_t cx_u r1 (by omega)) q1) r2 ⟨by omega, by omega, ?_, fun x => ?_, fun x w hw => ?_, fun x => rfl, fun j hj => ?_, fun w hw => ?_⟩
      · rw [show d1 + 1 - 1 - 1 = d1 - 1 by omega, ly_un (by omega), f3]
      · dsimp only
        rw [pk_us, pk_us, pk_un (show (9 : Nat) ≠ 10 by omega), pk_us, eq, pk_un (show so_y P i ≠ 9 by omega), ← eyz]
      · dsimp only
        rw [pk_un (by omega), pk_un (by omega), pk_un (by omega)]
      · rw [ly_un (by omega)]
        exact f4 j (by omega)
      · rw [show d1 + 1 - 1 - 1 = d1 - 1 by omega]
        have hw1 : ly_has L1 (d1 - 1) w := by
          by_cases c2 : w = so_y P i
          · rw [c2]
            exact ⟨q, hq, eq⟩
          · exact f5 w hw c2
        obtain ⟨j, j1, j2⟩ := hw1
        exact Or.inl ⟨j, j1, (ly_un (by omega)).trans j2⟩
  · refine fe_ok hR hn hi (Or.inl rfl) h (by omega) (by omega) hqy ey k4 (nm := 9) (Nat.le_refl _) (fun j hj => by have := hL9 j hj; omega) (fun c1 b6 b7 b8 L1 d1 q1 q2 q3 q4 q5 => ?_)
    obtain ⟨f1, f2, f3, f4, f5, f6, f7⟩ := q5
    refine br_f (by rw [nI_eq (by omega) (by omega)]; exact nyz) ?_
    obtain ⟨qz, hqz, ez⟩ := f5 _ hz (fun e => nyz e.symm)
    have n10 : ∀ j, j < d1 → L1 j ≠ 10 := by
      intro j hj
      by_cases c2 : j = d1 - 1
      · rw [c2, f3]; omega
      · obtain ⟨j', j1, j2⟩ := f4 j (by omega)
        have := hL9 j' j1
        omega
    refine fe_ok hR hn hi (Or.inl rfl) q4 (by omega) (by omega) (show qz < d1 by omega) ez k5 (nm := 10) (by omega) n10 (fun c2 e6 e7 e8 L2 d2 p1 p2 p3 p4 p5 => ?_)
    obtain ⟨m1, m2, m3, m4, m5, m6, m7⟩ := p5
    obtain ⟨m8, m9⟩ := m7 (by rw [f3]; omega)
    refine ca_65 hR hn hi hk hk' p4 (by omega) m8 (by omega) (m9.trans f3) m3 (fun d6 d7 r1 r2 => ?_)
    have J2 := p4.2.2.2
    refine hp (c2 + 1) _ _ _ _ _ _ (by omega) (by omega) (cx_t q3 (cx_t p3 r1 p1) q1) r2 ⟨by omega, by omega, ?_, fun x => ?_, fun x w hw => ?_, fun x => rfl, fun j hj => ?_, fun w hw => ?_⟩
    · rw [show d2 - 1 - 1 = d2 - 2 by omega, m9, f3]
    · dsimp only
      rw [pk_us, pk_us, pk_un (show (9 : Nat) ≠ 10 by omega), pk_us, pk_un (show so_z P i ≠ 9 by omega)]
    · dsimp only
      rw [pk_un (by omega), pk_un (by omega), pk_un (by omega)]
    · obtain ⟨j', j1, j2⟩ := m4 j (by omega)
      have nj : j' ≠ d1 - 1 := by
        intro z
        rw [z, f3] at j2
        have := J2 j (d2 - 2) (by omega) (by omega) (by rw [m9, f3, j2])
        omega
      rw [← j2]
      exact f4 j' (by omega)
    · have h2 : ∀ u, ly_has L1 (d1 - 1) u → u ≠ 9 → u ≠ so_z P i → ly_has L2 (d2 - 1 - 1) u := by
        intro u hu u9 uz
        obtain ⟨j, j1, j2⟩ := hu
        obtain ⟨j', j3, j4⟩ := m5 u ⟨j, by omega, j2⟩ uz
        have : j' ≠ d2 - 2 := by
          intro z
          rw [z, m9, f3] at j4
          exact u9 j4.symm
        exact ⟨j', by omega, j4⟩
      have w9 : w ≠ 9 := by
        obtain ⟨j, j1, j2⟩ := hw
        have := hL9 j j1
        omega
      by_cases wy : w = so_y P i
      · rcases f6 with z | z
        · exact Or.inl (h2 w (by rw [wy]; exact z) w9 (by rw [wy]; exact nyz))
        · refine Or.inr ⟨by omega, ?_⟩
          rw [wy]
          exact z.2
      · have hw1 := f5 w hw wy
        by_cases wz : w = so_z P i
        · rcases m6 with z | z
          · obtain ⟨j', j3, j4⟩ := z
            have : j' ≠ d2 - 2 := by
              intro zz
              rw [zz, m9, f3] at j4
              omega
            exact Or.inl ⟨j', by omega, j4.trans wz.symm⟩
          · refine Or.inr ⟨by omega, ?_⟩
            rw [wz]
            exact z.2
        · exact Or.inl (h2 w hw1 w9 wz)
theorem lf_7 {x y z : Nat} {w : Int32} (hx : x < 6) (X : mc_X) : en_lf (st_F 7 x y z w) X = (X.1, mc_pr X.2 (X.1 x)) := by
  unfold en_lf st_F
  dsimp only
  rw [if_pos rfl]
  dsimp only
  rw [en_mx_rs, en_g_rs hx]
theorem lf_0 {x y z : Nat} {w : Int32} (hx : x < 6) (X : mc_X) : en_lf (st_F 0 x y z w) X = (upd X.1 x w, X.2) := by
  unfold en_lf st_F
  dsimp only
  rw [if_neg (by omega), if_pos rfl]
  dsimp only
  rw [en_mx_s hx]
theorem lf_1 {x y z : Nat} {w : Int32} (hx : x < 6) (hy : y < 6) (X : mc_X) : en_lf (st_F 1 x y z w) X = (upd X.1 x (X.1 y), X.2) := by
  unfold en_lf st_F
  dsimp only
  rw [if_neg (by omega), if_neg (by omega), if_pos rfl]
  dsimp only
  rw [en_mx_s hx, en_g_rs hy]
theorem lf_2 {k x y z : Nat} {w : Int32} (hk : 2 ≤ k) (hk' : k ≤ 6) (hx : x < 6) (hy : y < 6) (hz : z < 6) (X : mc_X) : en_lf (st_F k x y z w) X = (upd X.1 x (mc_cmp (nI k) (X.1 y) (X.1 z)), X.2) := by
  unfold en_lf st_F
  dsimp only
  rw [if_neg (by omega), if_neg (by omega), if_neg (by omega)]
  dsimp only
  rw [en_mx_s hx, en_g_rs hy, en_g_rs hz]
theorem cs_92 {post : St1 → Prop} {len cm sd ol ob dp pc : Int32} {a1 a2 a3 a4 a5 a6 a7 a8 a9 a10 a11 a12 : Nat → Int32} {P : so_P} {n i : Nat} {p c T l : Nat} {L L1 : Nat → Nat} {d d1 : Nat} {g1 : mc_X → mc_X} {F : en_E → en_E} {res : mc_X → Int32} (hR : so_R P n a1 a2 a3 a4) (hn : n ≤ 40) (hi : i < n) (hk : so_k P i ≤ 6) (hl : l ≤ 3) (hW : ly_W P n i l L d) (h : cp_P a6 a7 a8 p c T l L1 d1 g1) (hc : c + 2 ≤ 560)
    (hq : md_Q P n i L d (en_lf F) L1 d1 g1 res) (hres : ∀ X : mc_X, en_lf (st_F (so_k P i) (so_x P i) (so_y P i) (so_z P i) (so_w P i)) X = (upd X.1 (so_x P i) (res X), X.2))
    (hp : ∀ (c' : Nat) (b6 b7 b8 : Nat → Int32) (L' : Nat → Nat) (d' : Nat), c ≤ c' → c' ≤ c + 2 → cx_E a6 a7 b6 b7 c →
      cp_P b6 b7 b8 p c' (T + 2) l L' d' (en_lf (fun e => st_F (so_k P i) (so_x P i) (so_y P i) (so_z P i) (so_w P i) (F e))) → ly_W P n (i + 1) l L' d' → post (len, cm, sd, nI c', nI d', ol, ob, dp, pc, a1, a2, a3, a4, a5, b6, b7, b8, a9, a10, a11, a12)) :
    wX_compileStraight_92 post (nI i) len cm sd (nI c) (nI d1) ol ob dp pc a1 a2 a3 a4 a5 a6 a7 a8 a9 a10 a11 a12 := by
  obtain ⟨m1, m2, m3, m4, m5, m6, m7, m8⟩ := hq
  have hd := ly_W_d hW
  have hx := (hR i hi).2.2.1
  refine ws_ok hR hn hi (fun _ => ?_) (fun k7 => absurd k7 (by omega))
  refine se_ok h (by omega) m1 hc hx (nm := 9) (Nat.le_refl _) m3 (fun c' b6 b7 b8 L' d' q1 q2 q3 q4 q5 q6 q7 => ?_)
  obtain ⟨w1, w2, w3, w4⟩ := hW
  obtain ⟨g1', g2, g3, g4⟩ := q4
  have lt : ∀ j, j < d' → L' j < 6 + l := by
    intro j hj
    rcases q5 j hj with z | z
    · omega
    · obtain ⟨j', j1, j2⟩ := z
      obtain ⟨j2', j3, j4⟩ := m7 j' j1
      have := w2 j2' j3
      omega
  refine hp c' b6 b7 b8 L' d' q1 q2 q3 ⟨g1', ?_, g3, g4⟩ ⟨g4, lt, fun nm n1 n2 => ?_, fun v hv => ?_⟩
  · refine sg_L g2 (fun x j hj => ?_) (fun x => ?_)
    · rw [← en_lf_cp, hres]
      dsimp only
      have l9 := lt j hj
      by_cases ex : L' j = so_x P i
      · rw [ex, pk_us, pk_us, m4]
      · rw [pk_un ex, pk_un ex, m5 _ _ (by omega)]
    · rw [← en_lf_cp, hres]
      exact m6 x
  · rcases m8 nm (w3 nm n1 n2) with z | z
    · exact q7 nm z
    · omega
  · by_cases ev : v = so_x P i
    · rw [ev]
      exact Or.inl q6
    · rcases w4 v hv with z | z
      · rcases m8 v z with z' | z'
        · exact Or.inl (q7 v z')
        · rcases z'.2 with z2 | z2
          · exact absurd z2.2.symm ev
          · exact Or.inr z2
      · exact Or.inr (so_NW_nx z (fun z' => ev z'.2.symm))
theorem cs_ok {post : St1 → Prop} {cm sd ol ob dp pc : Int32} {a1 a2 a3 a4 a5 a6 a7 a8 a9 a10 a11 a12 : Nat → Int32} {P : so_P} {n i : Nat} {p c T l : Nat} {L : Nat → Nat} {d : Nat} {F : en_E → en_E} (hR : so_R P n a1 a2 a3 a4) (hn : n ≤ 40) (hi : i < n) (hk : so_k P i ≤ 7) (hl : l ≤ 3) (hW : ly_W P n i l L d) (h : cp_P a6 a7 a8 p c T l L d (en_lf F)) (hc : c + 5 ≤ 560)
    (hp : ∀ (c' : Nat) (b6 b7 b8 : Nat → Int32) (L' : Nat → Nat) (d' : Nat), c ≤ c' → c' ≤ c + 5 → cx_E a6 a7 b6 b7 c →
      cp_P b6 b7 b8 p c' (T + 5) l L' d' (en_lf (fun e => st_F (so_k P i) (so_x P i) (so_y P i) (so_z P i) (so_w P i) (F e))) → ly_W P n (i + 1) l L' d' → post (nI n, cm, sd, nI c', nI d', ol, ob, dp, pc, a1, a2, a3, a4, a5, b6, b7, b8, a9, a10, a11, a12)) :
    wpX_compileStraight post (nI n, cm, sd, nI c, nI d, ol, ob, dp, pc, a1, a2, a3, a4, a5, a6, a7, a8, a9, a10, a11, a12) (nI i) := by
  obtain ⟨k1, k2, k3, k4, k5, k6, k7, k8, k9⟩ := hR i hi
  have hin : vp_in (nI i) 40 := pk_in i 40 (by omega)
  have hcl : (nI i).toNatClampNeg = i := nI_clamp (by omega)
  have hd := ly_W_d hW
  have hrd : ∀ v, v < 6 → so_rd P i v → ly_has L d v := by
    intro v hv hr
    rcases hW.2.2.2 v hv with z | z
    · exact z
    · exact absurd hr (so_NW_in z).2.2
  have hL9 : ∀ j, j < d → L j < 9 := fun j hj => by have := hW.2.1 j hj; omega
  have fin : ∀ (c1 : Nat) (b6 b7 b8 : Nat → Int32) (L1 : Nat → Nat) (d1 : Nat) (g1 : mc_X → mc_X) (res : mc_X → Int32), so_k P i ≤ 6 → c ≤ c1 → c1 ≤ c + 3 → cx_E a6 a7 b6 b7 c → cp_P b6 b7 b8 p c1 (T + 3) l L1 d1 g1 → md_Q P n i L d (en_lf F) L1 d1 g1 res →
      (∀ X : mc_X, en_lf (st_F (so_k P i) (so_x P i) (so_y P i) (so_z P i) (so_w P i)) X = (upd X.1 (so_x P i) (res X), X.2)) → wX_compileStraight_92 post (nI i) (nI n) cm sd (nI c1) (nI d1) ol ob dp pc a1 a2 a3 a4 a5 b6 b7 b8 a9 a10 a11 a12 := by
    intro c1 b6 b7 b8 L1 d1 g1 res hk6 q1 q2 q3 q4 q5 q6
    exact cs_92 hR hn hi hk6 hl hW q4 (by omega) q5 q6 (fun c' e6 e7 e8 L' d' r1 r2 r3 r4 r5 => hp c' e6 e7 e8 L' d' (by omega) (by omega) (cx_t q3 r3 q1) r4 r5)
  refine ⟨hin, nm_r (e' := nI (so_k P i)) (by rw [hcl, k1]) ?_⟩
  refine pk_eq (so_k P i) 7 (fun z7 => ⟨hin, ?_⟩) (fun n7 => ?_)
  · rw [hcl, k7 (by omega) (by omega) (by omega)]
    obtain ⟨q, hq, e⟩ := hrd (so_x P i) k3 (Or.inl ⟨z7, rfl⟩)
    refine fe_ok hR hn hi (Or.inl rfl) h (by omega) (by omega) hq e k3 (nm := 9) (Nat.le_refl _) (fun j hj => by have := hL9 j hj; omega) (fun c1 b6 b7 b8 L1 d1 q1 q2 q3 q4 q5 => ?_)
    obtain ⟨f1, f2, f3, f4, f5, f6, f7⟩ := q5
    obtain ⟨g1, g2, g3, g4⟩ := q4
    refine wr_ok (show c1 < 560 by omega) (show (9 : Int32).toInt8.toInt32 = 9 from rfl) ?_
    refine nm_r (ix_0 (by omega)) ?_
    refine hp (c1 + 1) _ _ _ L1 (d1 - 1) (by omega) (by omega) (cx_t q3 cx_u q1) ⟨by omega, ?_, fun j hj => g3 j (by omega), fun a b ha hb ee => g4 a b (by omega) (by omega) ee⟩ ⟨fun a b ha hb ee => g4 a b (by omega) (by omega) ee, fun j hj => ?_, fun nm n1 n2 => ?_, fun v hv => ?_⟩
    · refine sg_L (sg_T (by omega) (sg_out g2 g1 (by omega) (by omega))) (fun x j hj => ?_) (fun x => ?_)
      · rw [← en_lf_cp (st_F (so_k P i) (so_x P i) (so_y P i) (so_z P i) (so_w P i)) F x, z7, lf_7 k3]
        dsimp only
        obtain ⟨j', j1, j2⟩ := f4 j hj
        have := hL9 j' j1
        rw [pk_un (by omega)]
      · rw [← en_lf_cp (st_F (so_k P i) (so_x P i) (so_y P i) (so_z P i) (so_w P i)) F x, z7, lf_7 k3]
        dsimp only
        rw [f3, pk_us]
    · obtain ⟨j', j1, j2⟩ := f4 j hj
      have := hW.2.1 j' j1
      omega
    · exact f5 nm (hW.2.2.1 nm n1 n2) (by omega)
    · rcases hW.2.2.2 v hv with z | z
      · by_cases ev : v = so_x P i
        · rcases f6 with z' | z'
          · rw [ev]
            exact Or.inl z'
          · rcases z'.2 with z2 | z2
            · omega
            · rw [ev]
              exact Or.inr z2
        · exact Or.inl (f5 v z ev)
      · exact Or.inr (so_NW_nx z (fun z' => by omega))
  · refine pk_eq (so_k P i) 0 (fun z0 => ⟨hin, ?_⟩) (fun n0 => ?_)
    · rw [hcl, (k6 z0).2]
      obtain ⟨h1, h2, h3, h4⟩ := h
      refine wr_ok (show c < 560 by omega) (show (0 : Int32).toInt8.toInt32 = 0 from rfl) ?_
      refine pl_ok (w := 9) (by omega) (by omega) ?_
      have n9 : ∀ j, j < d → L j ≠ 9 := fun j hj => by have := hL9 j hj; omega
      have sp := sg_push (n := so_w P i) 9 h2 h1 (by omega) n9
      refine fin (c + 1) _ _ _ (ly_u L d 9) (d + 1) _ (fun _ => so_w P i) (by omega) (by omega) (by omega) cx_u ⟨by omega, sg_T (by omega) sp, fun j hj => ?_, fun a b ha hb e => ?_⟩ ⟨by omega, Nat.le_refl _, ?_, fun x => ?_, fun x w hw => ?_, fun x => rfl, fun j hj => ?_, fun w hw => ?_⟩ (fun X => ?_)
      · by_cases c2 : j = d
        · rw [c2, pk_us, ly_us]
          rfl
        · rw [pk_un c2, ly_un c2, h3 j (by omega)]
      · by_cases c2 : a = d
        · by_cases c3 : b = d
          · omega
          · rw [c2, ly_us, ly_un c3] at e
            exact absurd e.symm (n9 b (by omega))
        · by_cases c3 : b = d
          · rw [c3, ly_us, ly_un c2] at e
            exact absurd e (n9 a (by omega))
          · rw [ly_un c2, ly_un c3] at e
            exact h4 a b (by omega) (by omega) e
      · rw [show d + 1 - 1 = d by omega, ly_us]
      · dsimp only
        rw [pk_us]
      · dsimp only
        rw [pk_un (by omega)]
      · exact ⟨j, by omega, (ly_un (by omega)).symm⟩
      · obtain ⟨j, j1, j2⟩ := hw
        exact Or.inl ⟨j, by omega, (ly_un (by omega)).trans j2⟩
      · rw [z0]
        exact lf_0 k3 X
    · refine pk_eq (so_k P i) 1 (fun z1 => ⟨hin, ?_⟩) (fun n1 => ?_)
      · rw [hcl, k8 (by omega) (by omega)]
        obtain ⟨q, hq, e⟩ := hrd (so_y P i) k4 (Or.inr (Or.inl ⟨z1, rfl⟩))
        refine fe_ok hR hn hi (Or.inl rfl) h (by omega) (by omega) hq e k4 (nm := 9) (Nat.le_refl _) (fun j hj => by have := hL9 j hj; omega) (fun c1 b6 b7 b8 L1 d1 q1 q2 q3 q4 q5 => ?_)
        obtain ⟨f1, f2, f3, f4, f5, f6, f7⟩ := q5
        obtain ⟨g1, g2, g3, g4⟩ := q4
        refine fin c1 _ _ _ L1 d1 _ (fun X => X.1 (so_y P i)) (by omega) q1 (by omega) q3 ⟨g1, sg_T (by omega) g2, g3, g4⟩ ⟨by omega, f2, f3, fun x => ?_, fun x w hw => ?_, fun x => rfl, f4, fun w hw => ?_⟩ (fun X => ?_)
        · dsimp only
          rw [pk_us]
        · dsimp only
          rw [pk_un (by omega)]
        · by_cases ew : w = so_y P i
          · rcases f6 with z' | z'
            · rw [ew]
              exact Or.inl z'
            · rw [ew]
              exact Or.inr ⟨k4, z'.2⟩
          · exact Or.inl (f5 w hw ew)
        · rw [z1]
          exact lf_1 k3 k4 X
      · exact ca_ok hR hn hi (by omega) (by omega) h (by omega) (by omega) hL9 (hrd _ k4 (Or.inr (Or.inr ⟨by omega, by omega, Or.inl rfl⟩))) (hrd _ k5 (Or.inr (Or.inr ⟨by omega, by omega, Or.inr rfl⟩)))
          (fun c1 b6 b7 b8 L1 d1 g1 q1 q2 q3 q4 q5 => fin c1 b6 b7 b8 L1 d1 g1 _ (by omega) q1 q2 q3 q4 q5 (fun X => lf_2 (by omega) (by omega) k3 k4 k5 X))
end
section
def bf_K (a9 : Nat → Int32) : List se_f → Prop
  | [] => True
  | f :: rest => (1 ≤ rest.length → a9 (rest.length - 1) = nI f.1) ∧ (rest.length = 0 → f.1 = 0) ∧ f.1 ≤ 11 ∧ bf_K a9 rest
theorem bf_ext {a9 b9 : Nat → Int32} : ∀ {fs : List se_f}, (∀ j, j + 1 < fs.length → b9 j = a9 j) → bf_K a9 fs → bf_K b9 fs := by
  intro fs
  induction fs with
  | nil => intro _ _; exact trivial
  | cons f rest ih =>
    intro hj h
    obtain ⟨h1, h2, h3, h4⟩ := h
    have hj' : ∀ j, j < rest.length → b9 j = a9 j := fun j hh => hj j (by show j + 1 < rest.length + 1; omega)
    exact ⟨fun z => (hj' _ (by omega)).trans (h1 z), h2, h3, ih (fun j hh => hj' j (by omega)) h4⟩
theorem bf_31 {post : Int32 → St1 → Prop} {cm sd ce ld ol ob dp pc : Int32} {a1 a2 a3 a4 a5 a6 a7 a8 a9 a10 a11 a12 : Nat → Int32} {P : so_P} {n i r m : Nat} {fs : List se_f} (hn : n ≤ 40) (hi : i < n) (hr : fs.length = r + 1) (hs : se_F P i = some fs) (hk : so_k P i = 8 ∨ so_k P i = 10) (hK : bf_K a9 fs)
    (hno : se_F P n = none → post 0 (nI n, cm, sd, ce, ld, ol, ob, dp, pc, a1, a2, a3, a4, a5, a6, a7, a8, a9, a10, a11, a12))
    (ih : ∀ (b9 : Nat → Int32) (gs : List se_f) (r' : Nat), se_F P (i + 1) = some gs → gs.length = r' + 1 → bf_K b9 gs → wX_blocksFit_4 post (nI n) cm sd ce ld ol ob dp pc m (nI r') (nI (i + 1)) a1 a2 a3 a4 a5 a6 a7 a8 b9 a10 a11 a12) :
    wX_blocksFit_31 post (wX_blocksFit_4 post (nI n) cm sd ce ld ol ob dp pc m) (nI r) (nI i) (nI (so_k P i)) (nI n) cm sd ce ld ol ob dp pc a1 a2 a3 a4 a5 a6 a7 a8 a9 a10 a11 a12 := by
  have hl := (se_F_len hs).2
  cases fs with
  | nil => exact absurd hr (by simp)
  | cons f rest =>
    have hr' : rest.length = r := by
      have : rest.length + 1 = r + 1 := hr
      omega
    refine pk_eq r 3 (fun z => hno (se_F_no (i := i + 1) ?_ (by omega))) (fun z => ?_)
    · rw [se_F_s hs, se_S_2 hk, if_pos (by omega)]
    · refine ⟨pk_in r 4 (by omega), nm_r (e' := upd a9 r (nI (so_k P i))) (by rw [nI_clamp (by omega), la_b _ (by omega)]) (nm_r (nI_1 r) (nm_r (nI_1 i) ?_))⟩
      refine ih _ ((so_k P i, so_x P i, (fun e => e), (fun e => e)) :: f :: rest) (r + 1) ?_ ?_ ⟨fun _ => ?_, fun z' => absurd z' (by simp), by dsimp only; omega, bf_ext (fun j hj => pk_un (by omega)) hK⟩
      · rw [se_F_s hs, se_S_2 hk, if_neg (by omega)]
      · show rest.length + 1 + 1 = r + 1 + 1
        omega
      · show upd a9 r (nI (so_k P i)) (rest.length + 1 - 1) = nI (so_k P i)
        rw [show rest.length + 1 - 1 = r by omega, pk_us]
theorem bf_4 {post : Int32 → St1 → Prop} {cm sd ce ld ol ob dp pc : Int32} {a1 a2 a3 a4 a5 a6 a7 a8 a10 a11 a12 : Nat → Int32} {P : so_P} {n : Nat} (hR : so_R P n a1 a2 a3 a4) (hn : n ≤ 40)
    (h1 : ∀ (b9 : Nat → Int32) (f : se_f), se_F P n = some [f] → post 1 (nI n, cm, sd, ce, ld, ol, ob, dp, pc, a1, a2, a3, a4, a5, a6, a7, a8, b9, a10, a11, a12)) (h0 : ∀ (b9 : Nat → Int32), (∀ f, se_F P n ≠ some [f]) → post 0 (nI n, cm, sd, ce, ld, ol, ob, dp, pc, a1, a2, a3, a4, a5, a6, a7, a8, b9, a10, a11, a12)) :
    ∀ m i, i + m = n → ∀ (b9 : Nat → Int32) (fs : List se_f) (r : Nat), se_F P i = some fs → fs.length = r + 1 → bf_K b9 fs → wX_blocksFit_4 post (nI n) cm sd ce ld ol ob dp pc (m + 1) (nI r) (nI i) a1 a2 a3 a4 a5 a6 a7 a8 b9 a10 a11 a12 := by
  have hno : ∀ (b9 : Nat → Int32), se_F P n = none → post 0 (nI n, cm, sd, ce, ld, ol, ob, dp, pc, a1, a2, a3, a4, a5, a6, a7, a8, b9, a10, a11, a12) := fun b9 e => h0 b9 (fun f z => by rw [e] at z; exact absurd z (by simp))
  intro m
  induction m with
  | zero =>
    intro i hi b9 fs r hs hr hK
    have ei : i = n := by omega
    subst ei
    have hl := (se_F_len hs).2
    refine pk_le i i (fun _ => pk_eq r 0 (fun z => ?_) (fun z => ?_)) (fun z => absurd z (by omega))
    · cases fs with
      | nil => exact absurd hr (by simp)
      | cons f rest =>
        have : rest = [] := List.eq_nil_of_length_eq_zero (by have : rest.length + 1 = r + 1 := hr; omega)
        subst this
        exact h1 b9 f hs
    · refine h0 b9 (fun f zz => ?_)
      rw [hs] at zz
      injection zz with zz
      subst zz
      exact z (by have : 0 + 1 = r + 1 := hr; omega)
  | succ m ih =>
    intro i hi b9 fs r hs hr hK
    have hl := (se_F_len hs).2
    obtain ⟨k1, k2, k3, k4, k5, k6, k7, k8, k9⟩ := hR i (by omega)
    have ih' : ∀ (b9 : Nat → Int32) (gs : List se_f) (r' : Nat), se_F P (i + 1) = some gs → gs.length = r' + 1 → bf_K b9 gs → wX_blocksFit_4 post (nI n) cm sd ce ld ol ob dp pc (m + 1) (nI r') (nI (i + 1)) a1 a2 a3 a4 a5 a6 a7 a8 b9 a10 a11 a12 := fun b9 gs r' q1 q2 q3 => ih (i + 1) (by omega) b9 gs r' q1 q2 q3
    refine pk_le n i (fun z => absurd z (by omega)) (fun _ => ⟨pk_in i 40 (by omega), nm_r (e' := nI (so_k P i)) (by rw [nI_clamp (by omega), k1]) ?_⟩)
    refine pk_eq (so_k P i) 8 (fun z => bf_31 hn (by omega) hr hs (Or.inl z) hK (hno b9) ih') (fun z8 => ?_)
    refine pk_eq (so_k P i) 10 (fun z => bf_31 hn (by omega) hr hs (Or.inr z) hK (hno b9) ih') (fun z10 => ?_)
    cases fs with
    | nil => exact absurd hr (by simp)
    | cons f rest =>
      have hr' : rest.length = r := by
        have : rest.length + 1 = r + 1 := hr
        omega
      obtain ⟨K1, K2, K3, K4⟩ := hK
      refine pk_eq (so_k P i) 9 (fun z => ?_) (fun z9 => ?_)
      · refine pk_eq r 0 (fun zr => hno b9 (se_F_no (i := i + 1) ?_ (by omega))) (fun zr => ?_)
        · rw [se_F_s hs, z, se_S_3, if_neg]
          rw [K2 (by omega)]
          omega
        · have e9 : b9 (r - 1) = nI f.1 := by
            rw [← hr']
            exact K1 (by omega)
          have hin : vp_in (nI r - 1) 4 := by
            rw [ix_0 (by omega)]
            exact vp_in_nI (by omega) (by omega)
          have hcl : (nI r - 1).toNatClampNeg = r - 1 := by
            rw [ix_0 (by omega), nI_clamp (by omega)]
          refine ⟨hin, pk_eq f.1 8 (fun zf => ⟨hin, nm_r (e' := upd b9 (r - 1) 9) (by rw [hcl]) (nm_r (nI_1 i) ?_)⟩) (fun zf => hno b9 (se_F_no (i := i + 1) ?_ (by omega))) (hx := by rw [hcl, e9])⟩
          · refine ih' (upd b9 (r - 1) 9) ((9, f.2.1, (fun e => e), f.2.2.1) :: rest) r ?_ hr ⟨fun _ => ?_, fun z' => absurd z' (by omega), by dsimp only; omega, bf_ext (fun j hj => pk_un (by omega)) K4⟩
            · rw [se_F_s hs, z, se_S_3, if_pos zf]
            · rw [hr', pk_us]
              rfl
          · rw [se_F_s hs, z, se_S_3, if_neg zf]
      · refine pk_eq (so_k P i) 11 (fun z => ?_) (fun z11 => nm_r (nI_1 i) ?_)
        · cases rest with
          | nil =>
            have e0 : r = 0 := hr'.symm
            refine pk_eq r 0 (fun zr => hno b9 (se_F_no (i := i + 1) ?_ (by omega))) (fun zr => absurd e0 zr)
            rw [se_F_s hs, z, se_S_4]
          | cons f2 r2 =>
            have er : r2.length + 1 = r := hr'
            refine pk_eq r 0 (fun zr => absurd zr (by omega)) (fun zr => nm_r (e' := nI (r - 1)) ?_ (nm_r (nI_1 i) ?_))
            · rw [show r = r - 1 + 1 by omega]
              exact pk_m1 (r - 1)
            · obtain ⟨J1, J2, J3, J4⟩ := K4
              have es : se_F P (i + 1) = some ((f2.1, f2.2.1, (fun e => se_B f (f2.2.2.1 e)), f2.2.2.2) :: r2) := by rw [se_F_s hs, z, se_S_5]
              refine ih' b9 _ (r - 1) es ?_ ⟨J1, J2, J3, J4⟩
              show r2.length + 1 = r - 1 + 1
              omega
        · have es := (se_F_s hs).trans (se_S_1 (by omega))
          exact ih' b9 _ r es hr ⟨K1, K2, K3, K4⟩
theorem bf_ok {post : Int32 → St1 → Prop} {cm sd ce ld ol ob dp pc : Int32} {a1 a2 a3 a4 a5 a6 a7 a8 a9 a10 a11 a12 : Nat → Int32} {P : so_P} {n : Nat} (hR : so_R P n a1 a2 a3 a4) (hn : n ≤ 40)
    (h1 : ∀ (b9 : Nat → Int32) (f : se_f), se_F P n = some [f] → post 1 (nI n, cm, sd, ce, ld, ol, ob, dp, pc, a1, a2, a3, a4, a5, a6, a7, a8, b9, a10, a11, a12)) (h0 : ∀ (b9 : Nat → Int32), (∀ f, se_F P n ≠ some [f]) → post 0 (nI n, cm, sd, ce, ld, ol, ob, dp, pc, a1, a2, a3, a4, a5, a6, a7, a8, b9, a10, a11, a12)) :
    wpX_blocksFit post (nI n, cm, sd, ce, ld, ol, ob, dp, pc, a1, a2, a3, a4, a5, a6, a7, a8, a9, a10, a11, a12) :=
  ⟨n + 1, bf_4 hR hn h1 h0 n 0 (by omega) a9 _ 0 rfl rfl ⟨fun z => absurd z (by simp), fun _ => rfl, by decide, trivial⟩⟩
end
section
theorem fr_ar {a6 a7 a9 a10 : Nat → Int32} {f : se_f} {rest : List se_f} {c : Nat} {L : Nat → Nat} {d l i : Nat} (h : fr_P a6 a7 a9 a10 (f :: rest) c 0 L d l i) :
    ∃ s T, s ≤ c ∧ sg_G a6 a7 s c T ly_I (6 + l) L d (en_lf f.2.2.1) ∧ ∀ (b6 b7 : Nat → Int32) (c' : Nat) (L' : Nat → Nat) (d' e x : Nat) (F' : en_E → en_E), c ≤ c' → cx_E a6 a7 b6 b7 c →
      sg_G b6 b7 s c' (T + (fr_K rest.length * x + e)) ly_I (6 + l) L' d' (en_lf F') → fr_P b6 b7 a9 a10 ((f.1, f.2.1, F', f.2.2.2) :: rest) c' e L' d' l (i + x) := by
  obtain ⟨s, m, i0, e1, e2, e3, e4⟩ := h
  refine ⟨s, _, e1, e3, fun b6 b7 c' L' d' e x F' q1 q2 q3 => ⟨s, m + x, i0, by omega, by omega, sg_T ?_ q3, fr_H_ext (fun j hj => q2 j (by omega)) (fun _ _ => ⟨rfl, rfl⟩) (fun h l1 i1 hh q => fr_ext (fun j hj => q2 j (by omega)) (fun _ _ => ⟨rfl, rfl⟩) q) e4⟩⟩
  rw [Nat.mul_add]
  omega
theorem pl_o2 {post : St1 → Prop} {len cm sd ce ol ob dp pc : Int32} {a1 a2 a3 a4 a5 a6 a7 a8 a9 a10 a11 a12 : Nat → Int32} {d w : Nat} {x : Int32} (hd : d < 16) (hw : w < 128) (hx : x = nI w) (hp : post (len, cm, sd, ce, nI (d + 1), ol, ob, dp, pc, a1, a2, a3, a4, a5, a6, a7, upd a8 d (nI w), a9, a10, a11, a12)) :
    wpX_pushLayout post (len, cm, sd, ce, nI d, ol, ob, dp, pc, a1, a2, a3, a4, a5, a6, a7, a8, a9, a10, a11, a12) x := by
  subst hx
  exact pl_ok hd hw hp
theorem ob_ok {post : St1 → Prop} {len cm sd ld ol dp pc : Int32} {a1 a2 a3 a4 a5 a6 a7 a8 a9 a10 a11 a12 : Nat → Int32} {c r : Nat} {k k' : Int32} (hr : r < 4) (hc : c < 600) (hk : k.toInt8.toInt32 = k') (hp : post (len, cm, sd, nI c, ld, ol, nI (r + 1), dp, pc, a1, a2, a3, a4, a5, a6, a7, a8, upd a9 r k', upd a10 r (nI c), a11, a12)) :
    wpX_openBlock post (len, cm, sd, nI c, ld, ol, nI r, dp, pc, a1, a2, a3, a4, a5, a6, a7, a8, a9, a10, a11, a12) k := by
  subst hk
  exact ⟨pk_in r 4 hr, nm_r (by rw [nI_clamp (by omega)]) ⟨pk_in r 4 hr, nm_r (by rw [nI_clamp (by omega), la_s c hc]) (nm_r (nI_1 r) hp)⟩⟩
theorem cl_ok {post : St1 → Prop} {len cm sd dp pc : Int32} {a1 a2 a3 a4 a5 a6 a7 a8 a9 a10 a11 a12 : Nat → Int32} {f f2 : se_f} {r2 : List se_f} {c l i r : Nat} (h : fr_P a6 a7 a9 a10 (f :: f2 :: r2) c 9 ly_I (6 + l) l i) (hr : r2.length + 1 = r) (hr3 : r ≤ 3) (hl : l ≤ 3) (hc : c + 4 ≤ 560) (h8 : la_R a8 ly_I (6 + l))
    (hp : ∀ (c' : Nat) (b6 b7 : Nat → Int32) (l' : Nat), c ≤ c' → c' ≤ c + 4 → fr_P b6 b7 a9 a10 ((f2.1, f2.2.1, (fun e => se_B f (f2.2.2.1 e)), f2.2.2.2) :: r2) c' 0 ly_I (6 + l') l' (i + 1) → la_R a8 ly_I (6 + l') → post (len, cm, sd, nI c', nI (6 + l'), nI l', nI (r - 1), dp, pc, a1, a2, a3, a4, a5, b6, b7, a8, a9, a10, a11, a12)) :
    wpX_closeBlock post (len, cm, sd, nI c, nI (6 + l), nI l, nI r, dp, pc, a1, a2, a3, a4, a5, a6, a7, a8, a9, a10, a11, a12) := by
  obtain ⟨pt, p1, p2, p3⟩ := fr_en h hr hr3
  have hin : vp_in (nI (r - 1)) 4 := vp_in_nI (by omega) (by omega)
  have hcl : (nI (r - 1)).toNatClampNeg = r - 1 := nI_clamp (by omega)
  refine nm_r (e' := nI (r - 1)) (ix_0 (by omega)) ⟨hin, nm_r (e' := nI pt) (by rw [hcl, p2]) ⟨hin, ?_⟩⟩
  have hpt : vp_in (nI pt) 560 := vp_in_nI (by omega) (by omega)
  have hpc : (nI pt).toNatClampNeg = pt := nI_clamp (by omega)
  rcases p3 with ⟨q1, q2⟩ | ⟨q1, q2, l1, q3, q4⟩
  · refine br_f (by rw [hcl, q1]; decide) ⟨hpt, nm_r (e' := upd a7 pt (nI c)) (by rw [hpc]) ?_⟩
    exact hp c a6 _ l (Nat.le_refl c) (by omega) (q2 (by omega) _ (fun j _ hj => pk_un hj) pk_us) h8
  · refine br_t (by rw [hcl, q1]) ?_
    refine wr_ok (show c < 560 by omega) (show (0 : Int32).toInt8.toInt32 = 0 from rfl) ?_
    refine wr_ok (show c + 1 < 560 by omega) (show (2 : Int32).toInt8.toInt32 = 2 from rfl) ?_
    refine wr_ok (show c + 1 + 1 < 560 by omega) (show (11 : Int32).toInt8.toInt32 = 11 from rfl) ?_
    refine ⟨hpt, nm_r (e' := upd (upd (upd (upd a7 c (-1)) (c + 1) 0) (c + 1 + 1) (nI (pt - 1))) pt (nI (c + 3))) ?_ ?_⟩
    · rw [hpc, show (1 : Int32) = nI 1 from rfl, pk_sub q2]
    · refine wr_ok (show c + 1 + 1 + 1 < 560 by omega) (show (8 : Int32).toInt8.toInt32 = 8 from rfl) ?_
      subst q3
      refine nm_r (e' := nI (6 + l1)) (by rw [show 6 + (l1 + 1) = 6 + l1 + 1 by omega]; exact nI_pred (6 + l1)) (nm_r (e' := nI l1) (nI_pred l1) ?_)
      refine hp (c + 4) _ _ l1 (by omega) (Nat.le_refl _) (q4 hc _ _ (fun j hj => ?_) (fun j hj hne => ?_) ?_ ?_ ?_ ?_ ?_ ?_ ?_) (fun j hj => h8 j (by omega))
      · rw [pk_un (by omega), pk_un (by omega), pk_un (by omega), pk_un (by omega)]
      · rw [pk_un (by omega), pk_un hne, pk_un (by omega), pk_un (by omega), pk_un (by omega)]
      · rw [pk_un (by omega), pk_us]
      · rw [pk_un (by omega), pk_un (by omega), pk_un (by omega), pk_us]
      · rw [pk_un (by omega), pk_un (by omega), pk_un (by omega), pk_un (by omega), pk_us]
      · rw [pk_un (by omega), pk_un (by omega), pk_us]
      · rw [pk_un (by omega), pk_us]
      · rw [pk_un (by omega), pk_un (by omega), pk_us]
      · rw [show c + 3 = c + 1 + 1 + 1 by omega, pk_us]
theorem cb_ok {post : St1 → Prop} {cm sd dp pc : Int32} {a1 a2 a3 a4 a5 a6 a7 a8 a9 a10 a11 a12 : Nat → Int32} {P : so_P} {n i : Nat} {fs gs : List se_f} {c l r : Nat} {L : Nat → Nat} {d : Nat} (hR : so_R P n a1 a2 a3 a4) (hn : n ≤ 40) (hi : i < n) (hk : 8 ≤ so_k P i) (hs : se_F P i = some fs) (hg : se_F P (i + 1) = some gs) (hr : fs.length = r + 1)
    (hf : fr_P a6 a7 a9 a10 fs c 0 L d l i) (hW : ly_W P n i l L d) (h8 : la_R a8 L d) (hc : c + 13 ≤ 560)
    (hp : ∀ (c' : Nat) (b6 b7 b8 b9 b10 : Nat → Int32) (l' r' : Nat), c' ≤ c + 13 → gs.length = r' + 1 → fr_P b6 b7 b9 b10 gs c' 0 ly_I (6 + l') l' (i + 1) → la_R b8 ly_I (6 + l') → post (nI n, cm, sd, nI c', nI (6 + l'), nI l', nI r', dp, pc, a1, a2, a3, a4, a5, b6, b7, b8, b9, b10, a11, a12)) :
    wpX_compileBoundary post (nI n, cm, sd, nI c, nI d, nI l, nI r, dp, pc, a1, a2, a3, a4, a5, a6, a7, a8, a9, a10, a11, a12) (nI i) := by
  obtain ⟨k1, k2, k3, k4, k5, k6, k7, k8, k9⟩ := hR i hi
  have hin : vp_in (nI i) 40 := pk_in i 40 (by omega)
  have hcl : (nI i).toNatClampNeg = i := nI_clamp (by omega)
  have hl4 := (se_F_len hs).2
  have hll := fr_l hf
  obtain ⟨ed, eh⟩ := ly_W_b hW (Or.inr hk)
  cases fs with
  | nil => exact absurd hr (by simp)
  | cons f rest =>
    have hr' : rest.length = r := by
      have : rest.length + 1 = r + 1 := hr
      omega
    obtain ⟨s, T, f1, f2, f3⟩ := fr_ar hf
    refine ⟨hin, nm_r (e' := nI (so_k P i)) (by rw [hcl, k1]) ?_⟩
    refine ar_ok ⟨f1, f2, h8, hW.1⟩ (by omega) (by omega) ed eh (fun c1 b6 b7 b8 q1 q2 q3 q4 => ?_)
    obtain ⟨g1, g2, g3, g4⟩ := q4
    have hA : fr_P b6 b7 a9 a10 (f :: rest) c1 9 ly_I (6 + l) l i := f3 b6 b7 c1 ly_I (6 + l) 9 0 f.2.2.1 q1 q3 (sg_T (by omega) g2)
    refine pk_eq (so_k P i) 8 (fun z => ⟨hin, ?_⟩) (fun z8 => ?_)
    · rw [hcl, k7 (by omega) (by omega) (by omega)]
      rw [se_F_s hs, se_S_2 (Or.inl z)] at hg
      have r3 : ¬ rest.length = 3 := by
        intro zz
        rw [if_pos zz] at hg
        exact absurd hg (by simp)
      rw [if_neg r3] at hg
      injection hg with hg
      subst hg
      refine di_ok (L := ly_I) (i := so_x P i) (by omega) (by omega) g3 g4 (by omega) rfl ?_
      refine wr_ok (show c1 < 560 by omega) (show (1 : Int32).toInt8.toInt32 = 1 from rfl) ?_
      refine ob_ok (show r < 4 by omega) (show c1 + 1 < 600 by omega) (show (8 : Int32).toInt8.toInt32 = 8 from rfl) ?_
      refine wr_ok (show c1 + 1 < 560 by omega) (show (10 : Int32).toInt8.toInt32 = 10 from rfl) ?_
      refine hp (c1 + 1 + 1) _ _ _ _ _ l (r + 1) (by omega) (by show rest.length + 1 + 1 = r + 1 + 1; omega) ?_ g3
      rw [z]
      refine fr_if (r := r) hA hr k3 (fun j hj => ⟨?_, ?_⟩) (fun j hj => ⟨pk_un (by omega), pk_un (by omega)⟩) ?_ ?_ pk_us pk_us pk_us
      · rw [pk_un (by omega), pk_un (by omega)]
      · rw [pk_un (by omega), pk_un (by omega)]
      · rw [pk_un (by omega), pk_us]
      · rw [pk_un (by omega), pk_us, show 6 + l - 1 - so_x P i = 5 + l - so_x P i by omega]
    · refine pk_eq (so_k P i) 10 (fun z => ⟨hin, ?_⟩) (fun z10 => ?_)
      · rw [hcl, k7 (by omega) (by omega) (by omega)]
        rw [se_F_s hs, se_S_2 (Or.inr z)] at hg
        have r3 : ¬ rest.length = 3 := by
          intro zz
          rw [if_pos zz] at hg
          exact absurd hg (by simp)
        rw [if_neg r3] at hg
        injection hg with hg
        subst hg
        have l2 : l ≤ 2 := by
          have : l + 1 ≤ rest.length + 1 := hll
          omega
        refine wr_ok (show c1 < 560 by omega) (show (0 : Int32).toInt8.toInt32 = 0 from rfl) ?_
        refine pl_o2 (w := 6 + l) (by omega) (by omega) (nI_add 6 l) ?_
        refine nm_r (nI_1 l) ?_
        refine wr_ok (show c1 + 1 < 560 by omega) (show (1 : Int32).toInt8.toInt32 = 1 from rfl) ?_
        refine ob_ok (show r < 4 by omega) (show c1 + 1 + 1 < 600 by omega) (show (10 : Int32).toInt8.toInt32 = 10 from rfl) ?_
        refine wr_ok (show c1 + 1 + 1 < 560 by omega) (show (10 : Int32).toInt8.toInt32 = 10 from rfl) ?_
        refine hp (c1 + 1 + 1 + 1) _ _ _ _ _ (l + 1) (r + 1) (by omega) (by show rest.length + 1 + 1 = r + 1 + 1; omega) ?_ (fun j hj => ?_)
        · rw [z]
          refine fr_lo (r := r) hA hr k3 (fun j hj => ⟨?_, ?_⟩) (fun j hj => ⟨pk_un (by omega), pk_un (by omega)⟩) ?_ ?_ ?_ ?_ pk_us pk_us pk_us
          · rw [pk_un (by omega), pk_un (by omega), pk_un (by omega)]
          · rw [pk_un (by omega), pk_un (by omega), pk_un (by omega)]
          · rw [pk_un (by omega), pk_un (by omega), pk_us]
          · rw [pk_un (by omega), pk_un (by omega), pk_us]
          · rw [pk_un (by omega), pk_us]
          · rw [pk_un (by omega), pk_us]
        · by_cases cj : j = 6 + l
          · rw [cj, pk_us]
            show nI (6 + l) = nI (min (6 + l) 9)
            rw [show min (6 + l) 9 = 6 + l by omega]
          · rw [pk_un cj, g3 j (by omega)]
      · refine pk_eq (so_k P i) 9 (fun z => ?_) (fun z9 => ?_)
        · rw [se_F_s hs, z, se_S_3] at hg
          have f8 : f.1 = 8 := by
            by_cases zz : f.1 = 8
            · exact zz
            · rw [if_neg zz] at hg
              exact absurd hg (by simp)
          rw [if_pos f8] at hg
          injection hg with hg
          subst hg
          obtain ⟨t1, pt, t2, t3, t4⟩ := fr_el hA f8 hr'
          have hin4 : vp_in (nI r - 1) 4 := by
            rw [ix_0 t1]
            exact vp_in_nI (by omega) (by omega)
          have hcl4 : (nI r - 1).toNatClampNeg = r - 1 := by
            rw [ix_0 t1, nI_clamp (by omega)]
          refine ⟨hin4, nm_r (e' := nI pt) (by rw [hcl4, t3]) ⟨hin4, nm_r (e' := upd a10 (r - 1) (nI c1)) (by rw [hcl4, la_s c1 (by omega)]) ?_⟩⟩
          refine wr_ok (show c1 < 560 by omega) (show (11 : Int32).toInt8.toInt32 = 11 from rfl) ?_
          refine ⟨vp_in_nI (show pt < 560 by omega) (by omega), nm_r (e' := upd (upd b7 c1 0) pt (nI (c1 + 1))) (by rw [nI_clamp (by omega)]) ?_⟩
          refine hp (c1 + 1) _ _ _ _ _ l r (by omega) hr (t4 _ _ _ (fun j hj => pk_un (by omega)) (fun j hj hne => ?_) pk_us pk_us (fun j hj => pk_un (by omega)) pk_us) g3
          rw [pk_un hne, pk_un (by omega)]
        · have z11 : so_k P i = 11 := by omega
          cases rest with
          | nil =>
            rw [se_F_s hs, z11, se_S_4] at hg
            exact absurd hg (by simp)
          | cons f2' r2 =>
            rw [se_F_s hs, z11, se_S_5] at hg
            injection hg with hg
            subst hg
            have er : r2.length + 1 = r := hr'
            have r3 : r ≤ 3 := by
              have : r2.length + 1 + 1 ≤ 4 := hl4
              omega
            refine cl_ok hA er r3 (by omega) (by omega) g3 (fun c' e6 e7 l' u1 u2 u3 u4 => ?_)
            exact hp c' e6 e7 b8 a9 a10 l' (r - 1) (by omega) (by show r2.length + 1 = r - 1 + 1; omega) u3 u4
end
section
theorem fr_K_ge (r : Nat) : 15 ≤ fr_K r := by
  unfold fr_K
  split
  · omega
  · split
    · omega
    · split <;> omega
theorem cy_70 {post : St1 → Prop} {cm sd dp pc : Int32} {a1 a2 a3 a4 a5 a11 a12 : Nat → Int32} {P : so_P} {n : Nat} {f : se_f} (hR : so_R P n a1 a2 a3 a4) (hn : n ≤ 40) (hF : se_F P n = some [f])
    (hp : ∀ (c' : Nat) (ld' ol' ob' : Int32) (b6 b7 b8 b9 b10 : Nat → Int32), c' ≤ 560 → sg_G b6 b7 0 c' 80000 ly_I 6 ly_I 6 (en_lf f.2.2.1) → post (nI n, cm, sd, nI c', ld', ol', ob', dp, pc, a1, a2, a3, a4, a5, b6, b7, b8, b9, b10, a11, a12)) :
    ∀ m i, i + m = n → ∀ (fs : List se_f) (c l r : Nat) (L : Nat → Nat) (d : Nat) (a6 a7 a8 a9 a10 : Nat → Int32), se_F P i = some fs → fs.length = r + 1 → fr_P a6 a7 a9 a10 fs c 0 L d l i → ly_W P n i l L d → la_R a8 L d → c ≤ 13 * i →
      wX_compile_70 post (m + 1) (nI i) (nI n) cm sd (nI c) (nI d) (nI l) (nI r) dp pc a1 a2 a3 a4 a5 a6 a7 a8 a9 a10 a11 a12 := by
  intro m
  induction m with
  | zero =>
    intro i hi fs c l r L d a6 a7 a8 a9 a10 hs hr hf hW h8 hc
    have ei : i = n := by omega
    subst ei
    have hll := fr_l hf
    obtain ⟨ed, eh⟩ := ly_W_b hW (Or.inl (Nat.le_refl i))
    rw [hs] at hF
    injection hF with hF
    subst hF
    have hl0 : l = 0 := by
      have : l + 1 ≤ 0 + 1 := hll
      omega
    obtain ⟨s, T, f1, f2, f3⟩ := fr_ar hf
    refine pk_le i i (fun _ => ?_) (fun z => absurd z (by omega))
    refine ar_ok ⟨f1, f2, h8, hW.1⟩ (by omega) (by omega) ed eh (fun c1 b6 b7 b8 q1 q2 q3 q4 => ?_)
    obtain ⟨g1, g2, g3, g4⟩ := q4
    have hA : fr_P b6 b7 a9 a10 [f] c1 9 ly_I (6 + l) l i := f3 b6 b7 c1 ly_I (6 + l) 9 0 f.2.2.1 q1 q3 (sg_T (by omega) g2)
    obtain ⟨s', m', i0, e1, e2, e3, e4⟩ := hA
    subst hl0
    refine hp c1 _ _ _ b6 b7 b8 a9 a10 (by omega) ?_
    rcases e4 with h | h | h | h
    · obtain ⟨u1, u2, u3, u4⟩ := h
      subst u3
      refine sg_T ?_ e3
      show 1875 * m' + 9 ≤ 80000
      omega
    · exact absurd h.2.1 (by simp)
    · exact absurd h.2.1 (by simp)
    · exact absurd h.2.1 (by simp)
  | succ m ih =>
    intro i hi fs c l r L d a6 a7 a8 a9 a10 hs hr hf hW h8 hc
    have hll := fr_l hf
    have hl4 := (se_F_len hs).2
    obtain ⟨gs, hg⟩ := se_F_so hF (show i + 1 ≤ n by omega)
    refine pk_le n i (fun z => absurd z (by omega)) (fun _ => ?_)
    refine ib_ok hR hn (show i ≤ 40 by omega) ?_ ?_
    · intro hb
      have hk : 8 ≤ so_k P i := by omega
      refine br_f (by decide) ?_
      refine cb_ok hR hn (by omega) hk hs hg hr hf hW h8 (by omega) (fun c' b6 b7 b8 b9 b10 l' r' q1 q2 q3 q4 => nm_r (nI_1 i) ?_)
      exact ih (i + 1) (by omega) gs c' l' r' ly_I (6 + l') b6 b7 b8 b9 b10 hg q2 q3 ly_W_I q4 (by omega)
    · intro hi' hk
      refine br_t rfl ?_
      cases fs with
      | nil => exact absurd hr (by simp)
      | cons f0 rest =>
        obtain ⟨s, T, f1, f2, f3⟩ := fr_ar hf
        have es := (se_F_s hs).trans (se_S_1 hk)
        have kk := fr_K_ge rest.length
        refine cs_ok hR hn hi' hk (by omega) hW ⟨f1, f2, h8, hW.1⟩ (by omega) (fun c' b6 b7 b8 L' d' q1 q2 q3 q4 q5 => nm_r (nI_1 i) ?_)
        obtain ⟨g1, g2, g3, g4⟩ := q4
        exact ih (i + 1) (by omega) _ c' l r L' d' b6 b7 b8 a9 a10 es hr (f3 b6 b7 c' L' d' 0 1 _ q1 q3 (sg_T (by omega) g2)) q5 g3 (by omega)
theorem cy_51 {post : St1 → Prop} {cm sd dp pc : Int32} {a1 a2 a3 a4 a5 a6 a7 a8 a9 a10 a11 a12 : Nat → Int32} {P : so_P} {n : Nat} {f : se_f} (hR : so_R P n a1 a2 a3 a4) (hn : n ≤ 40) (hF : se_F P n = some [f])
    (hp : ∀ (c' : Nat) (ld' ol' ob' : Int32) (b6 b7 b8 b9 b10 : Nat → Int32), c' ≤ 560 → sg_G b6 b7 0 c' 80000 ly_I 6 ly_I 6 (en_lf f.2.2.1) → post (nI n, cm, sd, nI c', ld', ol', ob', dp, pc, a1, a2, a3, a4, a5, b6, b7, b8, b9, b10, a11, a12)) :
    ∃ fu, wX_compile_51 post fu 0 (nI n) cm sd 0 0 0 0 dp pc a1 a2 a3 a4 a5 a6 a7 a8 a9 a10 a11 a12 := by
  refine pk_loop (fun n' k s => wX_compile_51 post n' (nI k) (nI n) cm sd 0 (nI k) 0 0 dp pc a1 a2 a3 a4 a5 a6 a7 s a9 a10 a11 a12) (fun k s => k ≤ 6 ∧ la_R s ly_I k) 6 0 a8 (by omega) ⟨by omega, fun j hj => absurd hj (by omega)⟩ (fun n' s hs => ?_) (fun n' k s hk hs hw => ?_)
  · refine pk_le 6 6 (fun _ => ⟨n + 1, ?_⟩) (fun z => absurd z (by omega))
    exact cy_70 hR hn hF hp n 0 (by omega) _ 0 0 0 ly_I 6 _ _ _ _ _ rfl rfl fr_0 ly_W_I hs.2 (by omega)
  · refine pk_le 6 k (fun z => absurd z (by omega)) (fun _ => ?_)
    refine pl_ok (by omega) (by omega) (nm_r (nI_1 k) (hw _ ⟨by omega, fun j hj => ?_⟩))
    by_cases c : j = k
    · rw [c, pk_us]
      show nI k = nI (min k 9)
      rw [show min k 9 = k by omega]
    · rw [pk_un c, hs.2 j (by omega)]
def ck_C (P : so_P) (n : Nat) (sd ce : Int32) (a6 a7 : Nat → Int32) : Prop :=
  (sd = 0 ∧ ∀ f, se_F P n ≠ some [f]) ∨ (sd = 1 ∧ ∃ f c, se_F P n = some [f] ∧ c ≤ 560 ∧ ce = nI c ∧ sg_G a6 a7 0 c 80000 ly_I 6 ly_I 6 (en_lf f.2.2.1))
theorem cy_ok {post : St1 → Prop} {cm sd ce ld ol ob dp pc : Int32} {a1 a2 a3 a4 a5 a6 a7 a8 a9 a10 a11 a12 : Nat → Int32} {P : so_P} {n : Nat} (hR : so_R P n a1 a2 a3 a4) (hn : n ≤ 40) (hcm : cm = 0 ∨ (cm = 1 ∧ ck_C P n sd ce a6 a7))
    (hp : ∀ (sd' ce' ld' ol' ob' : Int32) (b6 b7 b8 b9 b10 : Nat → Int32), ck_C P n sd' ce' b6 b7 → post (nI n, 1, sd', ce', ld', ol', ob', dp, pc, a1, a2, a3, a4, a5, b6, b7, b8, b9, b10, a11, a12)) :
    wpX_compile post (nI n, cm, sd, ce, ld, ol, ob, dp, pc, a1, a2, a3, a4, a5, a6, a7, a8, a9, a10, a11, a12) := by
  rcases hcm with e | ⟨e, hC⟩
  · subst e
    refine br_t rfl ?_
    refine bf_ok hR hn ?_ ?_
    · intro b9 f hf
      refine ⟨rfl, rfl, br_f (by decide) ?_⟩
      exact cy_51 hR hn hf (fun c' ld' ol' ob' b6 b7 b8 b9 b10 q1 q2 => hp _ _ _ _ _ _ _ _ _ _ (Or.inr ⟨rfl, f, c', hf, q1, rfl, q2⟩))
    · intro b9 hf
      exact ⟨rfl, rfl, br_t rfl (hp _ _ _ _ _ _ _ _ _ _ (Or.inl ⟨rfl, hf⟩))⟩
  · subst e
    exact br_f (by decide) (hp _ _ _ _ _ _ _ _ _ _ hC)
end
section
theorem cu_ok {post : Int32 → Prop} {len cm sd ce ld ol ob dp pc : Int32} {a1 a2 a3 a4 a5 a6 a7 a8 a9 a10 a11 a12 : Nat → Int32} {o p q : Int32} (hp : post (mc_cmp o p q)) : wpX_compute post (len, cm, sd, ce, ld, ol, ob, dp, pc, a1, a2, a3, a4, a5, a6, a7, a8, a9, a10, a11, a12) o p q := by
  unfold mc_cmp at hp
  refine br_c (fun z => ?_) (fun z2 => br_c (fun z => ?_) (fun z3 => br_c (fun z => ?_) (fun z4 => br_c (fun z => ?_) (fun z5 => br_c (fun z => ?_) (fun z => ?_)))))
  · rw [if_pos z] at hp
    exact hp
  · rw [if_neg z2, if_pos z] at hp
    exact hp
  · rw [if_neg z2, if_neg z3, if_pos z] at hp
    exact hp
  · rw [if_neg z2, if_neg z3, if_neg z4, if_pos z] at hp
    exact hp
  · rw [if_neg z2, if_neg z3, if_neg z4, if_neg z5, if_pos z] at hp
    exact hp
  · rw [if_neg z2, if_neg z3, if_neg z4, if_neg z5, if_neg z] at hp
    exact hp
theorem pt_ok {post : St1 → Prop} {len cm sd ce ld ol ob dp : Int32} {a1 a2 a3 a4 a5 a6 a7 a8 a9 a10 a11 a12 : Nat → Int32} {s : Nat} {v : Int32} (hs : s < 1000000) (hp : post (len, cm, sd, ce, ld, ol, ob, dp, nI (s + 1), a1, a2, a3, a4, a5, a6, a7, a8, a9, a10, a11, (mc_pr (s, a12) v).2)) : wpX_print post (len, cm, sd, ce, ld, ol, ob, dp, nI s, a1, a2, a3, a4, a5, a6, a7, a8, a9, a10, a11, a12) v := by
  unfold mc_pr at hp
  refine pk_le 64 s (fun z => nm_r (nI_1 s) ?_) (fun z => ⟨pk_in s 64 z, nm_r (e' := upd a12 s v) (by rw [nI_clamp (by omega)]) (nm_r (nI_1 s) ?_)⟩)
  · rw [if_neg (show ¬ (s, a12).1 < 64 by show ¬ s < 64; omega)] at hp
    exact hp
  · rw [if_pos (show (s, a12).1 < 64 from z)] at hp
    exact hp
theorem pp_ok {post : St1 → Prop} {len cm sd ce ld ol ob pc : Int32} {a1 a2 a3 a4 a5 a6 a7 a8 a9 a10 a11 a12 : Nat → Int32} {d i : Nat} (hi : i < d) (hd : d ≤ 16) (hp : post (len, cm, sd, ce, ld, ol, ob, nI d, pc, a1, a2, a3, a4, a5, a6, a7, a8, a9, a10, mc_pl a11 i (d - 1), a12)) : wpX_pull post (len, cm, sd, ce, ld, ol, ob, nI d, pc, a1, a2, a3, a4, a5, a6, a7, a8, a9, a10, a11, a12) (nI (d - 1 - i)) := by
  have ex : nI d - 1 - nI (d - 1 - i) = nI i := by
    rw [ix_1 (by omega), show d - 1 - (d - 1 - i) = i by omega]
  refine ⟨?_, nm_r (e' := a11 i) ?_ (nm_r (e' := nI i) ex ?_)⟩
  · rw [ex]
    exact vp_in_nI (by omega) (by omega)
  · rw [ex, nI_clamp (by omega)]
  · refine pk_loop (fun n k s => wX_pull_23 post (a11 i) len cm sd ce ld ol ob (nI d) pc n (nI k) a1 a2 a3 a4 a5 a6 a7 a8 a9 a10 s a12) (fun k s => i ≤ k ∧ ∀ j, s j = if i ≤ j ∧ j < k then a11 (j + 1) else a11 j) (d - 1) i a11 (by omega) ⟨Nat.le_refl i, fun j => by rw [if_neg (by omega)]⟩ (fun n s hs => ?_) (fun n k s hk hs hw => ?_)
    · refine pk_le (d - 1) (d - 1) (fun _ => ⟨?_, nm_r (e' := mc_pl a11 i (d - 1)) ?_ hp⟩) (fun z => absurd z (by omega)) (hx := ix_0 (by omega))
      · rw [ix_0 (by omega)]
        exact vp_in_nI (by omega) (by omega)
      · rw [ix_0 (by omega), nI_clamp (by omega)]
        funext j
        unfold mc_pl mc_sg
        by_cases c1 : j = d - 1
        · rw [c1, pk_us, if_neg (by omega), if_neg (by omega), if_pos rfl]
        · rw [pk_un c1, hs.2 j]
          by_cases c2 : j < i
          · rw [if_neg (by omega), if_pos c2]
          · rw [if_neg c2]
            by_cases c3 : j < d - 1
            · rw [if_pos (by omega), if_pos c3]
            · rw [if_neg (by omega), if_neg c3, if_neg c1]
    · refine pk_le (d - 1) k (fun z => absurd z (by omega)) (fun _ => ⟨?_, pk_in k 16 (by omega), nm_e (nm_r (nI_1 k) ?_)⟩) (hx := ix_0 (by omega))
      · rw [nI_1]
        exact vp_in_nI (by omega) (by omega)
      · rw [nI_1, nI_clamp (by omega), nI_clamp (by omega)]
        refine hw _ ⟨by omega, fun j => ?_⟩
        by_cases c : j = k
        · rw [c, pk_us, hs.2 (k + 1), if_neg (by omega), if_pos (by omega)]
        · rw [pk_un c, hs.2 j]
          by_cases c2 : i ≤ j ∧ j < k
          · rw [if_pos c2, if_pos (by omega)]
          · rw [if_neg c2, if_neg (by omega)]
theorem mc_S_n {o n : Int32} {c : Nat} {st : Nat → Int32} {d : Nat} {s : Nat × (Nat → Int32)} {m' : mc_M} (h : mc_S o n c st d s m') : m'.2.2.2.1 ≤ s.1 + 1 := by
  rcases h with ⟨k, _, _, _, _, _, e⟩ | ⟨_, _, e⟩ | ⟨i, _, _, _, _, e⟩ | ⟨i, _, _, _, _, e⟩ | ⟨k, _, _, _, e⟩ | ⟨_, _, _, e⟩ | ⟨_, _, _, e⟩ | ⟨k, _, _, _, _, _, e⟩ <;> subst e
  · exact Nat.le_succ _
  · exact Nat.le_succ _
  · exact Nat.le_succ _
  · exact Nat.le_succ _
  · exact Nat.le_succ _
  · exact Nat.le_succ _
  · exact Nat.le_refl _
  · exact Nat.le_succ _
theorem pf_ok {post : Int32 → St1 → Prop} {len cm sd ce ld ol ob : Int32} {a1 a2 a3 a4 a5 a6 a7 a8 a9 a10 a11 a12 : Nat → Int32} {c d s : Nat} {m' : mc_M} (h : mc_S (a6 c) (a7 c) c a11 d (s, a12) m') (hc : c < 560) (hs : s < 1000000)
    (hp : post (nI m'.1) (len, cm, sd, ce, ld, ol, ob, nI m'.2.2.1, nI m'.2.2.2.1, a1, a2, a3, a4, a5, a6, a7, a8, a9, a10, m'.2.1, m'.2.2.2.2)) : wpX_perform post (len, cm, sd, ce, ld, ol, ob, nI d, nI s, a1, a2, a3, a4, a5, a6, a7, a8, a9, a10, a11, a12) (nI c) := by
  have hin : vp_in (nI c) 560 := vp_in_nI hc (by omega)
  have hcl : (nI c).toNatClampNeg = c := nI_clamp (by omega)
  refine ⟨hin, nm_r (e' := a6 c) (by rw [hcl]) ⟨hin, nm_r (e' := a7 c) (by rw [hcl]) (nm_r (nI_1 c) ?_)⟩⟩
  rcases h with ⟨k, e1, e2, e3, e4, e5, e⟩ | ⟨e1, e2, e⟩ | ⟨i, e1, e2, e3, e4, e⟩ | ⟨i, e1, e2, e3, e4, e⟩ | ⟨k, e1, e2, e3, e⟩ | ⟨e1, e2, e3, e⟩ | ⟨e1, e2, e3, e⟩ | ⟨k, e1, e2, e3, e4, e5, e⟩ <;> subst e
  · rw [e1] at hp ⊢
    refine pk_lt k 2 (fun z => absurd z (by omega)) (fun _ => pk_lt 6 k (fun z => absurd z (by omega)) (fun _ => ?_))
    refine nm_r (ix_0 (by omega)) ?_
    have x2 : nI (d - 1) - 1 = nI (d - 2) := by
      rw [ix_0 (by omega), show d - 1 - 1 = d - 2 by omega]
    have i2 : vp_in (nI (d - 1) - 1) 16 := by
      rw [x2]
      exact vp_in_nI (by omega) (by omega)
    have c2 : (nI (d - 1) - 1).toNatClampNeg = d - 2 := by
      rw [x2, nI_clamp (by omega)]
    refine ⟨i2, vp_in_nI (by omega) (by omega), ?_⟩
    refine cu_ok ⟨i2, nm_r (e' := upd a11 (d - 2) (mc_cmp (nI k) (a11 (d - 2)) (a11 (d - 1)))) ?_ hp⟩
    rw [c2, nI_clamp (by omega)]
  · rw [e1]
    refine br_t (by decide) (br_t rfl ⟨vp_in_nI e2 (by omega), nm_r (e' := upd a11 d (a7 c)) (by rw [nI_clamp (by omega)]) (nm_r (nI_1 d) hp)⟩)
  · rw [e1, e4]
    have x2 : nI d - 1 - nI (d - 1 - i) = nI i := by
      rw [ix_1 (by omega), show d - 1 - (d - 1 - i) = i by omega]
    refine br_t (by decide) (br_f (by decide) (br_t rfl ⟨?_, vp_in_nI e3 (by omega), nm_r (e' := upd a11 d (a11 i)) ?_ (nm_r (nI_1 d) hp)⟩))
    · rw [x2]
      exact vp_in_nI (by omega) (by omega)
    · rw [x2, nI_clamp (by omega), nI_clamp (by omega)]
  · rw [e1, e4]
    refine br_f (by decide) (br_t (by decide) (br_f (by decide) (br_f (by decide) (br_t rfl ?_))))
    exact pp_ok e2 e3 hp
  · rw [e1, e3]
    exact br_f (by decide) (br_t (by decide) (br_f (by decide) (br_f (by decide) (br_f (by decide) (br_t rfl hp)))))
  · rw [e1]
    refine br_f (by decide) (br_t (by decide) (br_f (by decide) (br_f (by decide) (br_f (by decide) (br_f (by decide) (nm_r (ix_0 e2) (br_f (by decide) ?_)))))))
    exact br_f (by decide) hp
  · rw [e1]
    refine br_f (by decide) (br_t (by decide) (br_f (by decide) (br_f (by decide) (br_f (by decide) (br_f (by decide) (nm_r (ix_0 e2) (br_t rfl ⟨vp_in_nI (by omega) (by omega), ?_⟩)))))))
    rw [nI_clamp (by omega)]
    exact pt_ok hs (br_f (by decide) hp)
  · rw [e1, e5]
    refine br_f (by decide) (br_t (by decide) (br_f (by decide) (br_f (by decide) (br_f (by decide) (br_f (by decide) (nm_r (ix_0 e2) (br_f (by decide) ?_)))))))
    refine br_t rfl ⟨vp_in_nI (by omega) (by omega), ?_⟩
    rw [nI_clamp (by omega)]
    refine br_c (fun z => ?_) (fun z => ?_)
    · dsimp only at hp
      rw [if_pos z] at hp
      exact hp
    · dsimp only at hp
      rw [if_neg z] at hp
      exact hp
theorem rn_55 {post : Int32 → St1 → Prop} {len cm sd ld ol ob : Int32} {a1 a2 a3 a4 a5 a6 a7 a8 a9 a10 : Nat → Int32} {c d' : Nat} {st' : Nat → Int32} {s' : Nat × (Nat → Int32)} (hc : c ≤ 560)
    (hp : ∃ fu, wX_run_83 post len cm sd (nI c) ld ol ob (nI d') (nI s'.1) fu 0 a1 a2 a3 a4 a5 a6 a7 a8 a9 a10 st' s'.2) :
    ∀ (t : Nat) (m : mc_M) (step : Nat), mc_R a6 a7 0 c t m (c, st', d', s') → m.2.2.2.1 ≤ step → step + t < 90000 → wX_run_55 post (t + 1) (nI m.1) (nI step) len cm sd (nI c) ld ol ob (nI m.2.2.1) (nI m.2.2.2.1) a1 a2 a3 a4 a5 a6 a7 a8 a9 a10 m.2.1 m.2.2.2.2 := by
  intro t
  induction t with
  | zero =>
    intro m step h hm hst
    have e : m = (c, st', d', s') := h
    subst e
    exact pk_le 90000 step (fun z => absurd z (by omega)) (fun _ => pk_le c c (fun _ => hp) (fun z => absurd z (by omega)))
  | succ t ih =>
    intro m step h hm hst
    obtain ⟨h1, h2, m1, h3, h4⟩ := h
    have hn := mc_S_n h3
    refine pk_le 90000 step (fun z => absurd z (by omega)) (fun _ => pk_le c m.1 (fun z => absurd z (by omega)) (fun _ => ?_))
    refine pf_ok h3 (by omega) (by omega) (nm_r (nI_1 step) ?_)
    exact ih m1 (step + 1) h4 (by omega) (by omega)
def rn_V (F : en_E → en_E) (a5 a12 : Nat → Int32) : Nat → Int32 := en_mx (F (en_rs a5, 0, a12)).1 a5
theorem rn_83 {post : Int32 → St1 → Prop} {len cm sd ce ld ol ob dp pc : Int32} {a1 a2 a3 a4 a5 a6 a7 a8 a9 a10 a11 a12 : Nat → Int32} {V : Nat → Int32} (hV : ∀ j, j < 6 → a11 j = V j) (hV2 : ∀ j, 6 ≤ j → a5 j = V j) (hp : post pc (len, cm, sd, ce, ld, ol, ob, dp, pc, a1, a2, a3, a4, V, a6, a7, a8, a9, a10, a11, a12)) :
    ∃ fu, wX_run_83 post len cm sd ce ld ol ob dp pc fu 0 a1 a2 a3 a4 a5 a6 a7 a8 a9 a10 a11 a12 := by
  refine pk_loop (fun n k s => wX_run_83 post len cm sd ce ld ol ob dp pc n (nI k) a1 a2 a3 a4 s a6 a7 a8 a9 a10 a11 a12) (fun k s => (∀ j, j < k → s j = V j) ∧ ∀ j, 6 ≤ j → s j = V j) 6 0 a5 (by omega) ⟨fun j hj => absurd hj (by omega), hV2⟩ (fun n s hs => ?_) (fun n k s hk hs hw => ?_)
  · refine pk_le 6 6 (fun _ => ?_) (fun z => absurd z (by omega))
    have e : s = V := by
      funext j
      by_cases c : j < 6
      · exact hs.1 j c
      · exact hs.2 j (by omega)
    subst e
    exact hp
  · refine pk_le 6 k (fun z => absurd z (by omega)) (fun _ => ⟨pk_in k 16 (by omega), pk_in k 6 (by omega), nm_e (nm_r (nI_1 k) ?_)⟩)
    rw [nI_clamp (by omega)]
    refine hw _ ⟨fun j hj => ?_, fun j hj => ?_⟩
    · by_cases c : j = k
      · rw [c, pk_us, hV k (by omega)]
      · rw [pk_un c, hs.1 j (by omega)]
    · rw [pk_un (by omega), hs.2 j hj]
theorem rn_16 {post : Int32 → St1 → Prop} {len cm sd ce ld ol ob dp pc : Int32} {a1 a2 a3 a4 a5 a6 a7 a8 a9 a10 a11 a12 : Nat → Int32} (hp : ∀ b11 : Nat → Int32, (∀ j, j < 6 → b11 j = a5 j) → ∃ fu, wX_run_55 post fu 0 0 len cm sd ce ld ol ob 6 0 a1 a2 a3 a4 a5 a6 a7 a8 a9 a10 b11 a12) :
    ∃ fu, wX_run_16 post len cm sd ce ld ol ob dp pc fu 0 a1 a2 a3 a4 a5 a6 a7 a8 a9 a10 a11 a12 := by
  refine pk_loop (fun n k s => wX_run_16 post len cm sd ce ld ol ob dp pc n (nI k) a1 a2 a3 a4 a5 a6 a7 a8 a9 a10 s a12) (fun k s => ∀ j, j < k → s j = a5 j) 6 0 a11 (by omega) (fun j hj => absurd hj (by omega)) (fun n s hs => ?_) (fun n k s hk hs hw => ?_)
  · exact pk_le 6 6 (fun _ => hp s hs) (fun z => absurd z (by omega))
  · refine pk_le 6 k (fun z => absurd z (by omega)) (fun _ => ⟨pk_in k 6 (by omega), pk_in k 16 (by omega), nm_e (nm_r (nI_1 k) ?_)⟩)
    rw [nI_clamp (by omega)]
    refine hw _ (fun j hj => ?_)
    by_cases c : j = k
    · rw [c, pk_us]
    · rw [pk_un c, hs j (by omega)]
theorem rn_ok {post : Int32 → St1 → Prop} {cm sd ce ld ol ob dp pc : Int32} {a1 a2 a3 a4 a5 a6 a7 a8 a9 a10 a11 a12 : Nat → Int32} {P : so_P} {n : Nat} (hR : so_R P n a1 a2 a3 a4) (hn : n ≤ 40) (hcm : cm = 0 ∨ (cm = 1 ∧ ck_C P n sd ce a6 a7))
    (h0 : (∀ f, se_F P n ≠ some [f]) → ∀ (sd' ce' ld' ol' ob' : Int32) (b6 b7 b8 b9 b10 : Nat → Int32), ck_C P n sd' ce' b6 b7 → post (-3) (nI n, 1, sd', ce', ld', ol', ob', dp, pc, a1, a2, a3, a4, a5, b6, b7, b8, b9, b10, a11, a12))
    (h1 : ∀ f, se_F P n = some [f] → ∀ (sd' ce' ld' ol' ob' dp' : Int32) (b6 b7 b8 b9 b10 b11 : Nat → Int32), ck_C P n sd' ce' b6 b7 → post (nI (f.2.2.1 (en_rs a5, 0, a12)).2.1) (nI n, 1, sd', ce', ld', ol', ob', dp', nI (f.2.2.1 (en_rs a5, 0, a12)).2.1, a1, a2, a3, a4, rn_V f.2.2.1 a5 a12, b6, b7, b8, b9, b10, b11, (f.2.2.1 (en_rs a5, 0, a12)).2.2)) :
    wpX_run post (nI n, cm, sd, ce, ld, ol, ob, dp, pc, a1, a2, a3, a4, a5, a6, a7, a8, a9, a10, a11, a12) := by
  unfold wpX_run
  refine cy_ok hR hn hcm (fun sd' ce' ld' ol' ob' b6 b7 b8 b9 b10 hC => ?_)
  rcases hC with ⟨e, hF⟩ | ⟨e, f, c, hF, hc, ec, hg⟩
  · subst e
    exact br_t rfl (h0 hF _ _ _ _ _ _ _ _ _ _ (Or.inl ⟨rfl, hF⟩))
  · subst e ec
    refine br_f (by decide) (rn_16 (fun b11 hb => ?_))
    obtain ⟨t, st', t1, t2, t3⟩ := hg (a5, 0, a12) b11 hb
    refine ⟨t + 1, rn_55 hc ?_ t (0, b11, 6, 0, a12) 0 t2 (Nat.le_refl 0) (by omega)⟩
    refine rn_83 (V := rn_V f.2.2.1 a5 a12) (fun j hj => t3 j hj) (fun j hj => ?_) (h1 f hF _ _ _ _ _ _ _ _ _ _ _ _ (Or.inr ⟨rfl, f, c, hF, hc, rfl, hg⟩))
    exact (en_mx_hi hj).symm
end
section
def so_U (P : so_P) (n : Nat) (e : Nat × Nat × Nat × Nat × Int32) : so_P := fun j => if j = n then e else P j
theorem so_Us {P : so_P} {n : Nat} {e : Nat × Nat × Nat × Nat × Int32} : so_U P n e n = e := by simp [so_U]
theorem so_Un {P : so_P} {n j : Nat} {e : Nat × Nat × Nat × Nat × Int32} (h : j ≠ n) : so_U P n e j = P j := by simp [so_U, h]
theorem so_R_cg {P P' : so_P} {n : Nat} {a1 a2 a3 a4 : Nat → Int32} (hP : ∀ j, j < n → P' j = P j) (h : so_R P n a1 a2 a3 a4) : so_R P' n a1 a2 a3 a4 := by
  intro i hi
  have e := hP i hi
  have := h i hi
  unfold so_k so_x so_y so_z so_w at this ⊢
  rw [e]
  exact this
theorem so_R_dn {P : so_P} {n : Nat} {e : Nat × Nat × Nat × Nat × Int32} {a1 a2 a3 a4 : Nat → Int32} (h : so_R (so_U P n e) (n + 1) a1 a2 a3 a4) : so_R P n a1 a2 a3 a4 :=
  so_R_cg (P := so_U P n e) (fun j hj => (so_Un (by omega)).symm) (fun i hi => h i (by omega))
theorem so_R_1 {P : so_P} {n k x y z : Nat} {a1 a2 a3 a4 : Nat → Int32} (h : so_R P n a1 a2 a3 a4) (hk : k ≤ 11) (hx : x < 6) (hy : y < 6) (hz : z < 6) (h0 : k ≠ 0) :
    so_R (so_U P n (k, x, y, z, 0)) (n + 1) (upd a1 n (nI k)) (upd a2 n (nI x)) (upd a3 n (nI y)) (upd a4 n (nI z)) := by
  intro i hi
  by_cases c : i = n
  · subst c
    unfold so_k so_x so_y so_z so_w
    rw [so_Us, pk_us, pk_us, pk_us, pk_us]
    exact ⟨rfl, hk, hx, hy, hz, fun e => absurd e h0, fun _ _ _ => rfl, fun _ _ => rfl, fun _ _ => rfl⟩
  · have := h i (by omega)
    unfold so_k so_x so_y so_z so_w at this ⊢
    rw [so_Un c, pk_un c, pk_un c, pk_un c, pk_un c]
    exact this
theorem so_R_0 {P : so_P} {n x : Nat} {w : Int32} {a1 a2 a3 a4 b4 : Nat → Int32} (h : so_R P n a1 a2 a3 a4) (hx : x < 6) (h4 : ∀ j, j < n → b4 j = a4 j) :
    so_R (so_U P n (0, x, 0, 0, w)) (n + 1) (upd a1 n (nI 0)) (upd a2 n w) (upd a3 n (nI x)) b4 := by
  intro i hi
  by_cases c : i = n
  · subst c
    unfold so_k so_x so_y so_z so_w
    rw [so_Us, pk_us, pk_us, pk_us]
    dsimp only
    exact ⟨rfl, by decide, hx, by decide, by decide, fun _ => ⟨rfl, rfl⟩, fun z => absurd rfl z, fun z => absurd z (by decide), fun z => absurd z (by decide)⟩
  · have := h i (by omega)
    unfold so_k so_x so_y so_z so_w at this ⊢
    rw [so_Un c, pk_un c, pk_un c, pk_un c, h4 i (by omega)]
    exact this
theorem ad_93 {post : Int32 → St1 → Prop} {cm sd ce ld ol ob dp pc : Int32} {a1 a2 a3 a4 a5 a6 a7 a8 a9 a10 a11 a12 : Nat → Int32} {n k x y z : Nat} (hn : n < 40) (h0 : k ≠ 0) (hk : k ≤ 11) (hx : x < 6) (hy : y < 6) (hz : z < 6)
    (hp : post (nI (n + 1)) (nI (n + 1), 0, sd, ce, ld, ol, ob, dp, pc, upd a1 n (nI k), upd a2 n (nI x), upd a3 n (nI y), upd a4 n (nI z), a5, a6, a7, a8, a9, a10, a11, a12)) :
    wX_add_93 post (nI k) (nI x) (nI y) (nI z) (nI n) cm sd ce ld ol ob dp pc a1 a2 a3 a4 a5 a6 a7 a8 a9 a10 a11 a12 := by
  have hin : vp_in (nI n) 40 := vp_in_nI hn (by omega)
  have hcl : (nI n).toNatClampNeg = n := nI_clamp (by omega)
  refine ⟨hin, nm_r (e' := upd a1 n (nI k)) (by rw [hcl, la_b k (by omega)]) ?_⟩
  refine pk_eq k 0 (fun e => absurd e h0) (fun _ => ⟨hin, nm_r (e' := upd a2 n (nI x)) (by rw [hcl]) ?_⟩)
  refine pk_eq k 0 (fun e => absurd e h0) (fun _ => ⟨hin, nm_r (e' := upd a3 n (nI y)) (by rw [hcl, la_b y (by omega)]) ⟨hin, nm_r (e' := upd a4 n (nI z)) (by rw [hcl, la_b z (by omega)]) (nm_r (nI_1 n) hp)⟩⟩)
theorem ad_1 {post : Int32 → St1 → Prop} {cm sd ce ld ol ob dp pc : Int32} {a1 a2 a3 a4 a5 a6 a7 a8 a9 a10 a11 a12 : Nat → Int32} {n k x y z : Nat} (hn : n < 40) (h0 : k ≠ 0) (hk : k ≤ 11) (hx : x < 6) (hy : y < 6) (hz : z < 6)
    (hp : post (nI (n + 1)) (nI (n + 1), 0, sd, ce, ld, ol, ob, dp, pc, upd a1 n (nI k), upd a2 n (nI x), upd a3 n (nI y), upd a4 n (nI z), a5, a6, a7, a8, a9, a10, a11, a12)) :
    wpX_add post (nI n, cm, sd, ce, ld, ol, ob, dp, pc, a1, a2, a3, a4, a5, a6, a7, a8, a9, a10, a11, a12) (nI k) (nI x) (nI y) (nI z) := by
  have t : wX_add_93 post (nI k) (nI x) (nI y) (nI z) (nI n) cm sd ce ld ol ob dp pc a1 a2 a3 a4 a5 a6 a7 a8 a9 a10 a11 a12 := ad_93 hn h0 hk hx hy hz hp
  have t69 : wX_add_69 post (nI k) (nI x) (nI y) (nI z) (nI n) cm sd ce ld ol ob dp pc a1 a2 a3 a4 a5 a6 a7 a8 a9 a10 a11 a12 := by
    refine pk_lt k 2 (fun _ => t) (fun _ => pk_lt 6 k (fun _ => t) (fun _ => br_f (nI_pos (by omega)) ?_))
    exact pk_le z 5 (fun _ => t) (fun e => absurd e (by omega))
  have t47 : wX_add_47 post (nI k) (nI x) (nI y) (nI z) (nI n) cm sd ce ld ol ob dp pc a1 a2 a3 a4 a5 a6 a7 a8 a9 a10 a11 a12 := by
    refine pk_lt k 1 (fun _ => t69) (fun _ => pk_lt 6 k (fun _ => t69) (fun _ => br_f (nI_pos (by omega)) ?_))
    exact pk_le y 5 (fun _ => t69) (fun e => absurd e (by omega))
  refine pk_lt n 40 (fun _ => br_f (nI_pos (by omega)) (pk_le k 11 (fun _ => ?_) (fun e => absurd e (by omega)))) (fun e => absurd e (by omega))
  refine pk_eq k 9 (fun _ => t47) (fun _ => pk_eq k 11 (fun _ => t47) (fun _ => br_f (nI_pos (by omega)) ?_))
  exact pk_le x 5 (fun _ => t47) (fun e => absurd e (by omega))
theorem ad_0 {post : Int32 → St1 → Prop} {cm sd ce ld ol ob dp pc : Int32} {a1 a2 a3 a4 a5 a6 a7 a8 a9 a10 a11 a12 : Nat → Int32} {n x : Nat} {w : Int32} (hn : n < 40) (hx : x < 6)
    (hp : post (nI (n + 1)) (nI (n + 1), 0, sd, ce, ld, ol, ob, dp, pc, upd a1 n (nI 0), upd a2 n w, upd a3 n (nI x), upd a4 n 0, a5, a6, a7, a8, a9, a10, a11, a12)) :
    wpX_add post (nI n, cm, sd, ce, ld, ol, ob, dp, pc, a1, a2, a3, a4, a5, a6, a7, a8, a9, a10, a11, a12) (nI 0) (nI x) w 0 := by
  have hin : vp_in (nI n) 40 := vp_in_nI hn (by omega)
  have hcl : (nI n).toNatClampNeg = n := nI_clamp (by omega)
  have t : wX_add_93 post (nI 0) (nI x) w 0 (nI n) cm sd ce ld ol ob dp pc a1 a2 a3 a4 a5 a6 a7 a8 a9 a10 a11 a12 := by
    refine ⟨hin, nm_r (e' := upd a1 n (nI 0)) (by rw [hcl, la_b 0 (by omega)]) ?_⟩
    refine br_t rfl ⟨hin, nm_r (e' := upd a2 n w) (by rw [hcl]) ?_⟩
    refine br_t rfl ⟨hin, nm_r (e' := upd a3 n (nI x)) (by rw [hcl, la_b x (by omega)]) ⟨hin, nm_r (e' := upd a4 n 0) (by rw [hcl]; rfl) (nm_r (nI_1 n) hp)⟩⟩
  have t69 : wX_add_69 post (nI 0) (nI x) w 0 (nI n) cm sd ce ld ol ob dp pc a1 a2 a3 a4 a5 a6 a7 a8 a9 a10 a11 a12 := br_t (by decide) t
  have t47 : wX_add_47 post (nI 0) (nI x) w 0 (nI n) cm sd ce ld ol ob dp pc a1 a2 a3 a4 a5 a6 a7 a8 a9 a10 a11 a12 := br_t (by decide) t69
  refine pk_lt n 40 (fun _ => br_f (by decide) (br_t (by decide) (br_f (by decide) (br_f (by decide) (br_f (nI_pos (by omega)) ?_))))) (fun e => absurd e (by omega))
  exact pk_le x 5 (fun _ => t47) (fun e => absurd e (by omega))
theorem ad_f {post : Int32 → St1 → Prop} {cm sd ce ld ol ob dp pc : Int32} {a1 a2 a3 a4 a5 a6 a7 a8 a9 a10 a11 a12 : Nat → Int32} {n : Nat} {p0 p1 p2 p3 : Int32} (hn : n = 40) (hp : post (-2) (nI n, cm, sd, ce, ld, ol, ob, dp, pc, a1, a2, a3, a4, a5, a6, a7, a8, a9, a10, a11, a12)) :
    wpX_add post (nI n, cm, sd, ce, ld, ol, ob, dp, pc, a1, a2, a3, a4, a5, a6, a7, a8, a9, a10, a11, a12) p0 p1 p2 p3 := by
  refine pk_lt n 40 (fun e => absurd e (by omega)) (fun _ => hp)
theorem rt_ok {post : Int32 → St1 → Prop} {cm sd ce ld ol ob dp pc : Int32} {a1 a2 a3 a4 a5 a6 a7 a8 a9 a10 a11 a12 : Nat → Int32} {n : Nat} (hn : n < 100) (hp : post (nI n) (nI n, 0, sd, ce, ld, ol, ob, dp, pc, a1, a2, a3, a4, a5, a6, a7, a8, a9, a10, a11, a12)) : wpX_retract post (nI (n + 1), cm, sd, ce, ld, ol, ob, dp, pc, a1, a2, a3, a4, a5, a6, a7, a8, a9, a10, a11, a12) := by
  exact pk_eq (n + 1) 0 (fun e => absurd e (by omega)) (fun _ => nm_r (nI_pred n) hp)
theorem pz_ok {post : Int32 → St1 → Prop} {len cm sd ce ld ol ob dp pc : Int32} {a1 a2 a3 a4 a5 a6 a7 a8 a9 a10 a11 a12 : Nat → Int32} {k : Nat} {w : Int32} (hk : k < 6) (hp : post 1 (len, cm, sd, ce, ld, ol, ob, dp, pc, a1, a2, a3, a4, upd a5 k w, a6, a7, a8, a9, a10, a11, a12)) : wpX_put post (len, cm, sd, ce, ld, ol, ob, dp, pc, a1, a2, a3, a4, a5, a6, a7, a8, a9, a10, a11, a12) (nI k) w := by
  refine br_f (nI_pos (by omega)) (pk_le k 5 (fun _ => ⟨pk_in k 6 hk, nm_r (e' := upd a5 k w) (by rw [nI_clamp (by omega)]) hp⟩) (fun e => absurd e (by omega)))
def lx_I (u : St3) : Prop := match u with
  | (len, cm, sd, ce, ld, ol, ob, dp, pc, a1, a2, a3, a4, a5, a6, a7, a8, a9, a10, a11, a12, leny, cmy, sdy, cey, ldy, oly, oby, dpy, pcy, a1y, a2y, a3y, a4y, a5y, a6y, a7y, a8y, a9y, a10y, a11y, a12y) => ∃ (P : so_P) (n : Nat), n ≤ 40 ∧ len = nI n ∧ leny = nI n ∧ so_R P n a1 a2 a3 a4 ∧ so_R P n a1y a2y a3y a4y ∧
      (cm = 0 ∨ (cm = 1 ∧ ck_C P n sd ce a6 a7)) ∧ (cmy = 0 ∨ (cmy = 1 ∧ ck_C P n sdy cey a6y a7y)) ∧ a5y = a5 ∧ pcy = pc ∧ a12y = a12
theorem lz_a1 {post : Int32 → St3 → Prop} {len cm sd ce ld ol ob dp pc : Int32} {a1 a2 a3 a4 a5 a6 a7 a8 a9 a10 a11 a12 : Nat → Int32} {leny cmy sdy cey ldy oly oby dpy pcy : Int32} {a1y a2y a3y a4y a5y a6y a7y a8y a9y a10y a11y a12y : Nat → Int32} {k x y z : Nat} (h0 : k ≠ 0) (hk : k ≤ 11) (hx : x < 6) (hy : y < 6) (hz : z < 6) (hI : lx_I (len, cm, sd, ce, ld, ol, ob, dp, pc, a1, a2, a3, a4, a5, a6, a7, a8, a9, a10, a11, a12, leny, cmy, sdy, cey, ldy, oly, oby, dpy, pcy, a1y, a2y, a3y, a4y, a5y, a6y, a7y, a8y, a9y, a10y, a11y, a12y))
    (hp : ∀ u, lx_I u → post 1 u) : wpL_add post (len, cm, sd, ce, ld, ol, ob, dp, pc, a1, a2, a3, a4, a5, a6, a7, a8, a9, a10, a11, a12, leny, cmy, sdy, cey, ldy, oly, oby, dpy, pcy, a1y, a2y, a3y, a4y, a5y, a6y, a7y, a8y, a9y, a10y, a11y, a12y) (nI k) (nI x) (nI y) (nI z) := by
  obtain ⟨P, n, hn, e1, e2, r1, r2, c1, c2, e5, ep, e12⟩ := hI
  subst e1 e2
  unfold wpL_add
  rcases Nat.lt_or_ge n 40 with z | z
  · refine ad_1 z h0 hk hx hy hz ?_
    refine ad_1 z h0 hk hx hy hz ?_
    exact br_t rfl (hp _ ⟨so_U P n _, n + 1, by omega, rfl, rfl, so_R_1 r1 hk hx hy hz h0, so_R_1 r2 hk hx hy hz h0, Or.inl rfl, Or.inl rfl, e5, ep, e12⟩)
  · have e : n = 40 := by omega
    refine ad_f e ?_
    refine ad_f e ?_
    exact br_t rfl (hp _ ⟨P, n, hn, rfl, rfl, r1, r2, c1, c2, e5, ep, e12⟩)
theorem lz_a0 {post : Int32 → St3 → Prop} {len cm sd ce ld ol ob dp pc : Int32} {a1 a2 a3 a4 a5 a6 a7 a8 a9 a10 a11 a12 : Nat → Int32} {leny cmy sdy cey ldy oly oby dpy pcy : Int32} {a1y a2y a3y a4y a5y a6y a7y a8y a9y a10y a11y a12y : Nat → Int32} {x : Nat} {w : Int32} (hx : x < 6) (hI : lx_I (len, cm, sd, ce, ld, ol, ob, dp, pc, a1, a2, a3, a4, a5, a6, a7, a8, a9, a10, a11, a12, leny, cmy, sdy, cey, ldy, oly, oby, dpy, pcy, a1y, a2y, a3y, a4y, a5y, a6y, a7y, a8y, a9y, a10y, a11y, a12y))
    (hp : ∀ u, lx_I u → post 1 u) : wpL_add post (len, cm, sd, ce, ld, ol, ob, dp, pc, a1, a2, a3, a4, a5, a6, a7, a8, a9, a10, a11, a12, leny, cmy, sdy, cey, ldy, oly, oby, dpy, pcy, a1y, a2y, a3y, a4y, a5y, a6y, a7y, a8y, a9y, a10y, a11y, a12y) (nI 0) (nI x) w 0 := by
  obtain ⟨P, n, hn, e1, e2, r1, r2, c1, c2, e5, ep, e12⟩ := hI
  subst e1 e2
  unfold wpL_add
  rcases Nat.lt_or_ge n 40 with z | z
  · refine ad_0 z hx ?_
    refine ad_0 z hx ?_
    exact br_t rfl (hp _ ⟨so_U P n _, n + 1, by omega, rfl, rfl, so_R_0 r1 hx (fun j hj => pk_un (by omega)), so_R_0 r2 hx (fun j hj => pk_un (by omega)), Or.inl rfl, Or.inl rfl, e5, ep, e12⟩)
  · have e : n = 40 := by omega
    refine ad_f e ?_
    refine ad_f e ?_
    exact br_t rfl (hp _ ⟨P, n, hn, rfl, rfl, r1, r2, c1, c2, e5, ep, e12⟩)
theorem ov_ok {post : Int32 → Prop} {len cm sd ce ld ol ob dp pc : Int32} {a1 a2 a3 a4 a5 a6 a7 a8 a9 a10 a11 a12 : Nat → Int32} {k : Nat} (hk : k < 64) (hp : post (if pc ≤ nI k then 0 else a12 k)) : wpX_output post (len, cm, sd, ce, ld, ol, ob, dp, pc, a1, a2, a3, a4, a5, a6, a7, a8, a9, a10, a11, a12) (nI k) := by
  refine br_f (nI_pos (by omega)) (br_c (fun z => ?_) (fun z => pk_lt k 64 (fun _ => ⟨pk_in k 64 hk, ?_⟩) (fun e => absurd e (by omega))))
  · rw [if_pos z] at hp
    exact hp
  · rw [if_neg z] at hp
    rw [nI_clamp (by omega)]
    exact hp
theorem vr_ok {post : Int32 → Prop} {len cm sd ce ld ol ob dp pc : Int32} {a1 a2 a3 a4 a5 a6 a7 a8 a9 a10 a11 a12 : Nat → Int32} {k : Nat} (hk : k < 6) (hp : post (a5 k)) : wpX_variable post (len, cm, sd, ce, ld, ol, ob, dp, pc, a1, a2, a3, a4, a5, a6, a7, a8, a9, a10, a11, a12) (nI k) := by
  refine br_f (nI_pos (by omega)) (pk_le k 5 (fun _ => ⟨pk_in k 6 hk, ?_⟩) (fun e => absurd e (by omega)))
  rw [nI_clamp (by omega)]
  exact hp
theorem sm_ok {post : Int32 → Prop} {len cm sd ce ld ol ob dp pc : Int32} {a1 a2 a3 a4 a5 a6 a7 a8 a9 a10 a11 a12 : Nat → Int32} {leny cmy sdy cey ldy oly oby dpy pcy : Int32} {a1y a2y a3y a4y a5y a6y a7y a8y a9y a10y a11y a12y : Nat → Int32} (e5 : a5y = a5) (ep : pcy = pc) (e12 : a12y = a12) (hp : post 1) : wpL_same post (len, cm, sd, ce, ld, ol, ob, dp, pc, a1, a2, a3, a4, a5, a6, a7, a8, a9, a10, a11, a12, leny, cmy, sdy, cey, ldy, oly, oby, dpy, pcy, a1y, a2y, a3y, a4y, a5y, a6y, a7y, a8y, a9y, a10y, a11y, a12y) := by
  subst e5 ep e12
  refine br_t rfl ?_
  refine pk_loop (σ := Unit) (fun n k _ => wL_same_15 post len cm sd ce ld ol ob dp pcy a1 a2 a3 a4 a5y a6 a7 a8 a9 a10 a11 a12y leny cmy sdy cey ldy oly oby dpy pcy a1y a2y a3y a4y a5y a6y a7y a8y a9y a10y a11y a12y n (nI k)) (fun _ _ => True) 64 0 () (by omega) trivial (fun n _ _ => ?_) (fun n k _ hk _ hw => ?_)
  · refine pk_le 64 64 (fun _ => ?_) (fun e => absurd e (by omega))
    refine pk_loop (σ := Unit) (fun n k _ => wL_same_44 post len cm sd ce ld ol ob dp pcy a1 a2 a3 a4 a5y a6 a7 a8 a9 a10 a11 a12y leny cmy sdy cey ldy oly oby dpy pcy a1y a2y a3y a4y a5y a6y a7y a8y a9y a10y a11y a12y n (nI k)) (fun _ _ => True) 6 0 () (by omega) trivial (fun n _ _ => ?_) (fun n k _ hk _ hw => ?_)
    · exact pk_le 6 6 (fun _ => hp) (fun e => absurd e (by omega))
    · refine pk_le 6 k (fun e => absurd e (by omega)) (fun _ => ?_)
      refine vr_ok hk ?_
      refine vr_ok hk ?_
      exact br_t rfl (nm_r (nI_1 k) (hw () trivial))
  · refine pk_le 64 k (fun e => absurd e (by omega)) (fun _ => ?_)
    refine ov_ok hk ?_
    refine ov_ok hk ?_
    exact br_t rfl (nm_r (nI_1 k) (hw () trivial))
theorem ru_43 {post : Int32 → St3 → Prop} {len cm sd ce ld ol ob dp pc : Int32} {a1 a2 a3 a4 a5 a6 a7 a8 a9 a10 a11 a12 : Nat → Int32} {leny cmy sdy cey ldy oly oby dpy pcy : Int32} {a1y a2y a3y a4y a5y a6y a7y a8y a9y a10y a11y a12y : Nat → Int32} {r : Int32} (hr : r = -3 ∨ r = pc) (hI : lx_I (len, cm, sd, ce, ld, ol, ob, dp, pc, a1, a2, a3, a4, a5, a6, a7, a8, a9, a10, a11, a12, leny, cmy, sdy, cey, ldy, oly, oby, dpy, pcy, a1y, a2y, a3y, a4y, a5y, a6y, a7y, a8y, a9y, a10y, a11y, a12y)) (hp : ∀ u, lx_I u → post 1 u) :
    wL_run_43 post r len cm sd ce ld ol ob dp pc a1 a2 a3 a4 a5 a6 a7 a8 a9 a10 a11 a12 leny cmy sdy cey ldy oly oby dpy pcy a1y a2y a3y a4y a5y a6y a7y a8y a9y a10y a11y a12y := by
  have hI' := hI
  obtain ⟨P, n, hn, e1, e2, r1, r2, c1, c2, e5, ep, e12⟩ := hI'
  have S : wL_run_59 post len cm sd ce ld ol ob dp pc a1 a2 a3 a4 a5 a6 a7 a8 a9 a10 a11 a12 leny cmy sdy cey ldy oly oby dpy pcy a1y a2y a3y a4y a5y a6y a7y a8y a9y a10y a11y a12y := sm_ok e5 ep e12 ⟨rfl, hp _ hI⟩
  refine br_c (fun _ => S) (fun z => ?_)
  rcases hr with e | e
  · exact absurd e z
  · exact br_t e.symm S
theorem ru_ok {post : Int32 → St3 → Prop} {len cm sd ce ld ol ob dp pc : Int32} {a1 a2 a3 a4 a5 a6 a7 a8 a9 a10 a11 a12 : Nat → Int32} {leny cmy sdy cey ldy oly oby dpy pcy : Int32} {a1y a2y a3y a4y a5y a6y a7y a8y a9y a10y a11y a12y : Nat → Int32} {v : Nat} (hv : v < 6) (hI : lx_I (len, cm, sd, ce, ld, ol, ob, dp, pc, a1, a2, a3, a4, a5, a6, a7, a8, a9, a10, a11, a12, leny, cmy, sdy, cey, ldy, oly, oby, dpy, pcy, a1y, a2y, a3y, a4y, a5y, a6y, a7y, a8y, a9y, a10y, a11y, a12y)) (hp : ∀ u, lx_I u → post 1 u) :
    wpL_run post (len, cm, sd, ce, ld, ol, ob, dp, pc, a1, a2, a3, a4, a5, a6, a7, a8, a9, a10, a11, a12, leny, cmy, sdy, cey, ldy, oly, oby, dpy, pcy, a1y, a2y, a3y, a4y, a5y, a6y, a7y, a8y, a9y, a10y, a11y, a12y) (nI v) := by
  obtain ⟨P, n, hn, e1, e2, r1, r2, c1, c2, e5, ep, e12⟩ := hI
  subst e1 e2 e5 ep e12
  unfold wpL_run
  have hcp : ∀ w, se_F (so_U P n (1, v, v, 0, 0)) (n + 1) = w ↔ se_F P n = w := by
    intro w
    rw [se_F_cp (P := P) (P' := so_U P n (1, v, v, 0, 0)) (n := n) hv (fun i hi => so_Un (by omega)) so_Us]
  refine rn_ok r1 hn c1 ?_ ?_
  · intro hF sd1 ce1 ld1 ol1 ob1 b6 b7 b8 b9 b10 hC
    rcases Nat.lt_or_ge n 40 with z | z
    · refine ad_1 (k := 1) (z := 0) z (by decide) (by decide) hv hv (by decide) ?_
      refine rn_ok (so_R_1 r2 (by decide) hv hv (by decide) (by decide)) (by omega) (Or.inl rfl) ?_ ?_
      · intro hF' sd2 ce2 ld2 ol2 ob2 d6 d7 d8 d9 d10 hC'
        refine br_t rfl (br_f (nI_nle (by omega) (by omega)) ?_)
        refine rt_ok (by omega) (br_t (nI_pred n).symm ?_)
        exact ru_43 (Or.inl rfl) ⟨P, n, hn, rfl, rfl, r1, so_R_dn (so_R_1 r2 (by decide) hv hv (by decide) (by decide)), Or.inr ⟨rfl, hC⟩, Or.inl rfl, rfl, rfl, rfl⟩ hp
      · intro f hF'
        exact absurd ((hcp _).mp hF') (hF f)
    · refine ad_f (by omega) ?_
      refine rn_ok r2 hn c2 ?_ ?_
      · intro hF' sd2 ce2 ld2 ol2 ob2 d6 d7 d8 d9 d10 hC'
        refine br_t rfl (br_t (by decide) ?_)
        exact ru_43 (Or.inl rfl) ⟨P, n, hn, rfl, rfl, r1, r2, Or.inr ⟨rfl, hC⟩, Or.inr ⟨rfl, hC'⟩, rfl, rfl, rfl⟩ hp
      · intro f hF'
        exact absurd hF' (hF f)
  · intro f hF sd1 ce1 ld1 ol1 ob1 dp1 b6 b7 b8 b9 b10 b11 hC
    rcases Nat.lt_or_ge n 40 with z | z
    · refine ad_1 (k := 1) (z := 0) z (by decide) (by decide) hv hv (by decide) ?_
      refine rn_ok (so_R_1 r2 (by decide) hv hv (by decide) (by decide)) (by omega) (Or.inl rfl) ?_ ?_
      · intro hF'
        exact absurd ((hcp _).mpr hF) (hF' f)
      · intro f' hF' sd2 ce2 ld2 ol2 ob2 dp2 d6 d7 d8 d9 d10 d11 hC'
        have ef : f' = f := by
          have t := (hcp _).mp hF'
          rw [hF] at t
          injection t with t
          injection t with t
          exact t.symm
        subst ef
        refine br_t rfl (br_f (nI_nle (by omega) (by omega)) ?_)
        refine rt_ok (by omega) (br_t (nI_pred n).symm ?_)
        exact ru_43 (Or.inr rfl) ⟨P, n, hn, rfl, rfl, r1, so_R_dn (so_R_1 r2 (by decide) hv hv (by decide) (by decide)), Or.inr ⟨rfl, hC⟩, Or.inl rfl, rfl, rfl, rfl⟩ hp
    · refine ad_f (by omega) ?_
      refine rn_ok r2 hn c2 ?_ ?_
      · intro hF'
        exact absurd hF (hF' f)
      · intro f' hF' sd2 ce2 ld2 ol2 ob2 dp2 d6 d7 d8 d9 d10 d11 hC'
        have ef : f' = f := by
          rw [hF] at hF'
          injection hF' with t
          injection t with t
          exact t.symm
        subst ef
        refine br_t rfl (br_t (by decide) ?_)
        exact ru_43 (Or.inr rfl) ⟨P, n, hn, rfl, rfl, r1, r2, Or.inr ⟨rfl, hC⟩, Or.inr ⟨rfl, hC'⟩, rfl, rfl, rfl⟩ hp
end
section
theorem ce_ok {post : Int32 → Prop} {L k : Nat} {xs : Nat → Int32} (hL : L ≤ 260) (hk : k < 1000) (hp : ∀ c, post c) : wpL_cell post L xs () (nI k) :=
  pk_le L k (fun _ => hp 0) (fun z => ⟨pk_in k L z, hp _⟩)
theorem lz_359 {post : Int32 → Prop} {L : Nat} {xs : Nat → Int32} {J : Int32 → Int32 → Int32 → Int32 → Int32 → Int32 → Int32 → Int32 → Int32 → Int32 → Int32 → (Nat → Int32) → (Nat → Int32) → (Nat → Int32) → (Nat → Int32) → (Nat → Int32) → (Nat → Int32) → (Nat → Int32) → (Nat → Int32) → (Nat → Int32) → (Nat → Int32) → (Nat → Int32) → (Nat → Int32) → Int32 → Int32 → Int32 → Int32 → Int32 → Int32 → Int32 → Int32 → Int32 → (Nat → Int32) → (Nat → Int32) → (Nat → Int32) → (Nat → Int32) → (Nat → Int32) → (Nat → Int32) → (Nat → Int32) → (Nat → Int32) → (Nat → Int32) → (Nat → Int32) → (Nat → Int32) → (Nat → Int32) → Prop} {len cm sd ce ld ol ob dp pc : Int32} {a1 a2 a3 a4 a5 a6 a7 a8 a9 a10 a11 a12 : Nat → Int32} {leny cmy sdy cey ldy oly oby dpy pcy : Int32} {a1y a2y a3y a4y a5y a6y a7y a8y a9y a10y a11y a12y : Nat → Int32} {o i kc ks : Nat}
    (hJ : J (nI o) (nI (i + 4)) len cm sd ce ld ol ob dp pc a1 a2 a3 a4 a5 a6 a7 a8 a9 a10 a11 a12 leny cmy sdy cey ldy oly oby dpy pcy a1y a2y a3y a4y a5y a6y a7y a8y a9y a10y a11y a12y) : wL_law_359 post L xs J (nI o) (nI i) 1 kc ks len cm sd ce ld ol ob dp pc a1 a2 a3 a4 a5 a6 a7 a8 a9 a10 a11 a12 leny cmy sdy cey ldy oly oby dpy pcy a1y a2y a3y a4y a5y a6y a7y a8y a9y a10y a11y a12y :=
  br_f (by decide) (nm_r (nI_add i 4) hJ)
theorem lz_190 {post : Int32 → Prop} {L : Nat} {xs : Nat → Int32} {J : Int32 → Int32 → Int32 → Int32 → Int32 → Int32 → Int32 → Int32 → Int32 → Int32 → Int32 → (Nat → Int32) → (Nat → Int32) → (Nat → Int32) → (Nat → Int32) → (Nat → Int32) → (Nat → Int32) → (Nat → Int32) → (Nat → Int32) → (Nat → Int32) → (Nat → Int32) → (Nat → Int32) → (Nat → Int32) → Int32 → Int32 → Int32 → Int32 → Int32 → Int32 → Int32 → Int32 → Int32 → (Nat → Int32) → (Nat → Int32) → (Nat → Int32) → (Nat → Int32) → (Nat → Int32) → (Nat → Int32) → (Nat → Int32) → (Nat → Int32) → (Nat → Int32) → (Nat → Int32) → (Nat → Int32) → (Nat → Int32) → Prop} {len cm sd ce ld ol ob dp pc : Int32} {a1 a2 a3 a4 a5 a6 a7 a8 a9 a10 a11 a12 : Nat → Int32} {leny cmy sdy cey ldy oly oby dpy pcy : Int32} {a1y a2y a3y a4y a5y a6y a7y a8y a9y a10y a11y a12y : Nat → Int32} {o i kc ks k x : Nat}
    (hk : k = 8 ∨ k = 10) (hx : x < 6) (ho : o ≤ 3) (hI : lx_I (len, cm, sd, ce, ld, ol, ob, dp, pc, a1, a2, a3, a4, a5, a6, a7, a8, a9, a10, a11, a12, leny, cmy, sdy, cey, ldy, oly, oby, dpy, pcy, a1y, a2y, a3y, a4y, a5y, a6y, a7y, a8y, a9y, a10y, a11y, a12y))
    (hJ : ∀ (o' : Nat) (len cm sd ce ld ol ob dp pc a1 a2 a3 a4 a5 a6 a7 a8 a9 a10 a11 a12 leny cmy sdy cey ldy oly oby dpy pcy a1y a2y a3y a4y a5y a6y a7y a8y a9y a10y a11y a12y : _), o' ≤ 3 → lx_I (len, cm, sd, ce, ld, ol, ob, dp, pc, a1, a2, a3, a4, a5, a6, a7, a8, a9, a10, a11, a12, leny, cmy, sdy, cey, ldy, oly, oby, dpy, pcy, a1y, a2y, a3y, a4y, a5y, a6y, a7y, a8y, a9y, a10y, a11y, a12y) → J (nI o') (nI (i + 4)) len cm sd ce ld ol ob dp pc a1 a2 a3 a4 a5 a6 a7 a8 a9 a10 a11 a12 leny cmy sdy cey ldy oly oby dpy pcy a1y a2y a3y a4y a5y a6y a7y a8y a9y a10y a11y a12y) : wL_law_190 post L xs J (nI o) (nI i) (nI k) (nI x) 1 kc ks len cm sd ce ld ol ob dp pc a1 a2 a3 a4 a5 a6 a7 a8 a9 a10 a11 a12 leny cmy sdy cey ldy oly oby dpy pcy a1y a2y a3y a4y a5y a6y a7y a8y a9y a10y a11y a12y := by
  refine pk_le 3 o (fun _ => lz_359 (hJ o _ _ _ _ _ _ _ _ _ _ _ _ _ _ _ _ _ _ _ _ _ _ _ _ _ _ _ _ _ _ _ _ _ _ _ _ _ _ _ _ _ _ ho hI)) (fun z => ?_)
  refine lz_a1 (k := k) (y := 0) (z := 0) (by omega) (by omega) hx (by decide) (by decide) hI (fun u hu => ?_)
  obtain ⟨len, cm, sd, ce, ld, ol, ob, dp, pc, a1, a2, a3, a4, a5, a6, a7, a8, a9, a10, a11, a12, leny, cmy, sdy, cey, ldy, oly, oby, dpy, pcy, a1y, a2y, a3y, a4y, a5y, a6y, a7y, a8y, a9y, a10y, a11y, a12y⟩ := u
  exact nm_r (nI_1 o) (lz_359 (hJ (o + 1) _ _ _ _ _ _ _ _ _ _ _ _ _ _ _ _ _ _ _ _ _ _ _ _ _ _ _ _ _ _ _ _ _ _ _ _ _ _ _ _ _ _ (by omega) hu))
theorem lz_375 {L : Nat} {xs : Nat → Int32} {o kc ks : Nat} (hL : L ≤ 260) (ho : o ≤ 3) :
    ∀ m k, k + m = 3 → ∀ len cm sd ce ld ol ob dp pc a1 a2 a3 a4 a5 a6 a7 a8 a9 a10 a11 a12 leny cmy sdy cey ldy oly oby dpy pcy a1y a2y a3y a4y a5y a6y a7y a8y a9y a10y a11y a12y, lx_I (len, cm, sd, ce, ld, ol, ob, dp, pc, a1, a2, a3, a4, a5, a6, a7, a8, a9, a10, a11, a12, leny, cmy, sdy, cey, ldy, oly, oby, dpy, pcy, a1y, a2y, a3y, a4y, a5y, a6y, a7y, a8y, a9y, a10y, a11y, a12y) → wL_law_375 (fun r => r = 1) L xs (nI o) kc ks (m + 1) (nI k) len cm sd ce ld ol ob dp pc a1 a2 a3 a4 a5 a6 a7 a8 a9 a10 a11 a12 leny cmy sdy cey ldy oly oby dpy pcy a1y a2y a3y a4y a5y a6y a7y a8y a9y a10y a11y a12y := by
  intro m
  induction m with
  | zero =>
    intro k hk len cm sd ce ld ol ob dp pc a1 a2 a3 a4 a5 a6 a7 a8 a9 a10 a11 a12 leny cmy sdy cey ldy oly oby dpy pcy a1y a2y a3y a4y a5y a6y a7y a8y a9y a10y a11y a12y hI
    refine pk_le 3 k (fun _ => ?_) (fun z => absurd z (by omega))
    refine ce_ok (k := 0) hL (by omega) (fun c0 => ?_)
    obtain ⟨j0, hj0, e0⟩ := pk_andE c0 (m := 3) 2 rfl
    refine nm_r e0 ?_
    refine ce_ok (k := 1) hL (by omega) (fun c1 => ?_)
    obtain ⟨j1, hj1, e1⟩ := pk_andE c1 (m := 3) 2 rfl
    refine nm_r e1 ?_
    refine ru_ok (by omega) hI (fun u hu => ?_)
    obtain ⟨len, cm, sd, ce, ld, ol, ob, dp, pc, a1, a2, a3, a4, a5, a6, a7, a8, a9, a10, a11, a12, leny, cmy, sdy, cey, ldy, oly, oby, dpy, pcy, a1y, a2y, a3y, a4y, a5y, a6y, a7y, a8y, a9y, a10y, a11y, a12y⟩ := u
    refine br_f (by decide) ?_
    refine ru_ok (by omega) hu (fun u hu => ?_)
    obtain ⟨len, cm, sd, ce, ld, ol, ob, dp, pc, a1, a2, a3, a4, a5, a6, a7, a8, a9, a10, a11, a12, leny, cmy, sdy, cey, ldy, oly, oby, dpy, pcy, a1y, a2y, a3y, a4y, a5y, a6y, a7y, a8y, a9y, a10y, a11y, a12y⟩ := u
    exact br_f (by decide) rfl
  | succ m ih =>
    intro k hk len cm sd ce ld ol ob dp pc a1 a2 a3 a4 a5 a6 a7 a8 a9 a10 a11 a12 leny cmy sdy cey ldy oly oby dpy pcy a1y a2y a3y a4y a5y a6y a7y a8y a9y a10y a11y a12y hI
    refine pk_le 3 k (fun z => absurd z (by omega)) (fun _ => ?_)
    refine pk_le o k (fun _ => nm_r (nI_1 k) (ih (k + 1) (by omega) _ _ _ _ _ _ _ _ _ _ _ _ _ _ _ _ _ _ _ _ _ _ _ _ _ _ _ _ _ _ _ _ _ _ _ _ _ _ _ _ _ _ hI)) (fun _ => ?_)
    refine lz_a1 (k := 11) (x := 0) (y := 0) (z := 0) (by omega) (by omega) (by decide) (by decide) (by decide) hI (fun u hu => ?_)
    obtain ⟨len, cm, sd, ce, ld, ol, ob, dp, pc, a1, a2, a3, a4, a5, a6, a7, a8, a9, a10, a11, a12, leny, cmy, sdy, cey, ldy, oly, oby, dpy, pcy, a1y, a2y, a3y, a4y, a5y, a6y, a7y, a8y, a9y, a10y, a11y, a12y⟩ := u
    exact br_f (by decide) (nm_r (nI_1 k) (ih (k + 1) (by omega) _ _ _ _ _ _ _ _ _ _ _ _ _ _ _ _ _ _ _ _ _ _ _ _ _ _ _ _ _ _ _ _ _ _ _ _ _ _ _ _ _ _ hu))
theorem lz_lt {L i : Nat} (hL : L ≤ 260) (hi : i < 1000) : (Int32.ofNat L - 4 < nI i) ↔ L < i + 4 := by
  have e : (Int32.ofNat L - 4 : Int32) = nI L - nI 4 := rfl
  rw [e, Int32.lt_iff_toInt_lt, pk_sub_toInt (by omega) (by omega), nI_toInt (by omega)]
  omega
theorem lz_md (x : Int32) : ∃ j, j < 6 ∧ (x &&& 255) - (x &&& 255) / 6 * 6 = nI j := by
  obtain ⟨k, hk, e⟩ := pk_andE x (m := 255) 8 rfl
  refine ⟨k % 6, by omega, ?_⟩
  rw [e]
  exact pk_rem (d := 6) (by omega) (by omega) (by omega)
theorem lz_59 {L : Nat} {xs : Nat → Int32} {kc ks : Nat} (hL : L ≤ 260) :
    ∀ m i, L < i + 4 * m + 4 → i < 300 → ∀ (o : Nat) len cm sd ce ld ol ob dp pc a1 a2 a3 a4 a5 a6 a7 a8 a9 a10 a11 a12 leny cmy sdy cey ldy oly oby dpy pcy a1y a2y a3y a4y a5y a6y a7y a8y a9y a10y a11y a12y, o ≤ 3 → lx_I (len, cm, sd, ce, ld, ol, ob, dp, pc, a1, a2, a3, a4, a5, a6, a7, a8, a9, a10, a11, a12, leny, cmy, sdy, cey, ldy, oly, oby, dpy, pcy, a1y, a2y, a3y, a4y, a5y, a6y, a7y, a8y, a9y, a10y, a11y, a12y) → wL_law_59 (fun r => r = 1) L xs kc ks (m + 1) (nI o) (nI i) len cm sd ce ld ol ob dp pc a1 a2 a3 a4 a5 a6 a7 a8 a9 a10 a11 a12 leny cmy sdy cey ldy oly oby dpy pcy a1y a2y a3y a4y a5y a6y a7y a8y a9y a10y a11y a12y := by
  intro m
  induction m with
  | zero =>
    intro i hi hi3 o len cm sd ce ld ol ob dp pc a1 a2 a3 a4 a5 a6 a7 a8 a9 a10 a11 a12 leny cmy sdy cey ldy oly oby dpy pcy a1y a2y a3y a4y a5y a6y a7y a8y a9y a10y a11y a12y ho hI
    refine br_t ((lz_lt hL (by omega)).mpr (by omega)) ⟨3 + 1, lz_375 hL ho 3 0 (by omega) _ _ _ _ _ _ _ _ _ _ _ _ _ _ _ _ _ _ _ _ _ _ _ _ _ _ _ _ _ _ _ _ _ _ _ _ _ _ _ _ _ _ hI⟩
  | succ m ih =>
    intro i hi hi3 o len cm sd ce ld ol ob dp pc a1 a2 a3 a4 a5 a6 a7 a8 a9 a10 a11 a12 leny cmy sdy cey ldy oly oby dpy pcy a1y a2y a3y a4y a5y a6y a7y a8y a9y a10y a11y a12y ho hI
    by_cases hx : L < i + 4
    · exact br_t ((lz_lt hL (by omega)).mpr hx) ⟨3 + 1, lz_375 hL ho 3 0 (by omega) _ _ _ _ _ _ _ _ _ _ _ _ _ _ _ _ _ _ _ _ _ _ _ _ _ _ _ _ _ _ _ _ _ _ _ _ _ _ _ _ _ _ hI⟩
    · refine br_f (fun z => hx ((lz_lt hL (by omega)).mp z)) ?_
      have hJ : ∀ (o' : Nat) (len cm sd ce ld ol ob dp pc a1 a2 a3 a4 a5 a6 a7 a8 a9 a10 a11 a12 leny cmy sdy cey ldy oly oby dpy pcy a1y a2y a3y a4y a5y a6y a7y a8y a9y a10y a11y a12y : _), o' ≤ 3 → lx_I (len, cm, sd, ce, ld, ol, ob, dp, pc, a1, a2, a3, a4, a5, a6, a7, a8, a9, a10, a11, a12, leny, cmy, sdy, cey, ldy, oly, oby, dpy, pcy, a1y, a2y, a3y, a4y, a5y, a6y, a7y, a8y, a9y, a10y, a11y, a12y) → wL_law_59 (fun r => r = 1) L xs kc ks (m + 1) (nI o') (nI (i + 4)) len cm sd ce ld ol ob dp pc a1 a2 a3 a4 a5 a6 a7 a8 a9 a10 a11 a12 leny cmy sdy cey ldy oly oby dpy pcy a1y a2y a3y a4y a5y a6y a7y a8y a9y a10y a11y a12y :=
        fun o' len cm sd ce ld ol ob dp pc a1 a2 a3 a4 a5 a6 a7 a8 a9 a10 a11 a12 leny cmy sdy cey ldy oly oby dpy pcy a1y a2y a3y a4y a5y a6y a7y a8y a9y a10y a11y a12y ho' hI' => ih (i + 4) (by omega) (by omega) o' len cm sd ce ld ol ob dp pc a1 a2 a3 a4 a5 a6 a7 a8 a9 a10 a11 a12 leny cmy sdy cey ldy oly oby dpy pcy a1y a2y a3y a4y a5y a6y a7y a8y a9y a10y a11y a12y ho' hI'
      have hin : ∀ q, q < 4 → vp_in (nI (i + q)) L := fun q hq => vp_in_nI (by omega) (by omega)
      have a1' : nI i + 1 = nI (i + 1) := nI_add i 1
      have a2' : nI i + 2 = nI (i + 2) := nI_add i 2
      have a3' : nI i + 3 = nI (i + 3) := nI_add i 3
      obtain ⟨k, hk, ek⟩ := pk_andE (xs i) (m := 15) 4 rfl
      obtain ⟨p, hp, ep⟩ := lz_md (xs (i + 1))
      obtain ⟨q, hq, eq⟩ := lz_md (xs (i + 2))
      obtain ⟨w, hw, ew⟩ := lz_md (xs (i + 3))
      refine ⟨hin 0 (by omega), nm_r (e' := nI k) (by rw [nI_clamp (by omega)]; exact ek) ?_⟩
      refine ⟨by rw [a1']; exact hin 1 (by omega), by decide, nm_r (e' := nI p) (by rw [a1', nI_clamp (by omega)]; exact ep) ?_⟩
      refine ⟨by rw [a2']; exact hin 2 (by omega), by decide, nm_r (e' := nI q) (by rw [a2', nI_clamp (by omega)]; exact eq) ?_⟩
      refine ⟨by rw [a3']; exact hin 3 (by omega), by decide, nm_r (e' := nI w) (by rw [a3', nI_clamp (by omega)]; exact ew) ?_⟩
      refine pk_eq k 0 (fun z => ⟨by rw [a3']; exact hin 3 (by omega), ?_⟩) (fun z0 => ?_)
      · subst z
        refine lz_a0 hp hI (fun u hu => ?_)
        obtain ⟨len, cm, sd, ce, ld, ol, ob, dp, pc, a1, a2, a3, a4, a5, a6, a7, a8, a9, a10, a11, a12, leny, cmy, sdy, cey, ldy, oly, oby, dpy, pcy, a1y, a2y, a3y, a4y, a5y, a6y, a7y, a8y, a9y, a10y, a11y, a12y⟩ := u
        exact lz_359 (hJ o _ _ _ _ _ _ _ _ _ _ _ _ _ _ _ _ _ _ _ _ _ _ _ _ _ _ _ _ _ _ _ _ _ _ _ _ _ _ _ _ _ _ ho hu)
      · refine pk_lt 7 k (fun z7 => ?_) (fun z7 => ?_)
        · refine pk_eq k 8 (fun z => lz_190 (Or.inl z) hp ho hI hJ) (fun z8 => ?_)
          refine pk_eq k 10 (fun z => lz_190 (Or.inr z) hp ho hI hJ) (fun z10 => ?_)
          refine pk_eq k 11 (fun z => ?_) (fun z11 => ?_)
          · subst z
            refine pk_le o 0 (fun _ => lz_359 (hJ o _ _ _ _ _ _ _ _ _ _ _ _ _ _ _ _ _ _ _ _ _ _ _ _ _ _ _ _ _ _ _ _ _ _ _ _ _ _ _ _ _ _ ho hI)) (fun zo => ?_)
            refine lz_a1 (k := 11) (x := 0) (y := 0) (z := 0) (by omega) (by omega) (by decide) (by decide) (by decide) hI (fun u hu => ?_)
            obtain ⟨len, cm, sd, ce, ld, ol, ob, dp, pc, a1, a2, a3, a4, a5, a6, a7, a8, a9, a10, a11, a12, leny, cmy, sdy, cey, ldy, oly, oby, dpy, pcy, a1y, a2y, a3y, a4y, a5y, a6y, a7y, a8y, a9y, a10y, a11y, a12y⟩ := u
            refine nm_r (e' := nI (o - 1)) ?_ (lz_359 (hJ (o - 1) _ _ _ _ _ _ _ _ _ _ _ _ _ _ _ _ _ _ _ _ _ _ _ _ _ _ _ _ _ _ _ _ _ _ _ _ _ _ _ _ _ _ (by omega) hu))
            rw [show o = o - 1 + 1 by omega]
            exact pk_m1 (o - 1)
          · refine pk_eq k 9 (fun z => ?_) (fun z9 => ?_)
            · refine pk_le 3 o (fun _ => lz_359 (hJ o _ _ _ _ _ _ _ _ _ _ _ _ _ _ _ _ _ _ _ _ _ _ _ _ _ _ _ _ _ _ _ _ _ _ _ _ _ _ _ _ _ _ ho hI)) (fun zo => ?_)
              refine lz_a1 (k := 8) (y := 0) (z := 0) (by omega) (by omega) hp (by decide) (by decide) hI (fun u hu => ?_)
              obtain ⟨len, cm, sd, ce, ld, ol, ob, dp, pc, a1, a2, a3, a4, a5, a6, a7, a8, a9, a10, a11, a12, leny, cmy, sdy, cey, ldy, oly, oby, dpy, pcy, a1y, a2y, a3y, a4y, a5y, a6y, a7y, a8y, a9y, a10y, a11y, a12y⟩ := u
              refine br_f (by decide) ?_
              refine lz_a1 (k := 1) (z := 0) (by omega) (by omega) hq hw (by decide) hu (fun u hu => ?_)
              obtain ⟨len, cm, sd, ce, ld, ol, ob, dp, pc, a1, a2, a3, a4, a5, a6, a7, a8, a9, a10, a11, a12, leny, cmy, sdy, cey, ldy, oly, oby, dpy, pcy, a1y, a2y, a3y, a4y, a5y, a6y, a7y, a8y, a9y, a10y, a11y, a12y⟩ := u
              refine br_f (by decide) ?_
              refine br_f (by decide) ?_
              refine lz_a1 (k := 9) (x := 0) (y := 0) (z := 0) (by omega) (by omega) (by decide) (by decide) (by decide) hu (fun u hu => ?_)
              obtain ⟨len, cm, sd, ce, ld, ol, ob, dp, pc, a1, a2, a3, a4, a5, a6, a7, a8, a9, a10, a11, a12, leny, cmy, sdy, cey, ldy, oly, oby, dpy, pcy, a1y, a2y, a3y, a4y, a5y, a6y, a7y, a8y, a9y, a10y, a11y, a12y⟩ := u
              refine br_f (by decide) ?_
              exact nm_r (nI_1 o) (lz_359 (hJ (o + 1) _ _ _ _ _ _ _ _ _ _ _ _ _ _ _ _ _ _ _ _ _ _ _ _ _ _ _ _ _ _ _ _ _ _ _ _ _ _ _ _ _ _ (by omega) hu))
            · refine pk_eq k 12 (fun z => ?_) (fun z12 => ?_)
              · refine ru_ok hp hI (fun u hu => ?_)
                obtain ⟨len, cm, sd, ce, ld, ol, ob, dp, pc, a1, a2, a3, a4, a5, a6, a7, a8, a9, a10, a11, a12, leny, cmy, sdy, cey, ldy, oly, oby, dpy, pcy, a1y, a2y, a3y, a4y, a5y, a6y, a7y, a8y, a9y, a10y, a11y, a12y⟩ := u
                exact lz_359 (hJ o _ _ _ _ _ _ _ _ _ _ _ _ _ _ _ _ _ _ _ _ _ _ _ _ _ _ _ _ _ _ _ _ _ _ _ _ _ _ _ _ _ _ ho hu)
              · have ek2 : (2 : Int32) + (nI k &&& 3) = nI (2 + k % 4) := by
                  rw [pk_andN (by omega) 2 rfl]
                  exact nI_add 2 (k % 4)
                rw [ek2]
                refine lz_a1 (by omega) (by omega) hp hq hw hI (fun u hu => ?_)
                obtain ⟨len, cm, sd, ce, ld, ol, ob, dp, pc, a1, a2, a3, a4, a5, a6, a7, a8, a9, a10, a11, a12, leny, cmy, sdy, cey, ldy, oly, oby, dpy, pcy, a1y, a2y, a3y, a4y, a5y, a6y, a7y, a8y, a9y, a10y, a11y, a12y⟩ := u
                exact lz_359 (hJ o _ _ _ _ _ _ _ _ _ _ _ _ _ _ _ _ _ _ _ _ _ _ _ _ _ _ _ _ _ _ _ _ _ _ _ _ _ _ _ _ _ _ ho hu)
        · refine lz_a1 z0 (by omega) hp hq hw hI (fun u hu => ?_)
          obtain ⟨len, cm, sd, ce, ld, ol, ob, dp, pc, a1, a2, a3, a4, a5, a6, a7, a8, a9, a10, a11, a12, leny, cmy, sdy, cey, ldy, oly, oby, dpy, pcy, a1y, a2y, a3y, a4y, a5y, a6y, a7y, a8y, a9y, a10y, a11y, a12y⟩ := u
          exact lz_359 (hJ o _ _ _ _ _ _ _ _ _ _ _ _ _ _ _ _ _ _ _ _ _ _ _ _ _ _ _ _ _ _ _ _ _ _ _ _ _ _ _ _ _ _ ho hu)
theorem lz_18 {L : Nat} {xs : Nat → Int32} {kc ks : Nat} (hL : L ≤ 260) :
    ∀ m k, k + m = 6 → ∀ len cm sd ce ld ol ob dp pc a1 a2 a3 a4 a5 a6 a7 a8 a9 a10 a11 a12 leny cmy sdy cey ldy oly oby dpy pcy a1y a2y a3y a4y a5y a6y a7y a8y a9y a10y a11y a12y, lx_I (len, cm, sd, ce, ld, ol, ob, dp, pc, a1, a2, a3, a4, a5, a6, a7, a8, a9, a10, a11, a12, leny, cmy, sdy, cey, ldy, oly, oby, dpy, pcy, a1y, a2y, a3y, a4y, a5y, a6y, a7y, a8y, a9y, a10y, a11y, a12y) → wL_law_18 (fun r => r = 1) L xs kc ks (m + 1) (nI k) len cm sd ce ld ol ob dp pc a1 a2 a3 a4 a5 a6 a7 a8 a9 a10 a11 a12 leny cmy sdy cey ldy oly oby dpy pcy a1y a2y a3y a4y a5y a6y a7y a8y a9y a10y a11y a12y := by
  intro m
  induction m with
  | zero =>
    intro k hk len cm sd ce ld ol ob dp pc a1 a2 a3 a4 a5 a6 a7 a8 a9 a10 a11 a12 leny cmy sdy cey ldy oly oby dpy pcy a1y a2y a3y a4y a5y a6y a7y a8y a9y a10y a11y a12y hI
    refine pk_le 6 k (fun _ => ⟨70 + 1, ?_⟩) (fun z => absurd z (by omega))
    exact lz_59 hL 70 6 (by omega) (by omega) 0 _ _ _ _ _ _ _ _ _ _ _ _ _ _ _ _ _ _ _ _ _ _ _ _ _ _ _ _ _ _ _ _ _ _ _ _ _ _ _ _ _ _ (by omega) hI
  | succ m ih =>
    intro k hk len cm sd ce ld ol ob dp pc a1 a2 a3 a4 a5 a6 a7 a8 a9 a10 a11 a12 leny cmy sdy cey ldy oly oby dpy pcy a1y a2y a3y a4y a5y a6y a7y a8y a9y a10y a11y a12y hI
    refine pk_le 6 k (fun z => absurd z (by omega)) (fun _ => ?_)
    refine ce_ok hL (by omega) (fun c => ?_)
    obtain ⟨P, n, hn, e1, e2, r1, r2, c1, c2, e5, ep, e12⟩ := hI
    subst e5
    refine pz_ok (by omega) ?_
    refine pz_ok (by omega) ?_
    refine nm_r (nI_1 k) (ih (k + 1) (by omega) _ _ _ _ _ _ _ _ _ _ _ _ _ _ _ _ _ _ _ _ _ _ _ _ _ _ _ _ _ _ _ _ _ _ _ _ _ _ _ _ _ _ ⟨P, n, hn, e1, e2, r1, r2, c1, c2, rfl, ep, e12⟩)
theorem in_ok {post : St1 → Prop} (hp : post (0, 0, 0, 0, 0, 0, 0, 0, 0, (fun _ => 0), (fun _ => 0), (fun _ => 0), (fun _ => 0), (fun _ => 0), (fun _ => 0), (fun _ => 0), (fun _ => 0), (fun _ => 0), (fun _ => 0), (fun _ => 0), (fun _ => 0))) : wpX_init post 12 1390 (0, 0, 0, 0, 0, 0, 0, 0, 0) := by
  exact ⟨by omega, by omega, by omega, by omega, by omega, by omega, by omega, by omega, by omega, by omega, by omega, by omega, by omega, by omega, by omega, by omega, by omega, by omega, by omega, by omega, by omega, by omega, by omega, by omega, hp⟩
theorem i_vc (xs : Nat → Int32) (L : Nat) (hL : L ≤ 260) : wpL_law (fun r => r = 1) L xs := by
  refine ⟨12, 1390, by omega, by omega, ?_⟩
  refine in_ok ⟨by omega, by omega, 12, 1390, by omega, by omega, ?_⟩
  refine in_ok ⟨6 + 1, ?_⟩
  exact lz_18 hL 6 0 (by omega) _ _ _ _ _ _ _ _ _ _ _ _ _ _ _ _ _ _ _ _ _ _ _ _ _ _ _ _ _ _ _ _ _ _ _ _ _ _ _ _ _ _ ⟨fun _ => (0, 0, 0, 0, 0), 0, by omega, rfl, rfl, fun i hi => absurd hi (by omega), fun i hi => absurd hi (by omega), Or.inl rfl, Or.inl rfl, rfl, rfl, rfl⟩
end
