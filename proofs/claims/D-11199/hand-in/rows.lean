section
/-! pure rows: Int32 comparisons, stores -/
theorem rg_lt_of_nle {a b : Int32} (h : ¬ a ≤ b) : b < a := by
  rw [Int32.le_iff_toInt_le] at h
  rw [Int32.lt_iff_toInt_lt]
  omega
theorem rg_nlt_of_le {a b : Int32} (h : a ≤ b) : ¬ b < a := by
  rw [Int32.le_iff_toInt_le] at h
  rw [Int32.lt_iff_toInt_lt]
  omega
theorem rg_le_of_nlt {a b : Int32} (h : ¬ a < b) : b ≤ a := by
  rw [Int32.lt_iff_toInt_lt] at h
  rw [Int32.le_iff_toInt_le]
  omega
theorem rg_le_of_eq {a b : Int32} (h : a = b) : a ≤ b := by
  rw [Int32.le_iff_toInt_le, h]
  omega
theorem rg_max {k l : Int32} (h : ¬ k < l) : (if k ≤ l then l else k) = k := by
  by_cases g : k ≤ l
  · rw [if_pos g]
    apply Int32.toInt_inj.mp
    rw [Int32.le_iff_toInt_le] at g
    rw [Int32.lt_iff_toInt_lt] at h
    omega
  · rw [if_neg g]
theorem rg_min {k l : Int32} (h : k ≤ l) : (if l ≤ k then l else k) = k := by
  by_cases g : l ≤ k
  · rw [if_pos g]
    apply Int32.toInt_inj.mp
    rw [Int32.le_iff_toInt_le] at g
    rw [Int32.le_iff_toInt_le] at h
    omega
  · rw [if_neg g]
theorem rg_ix (t i : Nat) : nI t * 4 + nI i = nI (t * 4 + i) := by
  have h : nI t * 4 = nI (t * 4) := pk_mul t 4
  rw [h, nI_add]
theorem rg_nar0 : vp_nar .boolean 0 = 0 := by rfl
theorem rg_fill {f g : Nat → Int32} {i : Nat} {x : Int32} (h : ∀ j, j < i → g j = f j) (hx : x = f i) : ∀ j, j < i + 1 → upd g i x j = f j := by
  intro j hj
  by_cases e : j = i
  · rw [e, pk_us, hx]
  · rw [pk_un e]
    exact h j (by omega)
/-- the four places of row t hold g below i; the other rows are those of f -/
def rg_SetI (f f' g : Nat → Int32) (t i : Nat) : Prop := (∀ x, x < i → f' (t * 4 + x) = g x) ∧ (∀ j, (j < t * 4 ∨ t * 4 + 4 ≤ j) → f' j = f j)
theorem rg_SetI_0 {f g : Nat → Int32} {t : Nat} : rg_SetI f f g t 0 := ⟨fun x h => absurd h (by omega), fun j _ => rfl⟩
theorem rg_SetI_s {f f' g : Nat → Int32} {t i : Nat} {x : Int32} (hi : i < 4) (h : rg_SetI f f' g t i) (hx : x = g i) : rg_SetI f (upd f' (t * 4 + i) x) g t (i + 1) := by
  refine ⟨fun y hy => ?_, fun j hj => ?_⟩
  · by_cases e : y = i
    · rw [e, pk_us, hx]
    · rw [pk_un (by omega)]
      exact h.1 y (by omega)
  · rw [pk_un (by omega)]
    exact h.2 j hj
/-! the picture: a program of at most one constant and one load behind it; v i x: what variable x holds ahead of instruction i -/
def rg_Prog (n : Nat) (a3 a4 a5 a6 : Nat → Int32) (v : Nat → Nat → Int32) : Prop :=
  ∀ i, i < n → (a3 i = 0 ∧ a4 i = nI 1 ∧ ¬ a6 i < -100 ∧ a6 i ≤ 100 ∧ (i + 1 < n → ∀ x, x < 4 → v (i + 1) x = if x = 1 then a6 i else v i x)) ∨ (a3 i = 4 ∧ a4 i = nI 0 ∧ a5 i = nI 1 ∧ i + 1 = n)
/-- what the analysis keeps: the bounds of a reached place are what the run has there; a test that is left out can't fail -/
def rg_J (n : Nat) (a1 a2 a3 a6 a9 a10 a11 a13 a14 : Nat → Int32) (v : Nat → Nat → Int32) : Prop :=
  (∀ i, i < n → ¬ a9 i = 0 → ∀ x, x < 4 → a10 (i * 4 + x) = v i x ∧ a11 (i * 4 + x) = v i x) ∧
  (∀ i, i < n → a3 i = 4 → (¬ a14 i = 0 → ¬ v i 1 + a6 i < 0 ∧ ¬ 7 < v i 1 + a6 i) ∧ (¬ a13 i = 0 → ¬ -100 < a1 0 ∧ ¬ a2 0 < 100))
section
variable {n i t : Nat} {z : Int32} {a1 a2 a3 a6 a9 a10 a11 a13 a14 f10 f11 g15 g16 : Nat → Int32} {v : Nat → Nat → Int32}
theorem rg_J13 (J : rg_J n a1 a2 a3 a6 a9 a10 a11 a13 a14 v) (h : ¬ a3 i = 4) : rg_J n a1 a2 a3 a6 a9 a10 a11 (upd a13 i z) a14 v := by
  refine ⟨J.1, fun k hk h4 => ⟨(J.2 k hk h4).1, ?_⟩⟩
  rw [pk_un (show k ≠ i from fun q => h (by rw [← q]; exact h4))]
  exact (J.2 k hk h4).2
theorem rg_Jf (J : rg_J n a1 a2 a3 a6 a9 a10 a11 a13 a14 v) (hz : ¬ z = 0 → ¬ -100 < a1 0 ∧ ¬ a2 0 < 100) : rg_J n a1 a2 a3 a6 a9 a10 a11 (upd a13 i z) a14 v := by
  refine ⟨J.1, fun k hk h4 => ⟨(J.2 k hk h4).1, ?_⟩⟩
  by_cases q : k = i
  · rw [q, pk_us]
    exact hz
  · rw [pk_un q]
    exact (J.2 k hk h4).2
theorem rg_Jl (J : rg_J n a1 a2 a3 a6 a9 a10 a11 a13 a14 v) (hz : ¬ z = 0 → ¬ v i 1 + a6 i < 0 ∧ ¬ 7 < v i 1 + a6 i) : rg_J n a1 a2 a3 a6 a9 a10 a11 a13 (upd a14 i z) v := by
  refine ⟨J.1, fun k hk h4 => ⟨?_, (J.2 k hk h4).2⟩⟩
  by_cases q : k = i
  · rw [q, pk_us]
    exact hz
  · rw [pk_un q]
    exact (J.2 k hk h4).1
theorem rg_Jn (J : rg_J n a1 a2 a3 a6 a9 a10 a11 a13 a14 v) (hlo : ∀ x, x < 4 → g15 x = v t x) (hhi : ∀ x, x < 4 → g16 x = v t x) (S10 : rg_SetI a10 f10 g15 t 4) (S11 : rg_SetI a11 f11 g16 t 4) : rg_J n a1 a2 a3 a6 (upd a9 t 1) f10 f11 a13 a14 v := by
  refine ⟨fun k hk h9 x hx => ?_, J.2⟩
  by_cases q : k = t
  · rw [q]
    exact ⟨(S10.1 x hx).trans (hlo x hx), (S11.1 x hx).trans (hhi x hx)⟩
  · rw [pk_un q] at h9
    rw [S10.2 _ (by omega), S11.2 _ (by omega)]
    exact J.1 k hk h9 x hx
theorem rg_Jo (J : rg_J n a1 a2 a3 a6 a9 a10 a11 a13 a14 v) (h : ¬ a9 t = 0) : rg_J n a1 a2 a3 a6 (upd a9 t 1) a10 a11 a13 a14 v := by
  refine ⟨fun k hk h9 x hx => ?_, J.2⟩
  by_cases q : k = t
  · exact J.1 k hk (by rw [q]; exact h) x hx
  · rw [pk_un q] at h9
    exact J.1 k hk h9 x hx
end
end
section
/-! the analysis, method by method -/
section
variable {s e p c kn mv : Int32} {a1 a2 a3 a4 a5 a6 a7 a8 a9 a10 a11 a12 a13 a14 a15 a16 : Nat → Int32}
theorem rg_possible {post : Int32 → Prop} (h1 : post 1) (h0 : post 0) : wpX_possible post (s, e, p, c, kn, mv, a1, a2, a3, a4, a5, a6, a7, a8, a9, a10, a11, a12, a13, a14, a15, a16) :=
  pk_loop (σ := Unit) (fun n i _ => wX_possible_2 post s e p c kn mv a1 a2 a3 a4 a5 a6 a7 a8 a9 a10 a11 a12 a13 a14 a15 a16 n (nI i)) (fun _ _ => True) 4 0 () (by omega) trivial
    (fun n _ _ => pk_le 4 4 (fun _ => h1) (fun z => absurd z (by omega)))
    (fun n i _ hi _ hw => pk_le 4 i (fun z => absurd z (by omega)) (fun _ => ⟨pk_in i 4 hi, pk_in i 4 hi, br_c (fun _ => nm_r (nI_1 i) (hw () trivial)) (fun _ => h0)⟩))
theorem rg_arr_new {post : St2 → Prop} {z0 : Int32} {t : Nat} (ht : t < 15) (h9 : a9 t = 0)
    (H : ∀ f10 f11, rg_SetI a10 f10 a15 t 4 → rg_SetI a11 f11 a16 t 4 → post (s, e, p, c, kn, 1, a1, a2, a3, a4, a5, a6, a7, a8, upd a9 t 1, f10, f11, upd a12 t (a12 t + 1), a13, a14, a15, a16)) :
    ∃ fu, wX_arrive_53 post (nI t) z0 s e p c kn mv fu 1 0 a1 a2 a3 a4 a5 a6 a7 a8 a9 a10 a11 a12 a13 a14 a15 a16 := by
  have ct : (nI t).toNatClampNeg = t := nI_clamp (by omega)
  refine pk_loop (fun n i (q : (Nat → Int32) × (Nat → Int32)) => wX_arrive_53 post (nI t) z0 s e p c kn mv n 1 (nI i) a1 a2 a3 a4 a5 a6 a7 a8 a9 q.1 q.2 a12 a13 a14 a15 a16) (fun i q => rg_SetI a10 q.1 a15 t i ∧ rg_SetI a11 q.2 a16 t i) 4 0 (a10, a11) (by omega) ⟨rg_SetI_0, rg_SetI_0⟩ ?_ ?_
  · intro n q h
    have h' := H q.1 q.2 h.1 h.2
    refine pk_le 4 4 (fun _ => ⟨pk_in t 15 ht, nm_e (br_f (by decide) ⟨pk_in t 15 ht, pk_in t 15 ht, nm_e ?_⟩)⟩) (fun z => absurd z (by omega))
    rw [ct]
    exact h'
  · intro n i q hi h hw
    have ci : (nI i).toNatClampNeg = i := nI_clamp (by omega)
    have cx : (nI (t * 4 + i)).toNatClampNeg = t * 4 + i := nI_clamp (by omega)
    refine pk_le 4 i (fun z => absurd z (by omega)) (fun _ => nm_r (rg_ix t i) ⟨pk_in t 15 ht, br_t (by rw [ct]; exact h9) ⟨pk_in i 4 hi, pk_in (t * 4 + i) 60 (by omega), nm_e ⟨pk_in i 4 hi, pk_in (t * 4 + i) 60 (by omega), nm_e (nm_r (nI_1 i) ?_)⟩⟩⟩)
    rw [ci, cx]
    exact hw (_, _) ⟨rg_SetI_s hi h.1 rfl, rg_SetI_s hi h.2 rfl⟩
theorem rg_arr_old {post : St2 → Prop} {z0 : Int32} {t : Nat} (ht : t < 15) (h9 : ¬ a9 t = 0) (h10 : ∀ x, x < 4 → a10 (t * 4 + x) ≤ a15 x) (h11 : ∀ x, x < 4 → a16 x ≤ a11 (t * 4 + x))
    (H : post (s, e, p, c, kn, mv, a1, a2, a3, a4, a5, a6, a7, a8, upd a9 t 1, a10, a11, a12, a13, a14, a15, a16)) : ∃ fu, wX_arrive_53 post (nI t) z0 s e p c kn mv fu 0 0 a1 a2 a3 a4 a5 a6 a7 a8 a9 a10 a11 a12 a13 a14 a15 a16 := by
  have ct : (nI t).toNatClampNeg = t := nI_clamp (by omega)
  refine pk_loop (σ := Unit) (fun n i _ => wX_arrive_53 post (nI t) z0 s e p c kn mv n 0 (nI i) a1 a2 a3 a4 a5 a6 a7 a8 a9 a10 a11 a12 a13 a14 a15 a16) (fun _ _ => True) 4 0 () (by omega) trivial ?_ ?_
  · intro n _ _
    refine pk_le 4 4 (fun _ => ⟨pk_in t 15 ht, nm_e (br_t rfl ?_)⟩) (fun z => absurd z (by omega))
    rw [ct]
    exact H
  · intro n i _ hi _ hw
    have ci : (nI i).toNatClampNeg = i := nI_clamp (by omega)
    have cx : (nI (t * 4 + i)).toNatClampNeg = t * 4 + i := nI_clamp (by omega)
    refine pk_le 4 i (fun z => absurd z (by omega)) (fun _ => nm_r (rg_ix t i) ⟨pk_in t 15 ht, br_f (by rw [ct]; exact h9) ⟨pk_in i 4 hi, pk_in (t * 4 + i) 60 (by omega), br_t (by rw [ci, cx]; exact h10 i hi) ?_⟩⟩)
    exact ⟨pk_in i 4 hi, pk_in (t * 4 + i) 60 (by omega), br_t (by rw [ci, cx]; exact h11 i hi) (nm_r (nI_1 i) (hw () trivial))⟩
theorem rg_arrive {post : St2 → Prop} {t : Nat} (ht : t < 15) (H0 : post (s, e, p, c, kn, mv, a1, a2, a3, a4, a5, a6, a7, a8, a9, a10, a11, a12, a13, a14, a15, a16))
    (Hn : a9 t = 0 → ∀ f10 f11, rg_SetI a10 f10 a15 t 4 → rg_SetI a11 f11 a16 t 4 → post (s, e, p, c, kn, 1, a1, a2, a3, a4, a5, a6, a7, a8, upd a9 t 1, f10, f11, upd a12 t (a12 t + 1), a13, a14, a15, a16))
    (Ho : ¬ a9 t = 0 → (∀ x, x < 4 → a10 (t * 4 + x) ≤ a15 x) ∧ (∀ x, x < 4 → a16 x ≤ a11 (t * 4 + x)) ∧ post (s, e, p, c, kn, mv, a1, a2, a3, a4, a5, a6, a7, a8, upd a9 t 1, a10, a11, a12, a13, a14, a15, a16)) :
    wpX_arrive post (s, e, p, c, kn, mv, a1, a2, a3, a4, a5, a6, a7, a8, a9, a10, a11, a12, a13, a14, a15, a16) (nI t) := by
  have ct : (nI t).toNatClampNeg = t := nI_clamp (by omega)
  have A : ∀ z0, wX_arrive_33 post (nI t) z0 s e p c kn mv a1 a2 a3 a4 a5 a6 a7 a8 a9 a10 a11 a12 a13 a14 a15 a16 := by
    intro z0
    unfold wX_arrive_33
    rw [ct]
    exact ⟨pk_in t 15 ht, br_c (fun h => rg_arr_new ht h (Hn h)) (fun h => rg_arr_old ht h (Ho h).1 (Ho h).2.1 (Ho h).2.2)⟩
  unfold wpX_arrive
  dsimp only
  exact rg_possible (br_c (fun _ => H0) (fun _ => br_c (fun _ => H0) (fun _ => ⟨pk_in t 15 ht, br_c (fun _ => A 0) (fun _ => A 1)⟩))) (br_c (fun _ => H0) (fun _ => br_t rfl H0))
theorem rg_arrive_out {post : St2 → Prop} {t : Int32} (h : s ≤ t) (H0 : post (s, e, p, c, kn, mv, a1, a2, a3, a4, a5, a6, a7, a8, a9, a10, a11, a12, a13, a14, a15, a16)) : wpX_arrive post (s, e, p, c, kn, mv, a1, a2, a3, a4, a5, a6, a7, a8, a9, a10, a11, a12, a13, a14, a15, a16) t := by
  unfold wpX_arrive
  dsimp only
  exact rg_possible (br_t h H0) (br_t h H0)
theorem rg_take {post : St2 → Prop} {i : Nat} (hi : i < 15) (H : ∀ f15 f16, (∀ x, x < 4 → f15 x = a10 (i * 4 + x)) → (∀ x, x < 4 → f16 x = a11 (i * 4 + x)) → post (s, e, p, c, kn, mv, a1, a2, a3, a4, a5, a6, a7, a8, a9, a10, a11, a12, a13, a14, f15, f16)) : wpX_take post (s, e, p, c, kn, mv, a1, a2, a3, a4, a5, a6, a7, a8, a9, a10, a11, a12, a13, a14, a15, a16) (nI i) := by
  unfold wpX_take
  dsimp only
  refine pk_loop (fun n k (q : (Nat → Int32) × (Nat → Int32)) => wX_take_2 post (nI i) s e p c kn mv n (nI k) a1 a2 a3 a4 a5 a6 a7 a8 a9 a10 a11 a12 a13 a14 q.1 q.2) (fun k q => (∀ x, x < k → q.1 x = a10 (i * 4 + x)) ∧ (∀ x, x < k → q.2 x = a11 (i * 4 + x))) 4 0 (a15, a16) (by omega) ⟨fun x h => absurd h (by omega), fun x h => absurd h (by omega)⟩ ?_ ?_
  · intro n q h
    exact pk_le 4 4 (fun _ => H q.1 q.2 h.1 h.2) (fun z => absurd z (by omega))
  · intro n k q hk h hw
    have ck : (nI k).toNatClampNeg = k := nI_clamp (by omega)
    have cx : (nI (i * 4 + k)).toNatClampNeg = i * 4 + k := nI_clamp (by omega)
    refine pk_le 4 k (fun z => absurd z (by omega)) (fun _ => ?_)
    rw [rg_ix, ck, cx]
    exact ⟨pk_in (i * 4 + k) 60 (by omega), pk_in k 4 hk, nm_e ⟨pk_in (i * 4 + k) 60 (by omega), pk_in k 4 hk, nm_e (nm_r (nI_1 k) (hw (_, _) ⟨rg_fill (f := fun x => a10 (i * 4 + x)) h.1 rfl, rg_fill (f := fun x => a11 (i * 4 + x)) h.2 rfl⟩))⟩⟩
theorem rg_get {post : St2 → Prop} {i x : Nat} {f t : Int32} (hi : i < 14) (hx : x < 4)
    (H : ∀ z, (¬ z = 0 → ¬ f < a1 x ∧ ¬ a2 x < t) → post (s, e, p, c, kn, mv, a1, a2, a3, a4, a5, a6, a7, a8, a9, a10, a11, a12, upd a13 i z, a14, upd a15 x (if f ≤ a1 x then a1 x else f), upd a16 x (if a2 x ≤ t then a2 x else t))) :
    wpX_get post (s, e, p, c, kn, mv, a1, a2, a3, a4, a5, a6, a7, a8, a9, a10, a11, a12, a13, a14, a15, a16) (nI i) (nI x) f t := by
  have ci : (nI i).toNatClampNeg = i := nI_clamp (by omega)
  have cx : (nI x).toNatClampNeg = x := nI_clamp (by omega)
  have G57 : ∀ (g13 : Nat → Int32) (z : Int32), z = (if f ≤ a1 x then a1 x else f) → post (s, e, p, c, kn, mv, a1, a2, a3, a4, a5, a6, a7, a8, a9, a10, a11, a12, g13, a14, upd a15 x (if f ≤ a1 x then a1 x else f), upd a16 x (if a2 x ≤ t then a2 x else t)) → wX_get_57 post (nI x) t z (nI x) s e p c kn mv a1 a2 a3 a4 a5 a6 a7 a8 a9 a10 a11 a12 g13 a14 a15 a16 := by
    intro g13 z hz h
    rw [← hz] at h
    unfold wX_get_57
    rw [cx]
    refine ⟨pk_in x 4 hx, nm_e ⟨pk_in x 4 hx, br_c (fun g => ⟨pk_in x 4 hx, pk_in x 4 hx, nm_e ?_⟩) (fun g => ⟨pk_in x 4 hx, nm_e ?_⟩)⟩⟩
    · rw [if_pos g] at h
      exact h
    · rw [if_neg g] at h
      exact h
  have G31 : ∀ z0, (¬ vp_nar .boolean z0 = 0 → ¬ f < a1 x ∧ ¬ a2 x < t) → wX_get_31 post (nI x) f t z0 (nI i) s e p c kn mv a1 a2 a3 a4 a5 a6 a7 a8 a9 a10 a11 a12 a13 a14 a15 a16 := by
    intro z0 hz
    unfold wX_get_31
    rw [ci, cx]
    exact ⟨pk_in i 14 hi, nm_e ⟨pk_in x 4 hx, br_c (fun g => ⟨pk_in x 4 hx, G57 _ _ (if_pos g).symm (H _ hz)⟩) (fun g => G57 _ _ (if_neg g).symm (H _ hz))⟩⟩
  unfold wpX_get
  dsimp only
  rw [cx]
  exact ⟨pk_in x 4 hx, br_c (fun g => G31 0 (fun q => absurd rg_nar0 q)) (fun g => ⟨pk_in x 4 hx, br_c (fun g2 => G31 0 (fun q => absurd rg_nar0 q)) (fun g2 => G31 1 (fun _ => ⟨g, g2⟩))⟩)⟩
theorem rg_use {post : St2 → Prop} {i x : Nat} {k : Int32} (hi : i < 14) (hx : x < 4)
    (H : ∀ z, (¬ z = 0 → ¬ a15 x + k < 0 ∧ ¬ 7 < a16 x + k) → ∀ f15 f16, post (s, e, p, c, kn, mv, a1, a2, a3, a4, a5, a6, a7, a8, a9, a10, a11, a12, a13, upd a14 i z, f15, f16)) :
    wpX_use post (s, e, p, c, kn, mv, a1, a2, a3, a4, a5, a6, a7, a8, a9, a10, a11, a12, a13, a14, a15, a16) (nI i) (nI x) k := by
  have ci : (nI i).toNatClampNeg = i := nI_clamp (by omega)
  have cx : (nI x).toNatClampNeg = x := nI_clamp (by omega)
  have G62 : ∀ (g14 : Nat → Int32) (z : Int32), (∀ f15 f16, post (s, e, p, c, kn, mv, a1, a2, a3, a4, a5, a6, a7, a8, a9, a10, a11, a12, a13, g14, f15, f16)) → wX_use_62 post (nI x) k z (nI x) s e p c kn mv a1 a2 a3 a4 a5 a6 a7 a8 a9 a10 a11 a12 a13 g14 a15 a16 := by
    intro g14 z h
    exact ⟨pk_in x 4 hx, nm_e ⟨pk_in x 4 hx, br_c (fun g => ⟨pk_in x 4 hx, pk_in x 4 hx, nm_e (h _ _)⟩) (fun g => ⟨pk_in x 4 hx, nm_e (h _ _)⟩)⟩⟩
  have G34 : ∀ z0, (¬ vp_nar .boolean z0 = 0 → ¬ a15 x + k < 0 ∧ ¬ 7 < a16 x + k) → wX_use_34 post (nI x) k z0 (nI i) s e p c kn mv a1 a2 a3 a4 a5 a6 a7 a8 a9 a10 a11 a12 a13 a14 a15 a16 := by
    intro z0 hz
    unfold wX_use_34
    rw [ci, cx]
    exact ⟨pk_in i 14 hi, nm_e ⟨pk_in x 4 hx, br_c (fun g => ⟨pk_in x 4 hx, G62 _ _ (H _ hz)⟩) (fun g => G62 _ _ (H _ hz))⟩⟩
  unfold wpX_use
  dsimp only
  rw [cx]
  exact ⟨pk_in x 4 hx, br_c (fun g => G34 0 (fun q => absurd rg_nar0 q)) (fun g => ⟨pk_in x 4 hx, br_c (fun g2 => G34 0 (fun q => absurd rg_nar0 q)) (fun g2 => G34 1 (fun _ => ⟨g, g2⟩))⟩)⟩
theorem rg_213_in {post : St2 → Prop} {i : Nat} (ht : i + 1 < 15) (H0 : post (s, e, p, c, kn, mv, a1, a2, a3, a4, a5, a6, a7, a8, a9, a10, a11, a12, a13, a14, a15, a16))
    (Hn : a9 (i + 1) = 0 → ∀ f10 f11, rg_SetI a10 f10 a15 (i + 1) 4 → rg_SetI a11 f11 a16 (i + 1) 4 → post (s, e, p, c, kn, 1, a1, a2, a3, a4, a5, a6, a7, a8, upd a9 (i + 1) 1, f10, f11, upd a12 (i + 1) (a12 (i + 1) + 1), a13, a14, a15, a16))
    (Ho : ¬ a9 (i + 1) = 0 → (∀ x, x < 4 → a10 ((i + 1) * 4 + x) ≤ a15 x) ∧ (∀ x, x < 4 → a16 x ≤ a11 ((i + 1) * 4 + x)) ∧ post (s, e, p, c, kn, mv, a1, a2, a3, a4, a5, a6, a7, a8, upd a9 (i + 1) 1, a10, a11, a12, a13, a14, a15, a16)) :
    wX_followOne_213 post (nI i) s e p c kn mv a1 a2 a3 a4 a5 a6 a7 a8 a9 a10 a11 a12 a13 a14 a15 a16 := by
  unfold wX_followOne_213
  rw [nI_1]
  exact rg_arrive ht H0 Hn Ho
theorem rg_213_out {post : St2 → Prop} {i : Nat} (h : s = nI (i + 1)) (H0 : post (s, e, p, c, kn, mv, a1, a2, a3, a4, a5, a6, a7, a8, a9, a10, a11, a12, a13, a14, a15, a16)) : wX_followOne_213 post (nI i) s e p c kn mv a1 a2 a3 a4 a5 a6 a7 a8 a9 a10 a11 a12 a13 a14 a15 a16 := by
  unfold wX_followOne_213
  rw [nI_1]
  exact rg_arrive_out (rg_le_of_eq h) H0
theorem rg_follow {post : St2 → Prop} {n i : Nat} {v : Nat → Nat → Int32} (hn : n ≤ 14) (hs : s = nI n) (hi : i < n) (hl : a1 1 = -100) (hh : a2 1 = 100) (P : rg_Prog n a3 a4 a5 a6 v) (J : rg_J n a1 a2 a3 a6 a9 a10 a11 a13 a14 v) (h9 : ¬ a9 i = 0)
    (H : ∀ mv' f9 f10 f11 f12 f13 f14 f15 f16, rg_J n a1 a2 a3 a6 f9 f10 f11 f13 f14 v → post (s, e, p, c, kn, mv', a1, a2, a3, a4, a5, a6, a7, a8, f9, f10, f11, f12, f13, f14, f15, f16)) :
    wpX_followOne post (s, e, p, c, kn, mv, a1, a2, a3, a4, a5, a6, a7, a8, a9, a10, a11, a12, a13, a14, a15, a16) (nI i) := by
  have ci : (nI i).toNatClampNeg = i := nI_clamp (by omega)
  unfold wpX_followOne
  dsimp only
  rw [ci]
  refine rg_take (by omega) (fun f15 f16 e15 e16 => ?_)
  dsimp only
  have E15 : ∀ x, x < 4 → f15 x = v i x := fun x hx => (e15 x hx).trans (J.1 i hi h9 x hx).1
  have E16 : ∀ x, x < 4 → f16 x = v i x := fun x hx => (e16 x hx).trans (J.1 i hi h9 x hx).2
  rcases P i hi with ⟨p3, p4, plo, phi, pv⟩ | ⟨p3, p4, p5, pn⟩
  · refine ⟨pk_in i 14 (by omega), nm_r p3 ⟨pk_in i 14 (by omega), nm_r p4 ⟨pk_in i 14 (by omega), nm_e ⟨pk_in i 14 (by omega), nm_e (br_f (by decide) (br_t (by decide) (br_t rfl ?_)))⟩⟩⟩⟩
    refine rg_get (by omega) (by omega) (fun z hz => ?_)
    dsimp only
    rw [hl, hh, rg_max plo, rg_min phi]
    have J' : rg_J n a1 a2 a3 a6 a9 a10 a11 (upd a13 i z) a14 v := rg_J13 J (by rw [p3]; decide)
    by_cases q : i + 1 < n
    · have F15 : ∀ x, x < 4 → upd f15 1 (a6 i) x = v (i + 1) x := by
        intro x hx
        rw [pv q x hx]
        by_cases g : x = 1
        · rw [g, pk_us, if_pos rfl]
        · rw [pk_un g, if_neg g, E15 x hx]
      have F16 : ∀ x, x < 4 → upd f16 1 (a6 i) x = v (i + 1) x := by
        intro x hx
        rw [pv q x hx]
        by_cases g : x = 1
        · rw [g, pk_us, if_pos rfl]
        · rw [pk_un g, if_neg g, E16 x hx]
      exact rg_213_in (by omega) (H _ _ _ _ _ _ _ _ _ J') (fun _ f10 f11 S10 S11 => H _ _ _ _ _ _ _ _ _ (rg_Jn J' F15 F16 S10 S11))
        (fun g => ⟨fun x hx => rg_le_of_eq ((J.1 (i + 1) q g x hx).1.trans (F15 x hx).symm), fun x hx => rg_le_of_eq ((F16 x hx).trans (J.1 (i + 1) q g x hx).2.symm), H _ _ _ _ _ _ _ _ _ (rg_Jo J' g)⟩)
    · exact rg_213_out (by rw [hs, show n = i + 1 by omega]) (H _ _ _ _ _ _ _ _ _ J')
  · refine ⟨pk_in i 14 (by omega), nm_r p3 ⟨pk_in i 14 (by omega), nm_r p4 ⟨pk_in i 14 (by omega), nm_r p5 ⟨pk_in i 14 (by omega), nm_e (br_f (by decide) (br_t (by decide) (br_f (by decide) (br_f (by decide) (br_f (by decide) (br_f (by decide) ?_))))))⟩⟩⟩⟩
    refine rg_use (by omega) (by omega) (fun z hz g15 g16 => ?_)
    rw [E15 1 (by omega), E16 1 (by omega)] at hz
    have J' : rg_J n a1 a2 a3 a6 a9 a10 a11 a13 (upd a14 i z) v := rg_Jl J hz
    have hs' : s = nI (i + 1) := by rw [hs, pn]
    dsimp only
    refine rg_possible (br_t rfl (br_f (by decide) ?_)) (br_t rfl (br_t rfl (rg_213_out hs' (H _ _ _ _ _ _ _ _ _ J'))))
    exact rg_get (by omega) (by omega) (fun z' hz' => rg_213_out hs' (H _ _ _ _ _ _ _ _ _ (rg_Jf J' hz')))
end
end
section
/-! the analysis' loops -/
section
variable {s e p c kn mv : Int32} {a1 a2 a3 a4 a5 a6 a7 a8 a9 a10 a11 a12 a13 a14 a15 a16 : Nat → Int32}
theorem rg_near {post : Int32 → Prop} {x : Nat} (hx : x < 4) (h : a1 x ≤ 0) (H : post (if 0 ≤ a2 x then 0 else a2 x)) : wpX_nearestToZero post (s, e, p, c, kn, mv, a1, a2, a3, a4, a5, a6, a7, a8, a9, a10, a11, a12, a13, a14, a15, a16) (nI x) := by
  have cx : (nI x).toNatClampNeg = x := nI_clamp (by omega)
  unfold wpX_nearestToZero
  dsimp only
  rw [cx]
  refine ⟨pk_in x 4 hx, br_t h ⟨pk_in x 4 hx, br_c (fun g => ?_) (fun g => ⟨pk_in x 4 hx, ?_⟩)⟩⟩
  · rw [if_pos g] at H
    exact H
  · rw [if_neg g] at H
    exact H
theorem rg_102 {post : St2 → Prop} {J81 : Int32 → Int32 → Int32 → Int32 → Int32 → Int32 → Int32 → (Nat → Int32) → (Nat → Int32) → (Nat → Int32) → (Nat → Int32) → (Nat → Int32) → (Nat → Int32) → (Nat → Int32) → (Nat → Int32) → (Nat → Int32) → (Nat → Int32) → (Nat → Int32) → (Nat → Int32) → (Nat → Int32) → (Nat → Int32) → (Nat → Int32) → (Nat → Int32) → Prop}
    {x1 x1' : Int32} {n : Nat} {v : Nat → Nat → Int32} (hx : x1 + 1 = x1') (hn : n ≤ 14) (hs : s = nI n) (hl : a1 1 = -100) (hh : a2 1 = 100) (P : rg_Prog n a3 a4 a5 a6 v) (J : rg_J n a1 a2 a3 a6 a9 a10 a11 a13 a14 v)
    (H : ∀ mv' f9 f10 f11 f12 f13 f14 f15 f16, rg_J n a1 a2 a3 a6 f9 f10 f11 f13 f14 v → J81 x1' s e p c kn mv' a1 a2 a3 a4 a5 a6 a7 a8 f9 f10 f11 f12 f13 f14 f15 f16) :
    ∃ fu, wX_analyse_102 post J81 x1 fu 0 s e p c kn mv a1 a2 a3 a4 a5 a6 a7 a8 a9 a10 a11 a12 a13 a14 a15 a16 := by
  refine pk_loop (fun f k (q : Int32 × (Nat → Int32) × (Nat → Int32) × (Nat → Int32) × (Nat → Int32) × (Nat → Int32) × (Nat → Int32) × (Nat → Int32) × (Nat → Int32)) => wX_analyse_102 post J81 x1 f (nI k) s e p c kn q.1 a1 a2 a3 a4 a5 a6 a7 a8 q.2.1 q.2.2.1 q.2.2.2.1 q.2.2.2.2.1 q.2.2.2.2.2.1 q.2.2.2.2.2.2.1 q.2.2.2.2.2.2.2.1 q.2.2.2.2.2.2.2.2)
    (fun _ q => rg_J n a1 a2 a3 a6 q.2.1 q.2.2.1 q.2.2.2.1 q.2.2.2.2.2.1 q.2.2.2.2.2.2.1 v) n 0 (mv, a9, a10, a11, a12, a13, a14, a15, a16) (by omega) J ?_ ?_
  · intro f q h
    exact br_t (rg_le_of_eq hs) (nm_r hx (H _ _ _ _ _ _ _ _ _ h))
  · intro f k q hk h hw
    have ck : (nI k).toNatClampNeg = k := nI_clamp (by omega)
    refine br_f (by rw [hs]; exact nI_ge hk (by omega)) ⟨pk_in k 15 (by omega), br_c (fun g => nm_r (nI_1 k) (hw q h)) (fun g => ?_)⟩
    rw [ck] at g
    exact rg_follow hn hs hk hl hh P h g (fun mv' f9 f10 f11 f12 f13 f14 f15 f16 J' => nm_r (nI_1 k) (hw (mv', f9, f10, f11, f12, f13, f14, f15, f16) J'))
theorem rg_81 {post : St2 → Prop} {n : Nat} {v : Nat → Nat → Int32} (hn : n ≤ 14) (hs : s = nI n) (hl : a1 1 = -100) (hh : a2 1 = 100) (P : rg_Prog n a3 a4 a5 a6 v) (J : rg_J n a1 a2 a3 a6 a9 a10 a11 a13 a14 v)
    (H : ∀ mv' f9 f10 f11 f12 f13 f14 f15 f16, rg_J n a1 a2 a3 a6 f9 f10 f11 f13 f14 v → post (s, e, p, c, 1, mv', a1, a2, a3, a4, a5, a6, a7, a8, f9, f10, f11, f12, f13, f14, f15, f16)) :
    ∃ fu, wX_analyse_81 post fu 0 s e p c kn mv a1 a2 a3 a4 a5 a6 a7 a8 a9 a10 a11 a12 a13 a14 a15 a16 := by
  refine pk_loop (fun f k (q : Int32 × (Nat → Int32) × (Nat → Int32) × (Nat → Int32) × (Nat → Int32) × (Nat → Int32) × (Nat → Int32) × (Nat → Int32) × (Nat → Int32)) => wX_analyse_81 post f (nI k) s e p c kn q.1 a1 a2 a3 a4 a5 a6 a7 a8 q.2.1 q.2.2.1 q.2.2.2.1 q.2.2.2.2.1 q.2.2.2.2.2.1 q.2.2.2.2.2.2.1 q.2.2.2.2.2.2.2.1 q.2.2.2.2.2.2.2.2)
    (fun _ q => rg_J n a1 a2 a3 a6 q.2.1 q.2.2.1 q.2.2.2.1 q.2.2.2.2.2.1 q.2.2.2.2.2.2.1 v) 200 0 (mv, a9, a10, a11, a12, a13, a14, a15, a16) (by omega) J ?_ ?_
  · intro f q h
    exact pk_le 200 200 (fun _ => H _ _ _ _ _ _ _ _ _ h) (fun z => absurd z (by omega))
  · intro f k q hk h hw
    refine pk_le 200 k (fun z => absurd z (by omega)) (fun _ => br_c (fun _ => H _ _ _ _ _ _ _ _ _ h) (fun _ => ?_))
    exact rg_102 (nI_1 k) hn hs hl hh P h (fun mv' f9 f10 f11 f12 f13 f14 f15 f16 J' => hw (mv', f9, f10, f11, f12, f13, f14, f15, f16) J')
theorem rg_38 {post : St2 → Prop} {n : Nat} {v : Nat → Nat → Int32} (hn : n ≤ 14) (hs : s = nI n) (hz : ∀ x, x < 4 → a1 x ≤ 0) (hv : ∀ x, x < 4 → (if 0 ≤ a2 x then 0 else a2 x) = v 0 x) (hl : a1 1 = -100) (hh : a2 1 = 100) (P : rg_Prog n a3 a4 a5 a6 v) (J : rg_J n a1 a2 a3 a6 a9 a10 a11 a13 a14 v) (h9 : a9 0 = 0)
    (H : ∀ mv' f9 f10 f11 f12 f13 f14 f15 f16, rg_J n a1 a2 a3 a6 f9 f10 f11 f13 f14 v → post (s, e, p, c, 1, mv', a1, a2, a3, a4, a5, a6, a7, a8, f9, f10, f11, f12, f13, f14, f15, f16)) :
    ∃ fu, wX_analyse_38 post s e p c kn mv fu 0 a1 a2 a3 a4 a5 a6 a7 a8 a9 a10 a11 a12 a13 a14 a15 a16 := by
  refine pk_loop (fun f k (q : (Nat → Int32) × (Nat → Int32)) => wX_analyse_38 post s e p c kn mv f (nI k) a1 a2 a3 a4 a5 a6 a7 a8 a9 a10 a11 a12 a13 a14 q.1 q.2) (fun k q => (∀ x, x < k → q.1 x = v 0 x) ∧ (∀ x, x < k → q.2 x = v 0 x)) 4 0 (a15, a16) (by omega) ⟨fun x h => absurd h (by omega), fun x h => absurd h (by omega)⟩ ?_ ?_
  · intro f q h
    refine pk_le 4 4 (fun _ => ?_) (fun z => absurd z (by omega))
    refine rg_arrive (t := 0) (by omega) ?_ (fun _ f10 f11 S10 S11 => ?_) (fun g => absurd h9 g)
    · exact rg_81 hn hs hl hh P J H
    · exact rg_81 hn hs hl hh P (rg_Jn J h.1 h.2 S10 S11) H
  · intro f k q hk h hw
    have ck : (nI k).toNatClampNeg = k := nI_clamp (by omega)
    refine pk_le 4 k (fun z => absurd z (by omega)) (fun _ => ?_)
    rw [ck]
    exact rg_near hk (hz k hk) ⟨pk_in k 4 hk, nm_e ⟨pk_in k 4 hk, nm_e (nm_r (nI_1 k) (hw (_, _) ⟨rg_fill (f := fun x => v 0 x) h.1 (hv k hk), rg_fill (f := fun x => v 0 x) h.2 (hv k hk)⟩))⟩⟩
theorem rg_10 {post : St2 → Prop} (H : ∀ f9 f12, (∀ j, j < 15 → f9 j = 0) → ∃ fu, wX_analyse_38 post s e p c kn mv fu 0 a1 a2 a3 a4 a5 a6 a7 a8 f9 a10 a11 f12 a13 a14 a15 a16) : ∃ fu, wX_analyse_10 post s e p c kn mv fu 0 a1 a2 a3 a4 a5 a6 a7 a8 a9 a10 a11 a12 a13 a14 a15 a16 := by
  refine pk_loop (fun f k (q : (Nat → Int32) × (Nat → Int32)) => wX_analyse_10 post s e p c kn mv f (nI k) a1 a2 a3 a4 a5 a6 a7 a8 q.1 a10 a11 q.2 a13 a14 a15 a16) (fun k q => ∀ j, j < k → q.1 j = 0) 15 0 (a9, a12) (by omega) (fun x h => absurd h (by omega)) ?_ ?_
  · intro f q h
    exact pk_le 15 15 (fun _ => H q.1 q.2 h) (fun z => absurd z (by omega))
  · intro f k q hk h hw
    have ck : (nI k).toNatClampNeg = k := nI_clamp (by omega)
    refine pk_le 15 k (fun z => absurd z (by omega)) (fun _ => ?_)
    rw [ck]
    exact ⟨pk_in k 15 hk, nm_e ⟨pk_in k 15 hk, nm_e (nm_r (nI_1 k) (hw (_, _) (rg_fill (f := fun _ => 0) h rfl)))⟩⟩
theorem rg_analyse {post : St2 → Prop} {n : Nat} {v : Nat → Nat → Int32} (hk : kn = 0) (hn : n ≤ 14) (hs : s = nI n) (hz : ∀ x, x < 4 → a1 x ≤ 0) (hv : ∀ x, x < 4 → (if 0 ≤ a2 x then 0 else a2 x) = v 0 x) (hl : a1 1 = -100) (hh : a2 1 = 100) (P : rg_Prog n a3 a4 a5 a6 v) (h13 : ∀ i, i < n → a13 i = 0) (h14 : ∀ i, i < n → a14 i = 0)
    (H : ∀ mv' f9 f10 f11 f12 f13 f14 f15 f16, rg_J n a1 a2 a3 a6 f9 f10 f11 f13 f14 v → post (s, e, p, c, 1, mv', a1, a2, a3, a4, a5, a6, a7, a8, f9, f10, f11, f12, f13, f14, f15, f16)) :
    wpX_analyse post (s, e, p, c, kn, mv, a1, a2, a3, a4, a5, a6, a7, a8, a9, a10, a11, a12, a13, a14, a15, a16) := by
  unfold wpX_analyse
  dsimp only
  refine br_t hk (rg_10 (fun f9 f12 h9 => ?_))
  refine rg_38 hn hs hz hv hl hh P ⟨fun i hi g => absurd (h9 i (by omega)) g, fun i hi _ => ⟨fun g => absurd (h14 i hi) g, fun g => absurd (h13 i hi) g⟩⟩ (h9 0 (by omega)) H
end
end
section
/-! the run -/
section
variable {s e p c kn mv : Int32} {a1 a2 a3 a4 a5 a6 a7 a8 a9 a10 a11 a12 a13 a14 a15 a16 : Nat → Int32}
theorem rg_run {post : Int32 → St2 → Prop} {n : Nat} {v : Nat → Nat → Int32} (hk : kn = 0) (hn : n ≤ 14) (hs : s = nI n) (hz : ∀ x, x < 4 → a1 x ≤ 0) (hv : ∀ x, x < 4 → (if 0 ≤ a2 x then 0 else a2 x) = v 0 x) (hl : a1 1 = -100) (hh : a2 1 = 100) (P : rg_Prog n a3 a4 a5 a6 v) (h13 : ∀ i, i < n → a13 i = 0) (h14 : ∀ i, i < n → a14 i = 0)
    (H : ∀ mv' f8 f9 f10 f11 f12 f13 f14 f15 f16, (∀ x, x < 4 → f8 x = v 0 x) → rg_J n a1 a2 a3 a6 f9 f10 f11 f13 f14 v → ∃ fu, wX_run_37 post fu 0 0 s e p 0 1 mv' a1 a2 a3 a4 a5 a6 a7 f8 f9 f10 f11 f12 f13 f14 f15 f16) :
    wpX_run post (s, e, p, c, kn, mv, a1, a2, a3, a4, a5, a6, a7, a8, a9, a10, a11, a12, a13, a14, a15, a16) := by
  unfold wpX_run
  dsimp only
  refine rg_analyse hk hn hs hz hv hl hh P h13 h14 (fun mv' f9 f10 f11 f12 f13 f14 f15 f16 J => ?_)
  refine pk_loop (fun f k q => wX_run_6 post s e p c 1 mv' f (nI k) a1 a2 a3 a4 a5 a6 a7 q f9 f10 f11 f12 f13 f14 f15 f16) (fun k q => ∀ x, x < k → q x = v 0 x) 4 0 a8 (by omega) (fun x h => absurd h (by omega)) ?_ ?_
  · intro f q h
    exact pk_le 4 4 (fun _ => H _ _ _ _ _ _ _ _ _ _ h J) (fun z => absurd z (by omega))
  · intro f k q hk h hw
    have ck : (nI k).toNatClampNeg = k := nI_clamp (by omega)
    refine pk_le 4 k (fun z => absurd z (by omega)) (fun _ => ?_)
    rw [ck]
    exact rg_near hk (hz k hk) ⟨pk_in k 4 hk, nm_e (nm_r (nI_1 k) (hw _ (rg_fill (f := fun x => v 0 x) h (hv k hk))))⟩
theorem rg_give_ok {post : Int32 → St2 → Prop} {i x : Nat} {y : Int32} (hi : i < 14) (hx : x < 4) (h1 : ¬ y < a1 x) (h2 : y ≤ a2 x) (H : post 1 (s, e, p, c, kn, mv, a1, a2, a3, a4, a5, a6, a7, upd a8 x y, a9, a10, a11, a12, a13, a14, a15, a16)) : wpX_give post (s, e, p, c, kn, mv, a1, a2, a3, a4, a5, a6, a7, a8, a9, a10, a11, a12, a13, a14, a15, a16) (nI i) (nI x) y := by
  have cx : (nI x).toNatClampNeg = x := nI_clamp (by omega)
  unfold wpX_give
  dsimp only
  rw [cx]
  exact ⟨pk_in i 14 hi, br_c (fun _ => ⟨pk_in x 4 hx, br_f h1 ⟨pk_in x 4 hx, br_t h2 ⟨pk_in x 4 hx, nm_e H⟩⟩⟩) (fun _ => ⟨pk_in x 4 hx, nm_e H⟩)⟩
theorem rg_give_no {post : Int32 → St2 → Prop} {i x : Nat} {y : Int32} (hi : i < 14) (hx : x < 4) (h13 : a13 i = 0) (h : y < a1 x ∨ ¬ y ≤ a2 x) (H : post 0 (s, 2, nI i, c, kn, mv, a1, a2, a3, a4, a5, a6, a7, a8, a9, a10, a11, a12, a13, a14, a15, a16)) : wpX_give post (s, e, p, c, kn, mv, a1, a2, a3, a4, a5, a6, a7, a8, a9, a10, a11, a12, a13, a14, a15, a16) (nI i) (nI x) y := by
  have ci : (nI i).toNatClampNeg = i := nI_clamp (by omega)
  have cx : (nI x).toNatClampNeg = x := nI_clamp (by omega)
  have G : wX_give_29 post (nI i) s e p c kn mv a1 a2 a3 a4 a5 a6 a7 a8 a9 a10 a11 a12 a13 a14 a15 a16 := H
  unfold wpX_give
  dsimp only
  rw [ci, cx]
  exact ⟨pk_in i 14 hi, br_t h13 ⟨pk_in x 4 hx, br_c (fun _ => G) (fun g => ⟨pk_in x 4 hx, br_f (h.resolve_left g) G⟩)⟩⟩
theorem rg_reach_ok {post : Int32 → St2 → Prop} {i : Nat} {y : Int32} (hi : i < 14) (h1 : ¬ y < 0) (h2 : y ≤ 7) (H : post 1 (s, e, p, c, kn, mv, a1, a2, a3, a4, a5, a6, a7, a8, a9, a10, a11, a12, a13, a14, a15, a16)) : wpX_reach post (s, e, p, c, kn, mv, a1, a2, a3, a4, a5, a6, a7, a8, a9, a10, a11, a12, a13, a14, a15, a16) (nI i) y :=
  ⟨pk_in i 14 hi, br_c (fun _ => br_f h1 (br_t h2 H)) (fun _ => H)⟩
theorem rg_reach_no {post : Int32 → St2 → Prop} {i : Nat} {y : Int32} (hi : i < 14) (h14 : a14 i = 0) (h : y < 0 ∨ ¬ y ≤ 7) (H : post 0 (s, 3, nI i, c, kn, mv, a1, a2, a3, a4, a5, a6, a7, a8, a9, a10, a11, a12, a13, a14, a15, a16)) : wpX_reach post (s, e, p, c, kn, mv, a1, a2, a3, a4, a5, a6, a7, a8, a9, a10, a11, a12, a13, a14, a15, a16) (nI i) y := by
  have ci : (nI i).toNatClampNeg = i := nI_clamp (by omega)
  have G : wX_reach_19 post (nI i) s e p c kn mv a1 a2 a3 a4 a5 a6 a7 a8 a9 a10 a11 a12 a13 a14 a15 a16 := H
  unfold wpX_reach
  dsimp only
  rw [ci]
  exact ⟨pk_in i 14 hi, br_t h14 (br_c (fun _ => G) (fun g => br_f (h.resolve_left g) G))⟩
theorem rg_work_const {post : Int32 → St2 → Prop} {i : Nat} {k : Int32} (hi : i < 14) (p3 : a3 i = 0) (p4 : a4 i = nI 1) (p6 : a6 i = k) (h1 : ¬ k < a1 1) (h2 : k ≤ a2 1) (H : post (nI (i + 1)) (s, e, p, c, kn, mv, a1, a2, a3, a4, a5, a6, a7, upd a8 1 k, a9, a10, a11, a12, a13, a14, a15, a16)) : wpX_work post (s, e, p, c, kn, mv, a1, a2, a3, a4, a5, a6, a7, a8, a9, a10, a11, a12, a13, a14, a15, a16) (nI i) := by
  have ci : (nI i).toNatClampNeg = i := nI_clamp (by omega)
  unfold wpX_work
  dsimp only
  rw [ci]
  refine ⟨pk_in i 14 hi, nm_r p3 ⟨pk_in i 14 hi, nm_r p4 ⟨pk_in i 14 hi, nm_e ⟨pk_in i 14 hi, nm_r p6 (br_f (by decide) (br_t (by decide) (br_t rfl ?_)))⟩⟩⟩⟩
  refine rg_give_ok hi (by omega) h1 h2 (br_f (by decide) ?_)
  rw [nI_1]
  exact H
theorem rg_work_load {post : Int32 → St2 → Prop} {i : Nat} {w k : Int32} (hi : i < 14) (p3 : a3 i = 4) (p4 : a4 i = nI 0) (p5 : a5 i = nI 1) (p6 : a6 i = k) (hw : a8 1 = w)
    (h14 : ¬ a14 i = 0 → ¬ w + k < 0 ∧ ¬ 7 < w + k) (h13 : ¬ a13 i = 0 → ¬ -100 < a1 0 ∧ ¬ a2 0 < 100) (h7 : ∀ j, j < 8 → ¬ a7 j < -100 ∧ a7 j ≤ 100)
    (Hout : (w + k < 0 ∨ ¬ w + k ≤ 7) → post (-1) (s, 3, nI i, c, kn, mv, a1, a2, a3, a4, a5, a6, a7, a8, a9, a10, a11, a12, a13, a14, a15, a16))
    (Href : ∀ m, m < 8 → w + k = nI m → (a7 m < a1 0 ∨ ¬ a7 m ≤ a2 0) → post (-1) (s, 2, nI i, c, kn, mv, a1, a2, a3, a4, a5, a6, a7, a8, a9, a10, a11, a12, a13, a14, a15, a16))
    (Hdone : ∀ m, m < 8 → w + k = nI m → ¬ a7 m < a1 0 → a7 m ≤ a2 0 → post (nI (i + 1)) (s, e, p, c, kn, mv, a1, a2, a3, a4, a5, a6, a7, upd a8 0 (a7 m), a9, a10, a11, a12, a13, a14, a15, a16)) : wpX_work post (s, e, p, c, kn, mv, a1, a2, a3, a4, a5, a6, a7, a8, a9, a10, a11, a12, a13, a14, a15, a16) (nI i) := by
  have ci : (nI i).toNatClampNeg = i := nI_clamp (by omega)
  have c1 : (nI 1).toNatClampNeg = 1 := nI_clamp (by omega)
  unfold wpX_work
  dsimp only
  rw [ci]
  refine ⟨pk_in i 14 hi, nm_r p3 ⟨pk_in i 14 hi, nm_r p4 ⟨pk_in i 14 hi, nm_r p5 ⟨pk_in i 14 hi, nm_r p6 (br_f (by decide) (br_t (by decide) (br_f (by decide) (br_f (by decide) (br_f (by decide) (br_f (by decide) ⟨pk_in 1 4 (by omega), nm_r (show a8 (nI 1).toNatClampNeg + k = w + k by rw [c1, hw]) ?_⟩))))))⟩⟩⟩⟩
  by_cases ho : w + k < 0 ∨ ¬ w + k ≤ 7
  · have z14 : a14 i = 0 := by
      by_cases g : a14 i = 0
      · exact g
      · rcases ho with ho | ho
        · exact absurd ho (h14 g).1
        · exact absurd (rg_le_of_nlt (h14 g).2) ho
    exact rg_reach_no hi z14 ho (br_t rfl (br_t rfl (br_t rfl (Hout ho))))
  · have ho1 : ¬ w + k < 0 := fun g => ho (Or.inl g)
    have ho2 : w + k ≤ 7 := by
      by_cases g : w + k ≤ 7
      · exact g
      · exact absurd (Or.inr g) ho
    obtain ⟨m, hm, em⟩ := nI_of2 (n := 7) (by decide) ho1 ho2
    have ea : (w + k) &&& 7 = nI m := by
      rw [em, pk_andN (by omega) 3 (by decide), Nat.mod_eq_of_lt (by omega)]
    have cm : (nI m).toNatClampNeg = m := nI_clamp (by omega)
    refine rg_reach_ok hi ho1 ho2 (br_f (by decide) (br_t rfl ?_))
    rw [ea, cm]
    refine ⟨pk_in m 8 (by omega), ?_⟩
    by_cases hr : a7 m < a1 0 ∨ ¬ a7 m ≤ a2 0
    · have z13 : a13 i = 0 := by
        by_cases g : a13 i = 0
        · exact g
        · have q1 := rg_le_of_nlt (h13 g).1
          have q2 := rg_le_of_nlt (h13 g).2
          have q3 := rg_le_of_nlt (h7 m (by omega)).1
          have q4 := (h7 m (by omega)).2
          rw [Int32.le_iff_toInt_le] at q1 q2 q3 q4
          rw [Int32.lt_iff_toInt_lt, Int32.le_iff_toInt_le] at hr
          exact absurd hr (by omega)
      exact rg_give_no hi (by omega) z13 hr (br_t rfl (Href m (by omega) em hr))
    · have hr1 : ¬ a7 m < a1 0 := fun g => hr (Or.inl g)
      have hr2 : a7 m ≤ a2 0 := by
        by_cases g : a7 m ≤ a2 0
        · exact g
        · exact absurd (Or.inr g) hr
      refine rg_give_ok hi (by omega) hr1 hr2 (br_f (by decide) ?_)
      rw [nI_1]
      exact Hdone m (by omega) em hr1 hr2
/-! the run's loop, turn by turn -/
theorem rg_37_end {post : Int32 → St2 → Prop} {fu : Nat} {x1 x2 : Int32} (h0 : ¬ x1 < 0) (h : s = x1) (H : post 1 (s, 1, -1, c, kn, mv, a1, a2, a3, a4, a5, a6, a7, a8, a9, a10, a11, a12, a13, a14, a15, a16)) : wX_run_37 post (fu + 1) x1 x2 s e p c kn mv a1 a2 a3 a4 a5 a6 a7 a8 a9 a10 a11 a12 a13 a14 a15 a16 := by
  have hn : ¬ x1 < s := by
    rw [h, Int32.lt_iff_toInt_lt]
    omega
  have G : wX_run_77 post x1 s e p c kn mv a1 a2 a3 a4 a5 a6 a7 a8 a9 a10 a11 a12 a13 a14 a15 a16 := br_f hn H
  exact br_c (fun _ => G) (fun _ => br_f h0 (br_t (rg_le_of_eq h) G))
theorem rg_37_neg {post : Int32 → St2 → Prop} {fu : Nat} {x2 : Int32} (h : ¬ s ≤ -1) (H : post e (s, e, p, c, kn, mv, a1, a2, a3, a4, a5, a6, a7, a8, a9, a10, a11, a12, a13, a14, a15, a16)) : wX_run_37 post (fu + 1) (-1) x2 s e p c kn mv a1 a2 a3 a4 a5 a6 a7 a8 a9 a10 a11 a12 a13 a14 a15 a16 := by
  have G : wX_run_77 post (-1) s e p c kn mv a1 a2 a3 a4 a5 a6 a7 a8 a9 a10 a11 a12 a13 a14 a15 a16 := br_t (rg_lt_of_nle h) (br_t (by decide) H)
  exact br_c (fun _ => G) (fun _ => br_t (by decide) G)
theorem rg_37_const {post : Int32 → St2 → Prop} {fu i n : Nat} {x2 k : Int32} (hi : i < n) (hn : n ≤ 14) (hs : s = nI n) (h2 : ¬ 120 ≤ x2) (p3 : a3 i = 0) (p4 : a4 i = nI 1) (p6 : a6 i = k) (hl : ¬ k < a1 1) (hh : k ≤ a2 1)
    (H : wX_run_37 post fu (nI (i + 1)) (x2 + 1) s e p (c + 1) kn mv a1 a2 a3 a4 a5 a6 a7 (upd a8 1 k) a9 a10 a11 a12 a13 a14 a15 a16) : wX_run_37 post (fu + 1) (nI i) x2 s e p c kn mv a1 a2 a3 a4 a5 a6 a7 a8 a9 a10 a11 a12 a13 a14 a15 a16 := by
  refine br_f h2 (br_f (nI_pos (by omega)) (br_f (by rw [hs]; exact nI_ge hi (by omega)) (nm_e ?_)))
  exact rg_work_const (by omega) p3 p4 p6 hl hh (nm_e H)
theorem rg_37_load {post : Int32 → St2 → Prop} {fu i n : Nat} {x2 w k : Int32} (hi : i + 1 = n) (hn : n ≤ 14) (hs : s = nI n) (h2 : ¬ 120 ≤ x2) (p3 : a3 i = 4) (p4 : a4 i = nI 0) (p5 : a5 i = nI 1) (p6 : a6 i = k) (hw : a8 1 = w)
    (h14 : ¬ a14 i = 0 → ¬ w + k < 0 ∧ ¬ 7 < w + k) (h13 : ¬ a13 i = 0 → ¬ -100 < a1 0 ∧ ¬ a2 0 < 100) (h7 : ∀ j, j < 8 → ¬ a7 j < -100 ∧ a7 j ≤ 100)
    (Hout : (w + k < 0 ∨ ¬ w + k ≤ 7) → post 3 (s, 3, nI i, c + 1, kn, mv, a1, a2, a3, a4, a5, a6, a7, a8, a9, a10, a11, a12, a13, a14, a15, a16))
    (Href : ∀ m, m < 8 → w + k = nI m → (a7 m < a1 0 ∨ ¬ a7 m ≤ a2 0) → post 2 (s, 2, nI i, c + 1, kn, mv, a1, a2, a3, a4, a5, a6, a7, a8, a9, a10, a11, a12, a13, a14, a15, a16))
    (Hdone : ∀ m, m < 8 → w + k = nI m → ¬ a7 m < a1 0 → a7 m ≤ a2 0 → post 1 (s, 1, -1, c + 1, kn, mv, a1, a2, a3, a4, a5, a6, a7, upd a8 0 (a7 m), a9, a10, a11, a12, a13, a14, a15, a16)) : wX_run_37 post (fu + 2) (nI i) x2 s e p c kn mv a1 a2 a3 a4 a5 a6 a7 a8 a9 a10 a11 a12 a13 a14 a15 a16 := by
  have sn : ¬ s ≤ -1 := by
    rw [hs, Int32.le_iff_toInt_le, nI_toInt (by omega)]
    have : (-1 : Int32).toInt = -1 := by decide
    omega
  refine br_f h2 (br_f (nI_pos (by omega)) (br_f (by rw [hs]; exact nI_ge (by omega) (by omega)) (nm_e ?_)))
  exact rg_work_load (by omega) p3 p4 p5 p6 hw h14 h13 h7 (fun g => nm_e (rg_37_neg sn (Hout g))) (fun m hm em g => nm_e (rg_37_neg sn (Href m hm em g)))
    (fun m hm em g1 g2 => nm_e (rg_37_end (nI_pos (by omega)) (by rw [hs, hi]) (Hdone m hm em g1 g2)))
end
end
section
/-! the law's own words: what it computes out of the script, and what it compares -/
section
variable {post : Int32 → St0 → Prop} {mc ms kc ks : Nat} {x0 x1 x2 x3 x4 x6 x7 x8 x9 x10 x11 x12 x13 x14 x15 x16 x17 x18 x19 x20 x21 x22 x23 z z0 z1 : Int32}
theorem rg_344 (h6 : x6 = if x17 = 0 then -1 else 0) (h7 : x7 = if x18 = 0 then -1 else x19 - 1) (h8 : x8 = if x21 = 0 then (if x23 = 0 then 1 else 2) else 3)
    (h9 : x9 = if z0 = 0 then x16 else x22) (h10 : x10 = if z0 = 0 then (if x18 = 0 then -1 else x19 - 1) else -1) (h11 : x11 = x19) (H : post 1 ()) :
    wL_lawOf_344 post mc ms x6 x7 x8 x9 x10 x11 x16 x17 x18 x19 x21 x22 x23 z0 kc ks := by
  have G440 : ∀ y, x10 = y → wL_lawOf_440 post mc ms x11 x19 y x10 kc ks := fun y hy => br_t hy (br_t h11 H)
  have G417 : ∀ y, x9 = y → wL_lawOf_417 post mc ms x10 x11 x18 x19 z0 y x9 kc ks := by
    intro y hy
    refine br_t hy (br_c (fun g => br_c (fun g2 => G440 _ ?_) (fun g2 => G440 _ ?_)) (fun g => G440 _ ?_))
    · rw [h10, if_pos g, if_pos g2]
    · rw [h10, if_pos g, if_neg g2]
    · rw [h10, if_neg g]
  have G400 : ∀ y, x8 = y → wL_lawOf_400 post mc ms x9 x10 x11 x16 x18 x19 x22 z0 y x8 kc ks := by
    intro y hy
    refine br_t hy (br_c (fun g => G417 _ ?_) (fun g => G417 _ ?_))
    · rw [h9, if_pos g]
    · rw [h9, if_neg g]
  have G376 : ∀ y, x7 = y → wL_lawOf_376 post mc ms x8 x9 x10 x11 x16 x18 x19 x21 x22 x23 z0 y x7 kc ks := by
    intro y hy
    refine br_t hy (br_c (fun g => br_c (fun g2 => G400 _ ?_) (fun g2 => G400 _ ?_)) (fun g => G400 _ ?_))
    · rw [h8, if_pos g, if_pos g2]
    · rw [h8, if_pos g, if_neg g2]
    · rw [h8, if_neg g]
  have G358 : ∀ y, x6 = y → wL_lawOf_358 post mc ms x7 x8 x9 x10 x11 x16 x18 x19 x21 x22 x23 z0 y x6 kc ks := by
    intro y hy
    refine br_t hy (br_c (fun g => G376 _ ?_) (fun g => G376 _ ?_))
    · rw [h7, if_pos g]
    · rw [h7, if_neg g]
  refine br_c (fun g => G358 _ ?_) (fun g => G358 _ ?_)
  · rw [h6, if_pos g]
  · rw [h6, if_neg g]
theorem rg_322 (h : z = if x18 = 0 then 0 else if x21 = 0 then (if z0 = 0 then 1 else 0) else 0) (H : wL_lawOf_344 post mc ms x6 x7 x8 x9 x10 x11 x16 x17 x18 x19 x21 x22 z0 z kc ks) :
    wL_lawOf_322 post mc ms x6 x7 x8 x9 x10 x11 x16 x17 x18 x19 x21 x22 z0 kc ks := by
  rw [h] at H
  refine br_c (fun g => ?_) (fun g => br_c (fun g2 => br_c (fun g3 => ?_) (fun g3 => ?_)) (fun g2 => ?_))
  · rw [if_pos g] at H
    exact H
  · rw [if_neg g, if_pos g2, if_pos g3] at H
    exact H
  · rw [if_neg g, if_pos g2, if_neg g3] at H
    exact H
  · rw [if_neg g, if_neg g2] at H
    exact H
theorem rg_291 (h : z = if x18 = 0 then 0 else if x21 = 0 then (if z0 < x14 then 1 else if z0 ≤ x15 then 0 else 1) else 0) (H : wL_lawOf_322 post mc ms x6 x7 x8 x9 x10 x11 x16 x17 x18 x19 x21 z0 z kc ks) :
    wL_lawOf_291 post mc ms x6 x7 x8 x9 x10 x11 x14 x15 x16 x17 x18 x19 x21 z0 kc ks := by
  rw [h] at H
  refine br_c (fun g => ?_) (fun g => br_c (fun g2 => br_c (fun g3 => ?_) (fun g3 => br_c (fun g4 => ?_) (fun g4 => ?_))) (fun g2 => ?_))
  · rw [if_pos g] at H
    exact H
  · rw [if_neg g, if_pos g2, if_pos g3] at H
    exact H
  · rw [if_neg g, if_pos g2, if_neg g3, if_pos g4] at H
    exact H
  · rw [if_neg g, if_pos g2, if_neg g3, if_neg g4] at H
    exact H
  · rw [if_neg g, if_neg g2] at H
    exact H
theorem rg_273 (h : z = if x12 = 0 then 0 else if x20 = x0 then x1 else 0) (H : wL_lawOf_291 post mc ms x6 x7 x8 x9 x10 x11 x14 x15 x16 x17 x18 x19 z0 z kc ks) :
    wL_lawOf_273 post mc ms x0 x1 x6 x7 x8 x9 x10 x11 x12 x14 x15 x16 x17 x18 x19 x20 z0 kc ks := by
  rw [h] at H
  refine br_c (fun g => ?_) (fun g => br_c (fun g2 => ?_) (fun g2 => ?_))
  · rw [if_pos g] at H
    exact H
  · rw [if_neg g, if_pos g2] at H
    exact H
  · rw [if_neg g, if_neg g2] at H
    exact H
theorem rg_248 (h20 : x20 = z1 + z0) (h : z = if x18 = 0 then 0 else if x20 < 0 then 1 else if x20 ≤ 7 then 0 else 1) (H : wL_lawOf_273 post mc ms x0 x1 x6 x7 x8 x9 x10 x11 x12 x14 x15 x16 x17 x18 x19 x20 z kc ks) :
    wL_lawOf_248 post mc ms x0 x1 x6 x7 x8 x9 x10 x11 x12 x14 x15 x16 x17 x18 x19 z0 z1 kc ks := by
  rw [h] at H
  refine nm_r h20.symm (br_c (fun g => ?_) (fun g => br_c (fun g2 => ?_) (fun g2 => br_c (fun g3 => ?_) (fun g3 => ?_))))
  · rw [if_pos g] at H
    exact H
  · rw [if_neg g, if_pos g2] at H
    exact H
  · rw [if_neg g, if_neg g2, if_pos g3] at H
    exact H
  · rw [if_neg g, if_neg g2, if_neg g3] at H
    exact H
theorem rg_238 (h : z = if x18 = 0 then 0 else x3) (H : wL_lawOf_248 post mc ms x0 x1 x6 x7 x8 x9 x10 x11 x12 x14 x15 x16 x17 x18 x19 z z0 kc ks) :
    wL_lawOf_238 post mc ms x0 x1 x3 x6 x7 x8 x9 x10 x11 x12 x14 x15 x16 x17 x18 x19 z0 kc ks := by
  rw [h] at H
  refine br_c (fun g => ?_) (fun g => ?_)
  · rw [if_pos g] at H
    exact H
  · rw [if_neg g] at H
    exact H
theorem rg_225 (h19 : x19 = z1 + z0) (h : z = if x17 = 0 then 0 else x2) (H : wL_lawOf_238 post mc ms x0 x1 x3 x6 x7 x8 x9 x10 x11 x12 x14 x15 x16 x17 x18 x19 z kc ks) :
    wL_lawOf_225 post mc ms x0 x1 x2 x3 x6 x7 x8 x9 x10 x11 x12 x14 x15 x16 x17 x18 z0 z1 kc ks := by
  rw [h] at H
  refine nm_r h19.symm (br_c (fun g => ?_) (fun g => ?_))
  · rw [if_pos g] at H
    exact H
  · rw [if_neg g] at H
    exact H
theorem rg_215 (h : z = if x18 = 0 then 0 else 1) (H : wL_lawOf_225 post mc ms x0 x1 x2 x3 x6 x7 x8 x9 x10 x11 x12 x14 x15 x16 x17 x18 z z0 kc ks) :
    wL_lawOf_215 post mc ms x0 x1 x2 x3 x6 x7 x8 x9 x10 x11 x12 x14 x15 x16 x17 x18 z0 kc ks := by
  rw [h] at H
  refine br_c (fun g => ?_) (fun g => ?_)
  · rw [if_pos g] at H
    exact H
  · rw [if_neg g] at H
    exact H
theorem rg_203 (h : z = if x17 = 0 then 0 else 1) (H : wL_lawOf_215 post mc ms x0 x1 x2 x3 x6 x7 x8 x9 x10 x11 x12 x14 x15 x16 x17 z0 z kc ks) :
    wL_lawOf_203 post mc ms x0 x1 x2 x3 x6 x7 x8 x9 x10 x11 x12 x14 x15 x16 x17 z0 kc ks := by
  rw [h] at H
  refine br_c (fun g => ?_) (fun g => ?_)
  · rw [if_pos g] at H
    exact H
  · rw [if_neg g] at H
    exact H
theorem rg_184 (h : z = if x3 < -8 then 0 else if 8 < x3 then 0 else 1) (H : wL_lawOf_203 post mc ms x0 x1 x2 x3 x6 x7 x8 x9 x10 x11 x12 x14 x15 x16 z0 z kc ks) :
    wL_lawOf_184 post mc ms x0 x1 x2 x3 x6 x7 x8 x9 x10 x11 x12 x14 x15 x16 z0 kc ks := by
  rw [h] at H
  refine br_c (fun g => ?_) (fun g => br_c (fun g2 => ?_) (fun g2 => ?_))
  · rw [if_pos g] at H
    exact H
  · rw [if_neg g, if_pos g2] at H
    exact H
  · rw [if_neg g, if_neg g2] at H
    exact H
theorem rg_165 (h : z = if x2 < -100 then 0 else if 100 < x2 then 0 else 1) (H : wL_lawOf_184 post mc ms x0 x1 x2 x3 x6 x7 x8 x9 x10 x11 x12 x14 x15 z0 z kc ks) :
    wL_lawOf_165 post mc ms x0 x1 x2 x3 x6 x7 x8 x9 x10 x11 x12 x14 x15 z0 kc ks := by
  rw [h] at H
  refine br_c (fun g => ?_) (fun g => br_c (fun g2 => ?_) (fun g2 => ?_))
  · rw [if_pos g] at H
    exact H
  · rw [if_neg g, if_pos g2] at H
    exact H
  · rw [if_neg g, if_neg g2] at H
    exact H
theorem rg_152 (h : z = if 0 ≤ z0 then 0 else z0) (H : wL_lawOf_165 post mc ms x0 x1 x2 x3 x6 x7 x8 x9 x10 x11 x12 x14 z0 z kc ks) :
    wL_lawOf_152 post mc ms x0 x1 x2 x3 x6 x7 x8 x9 x10 x11 x12 x14 z0 kc ks := by
  rw [h] at H
  refine br_c (fun g => ?_) (fun g => ?_)
  · rw [if_pos g] at H
    exact H
  · rw [if_neg g] at H
    exact H
theorem rg_138 (h : z = if x13 = 0 then 100 else x4) (H : wL_lawOf_152 post mc ms x0 x1 x2 x3 x6 x7 x8 x9 x10 x11 x12 z0 z kc ks) :
    wL_lawOf_138 post mc ms x0 x1 x2 x3 x4 x6 x7 x8 x9 x10 x11 x12 x13 z0 kc ks := by
  rw [h] at H
  refine br_c (fun g => ?_) (fun g => ?_)
  · rw [if_pos g] at H
    exact H
  · rw [if_neg g] at H
    exact H
theorem rg_124 (h : z = if z0 = 0 then -100 else -5) (H : wL_lawOf_138 post mc ms x0 x1 x2 x3 x4 x6 x7 x8 x9 x10 x11 x12 z0 z kc ks) :
    wL_lawOf_124 post mc ms x0 x1 x2 x3 x4 x6 x7 x8 x9 x10 x11 x12 z0 kc ks := by
  rw [h] at H
  refine br_c (fun g => ?_) (fun g => ?_)
  · rw [if_pos g] at H
    exact H
  · rw [if_neg g] at H
    exact H
theorem rg_103 (h : z = if x4 < -5 then 0 else if 100 < x4 then 0 else 1) (H : wL_lawOf_124 post mc ms x0 x1 x2 x3 x4 x6 x7 x8 x9 x10 x11 z0 z kc ks) :
    wL_lawOf_103 post mc ms x0 x1 x2 x3 x4 x6 x7 x8 x9 x10 x11 z0 kc ks := by
  rw [h] at H
  refine br_c (fun g => ?_) (fun g => br_c (fun g2 => ?_) (fun g2 => ?_))
  · rw [if_pos g] at H
    exact H
  · rw [if_neg g, if_pos g2] at H
    exact H
  · rw [if_neg g, if_neg g2] at H
    exact H
theorem rg_top (h : z = if x0 < 0 then 0 else if 7 < x0 then 0 else if x1 < -100 then 0 else if 100 < x1 then 0 else 1) (H : wL_lawOf_103 post mc ms x0 x1 x2 x3 x4 x6 x7 x8 x9 x10 x11 z kc ks) :
    (x0 < 0 → wL_lawOf_102 post mc ms x0 x1 x2 x3 x4 x6 x7 x8 x9 x10 x11 kc ks) ∧ (¬ x0 < 0 → ((7 < x0 → wL_lawOf_102 post mc ms x0 x1 x2 x3 x4 x6 x7 x8 x9 x10 x11 kc ks) ∧ (¬ 7 < x0 → ((x1 < -100 → wL_lawOf_102 post mc ms x0 x1 x2 x3 x4 x6 x7 x8 x9 x10 x11 kc ks) ∧ (¬ x1 < -100 → ((100 < x1 → wL_lawOf_102 post mc ms x0 x1 x2 x3 x4 x6 x7 x8 x9 x10 x11 kc ks) ∧ (¬ 100 < x1 → wL_lawOf_103 post mc ms x0 x1 x2 x3 x4 x6 x7 x8 x9 x10 x11 1 kc ks))))))) := by
  rw [h] at H
  refine br_c (fun g => ?_) (fun g => br_c (fun g2 => ?_) (fun g2 => br_c (fun g3 => ?_) (fun g3 => br_c (fun g4 => ?_) (fun g4 => ?_))))
  · rw [if_pos g] at H
    exact H
  · rw [if_neg g, if_pos g2] at H
    exact H
  · rw [if_neg g, if_neg g2, if_pos g3] at H
    exact H
  · rw [if_neg g, if_neg g2, if_neg g3, if_pos g4] at H
    exact H
  · rw [if_neg g, if_neg g2, if_neg g3, if_neg g4] at H
    exact H
/-- the law, all its words named: C cell, S set, LO low, HI high, NE near, O one, T two, N n, AT at, OU outside, GO got, RE refused, DO done -/
theorem rg_law {C S LO HI NE O T N AT OU GO RE DO : Int32}
    (hC : C = if x0 < 0 then 0 else if 7 < x0 then 0 else if x1 < -100 then 0 else if 100 < x1 then 0 else 1)
    (hS : S = if x4 < -5 then 0 else if 100 < x4 then 0 else 1)
    (hLO : LO = if S = 0 then -100 else -5) (hHI : HI = if S = 0 then 100 else x4) (hNE : NE = if 0 ≤ HI then 0 else HI)
    (hO : O = if x2 < -100 then 0 else if 100 < x2 then 0 else 1) (hT : T = if x3 < -8 then 0 else if 8 < x3 then 0 else 1)
    (hN : N = (if O = 0 then 0 else 1) + (if T = 0 then 0 else 1)) (hAT : AT = (if O = 0 then 0 else x2) + (if T = 0 then 0 else x3))
    (hOU : OU = if T = 0 then 0 else if AT < 0 then 1 else if AT ≤ 7 then 0 else 1)
    (hGO : GO = if C = 0 then 0 else if AT = x0 then x1 else 0)
    (hRE : RE = if T = 0 then 0 else if OU = 0 then (if GO < LO then 1 else if GO ≤ HI then 0 else 1) else 0)
    (hDO : DO = if T = 0 then 0 else if OU = 0 then (if RE = 0 then 1 else 0) else 0)
    (h6 : x6 = if O = 0 then -1 else 0) (h7 : x7 = if T = 0 then -1 else N - 1) (h8 : x8 = if OU = 0 then (if RE = 0 then 1 else 2) else 3)
    (h9 : x9 = if DO = 0 then NE else GO) (h10 : x10 = if DO = 0 then (if T = 0 then -1 else N - 1) else -1) (h11 : x11 = N) (H : post 1 ()) :
    (x0 < 0 → wL_lawOf_102 post mc ms x0 x1 x2 x3 x4 x6 x7 x8 x9 x10 x11 kc ks) ∧ (¬ x0 < 0 → ((7 < x0 → wL_lawOf_102 post mc ms x0 x1 x2 x3 x4 x6 x7 x8 x9 x10 x11 kc ks) ∧ (¬ 7 < x0 → ((x1 < -100 → wL_lawOf_102 post mc ms x0 x1 x2 x3 x4 x6 x7 x8 x9 x10 x11 kc ks) ∧ (¬ x1 < -100 → ((100 < x1 → wL_lawOf_102 post mc ms x0 x1 x2 x3 x4 x6 x7 x8 x9 x10 x11 kc ks) ∧ (¬ 100 < x1 → wL_lawOf_103 post mc ms x0 x1 x2 x3 x4 x6 x7 x8 x9 x10 x11 1 kc ks))))))) :=
  rg_top hC (rg_103 hS (rg_124 hLO (rg_138 hHI (rg_152 hNE (rg_165 hO (rg_184 hT (rg_203 rfl (rg_215 rfl (rg_225 hN rfl (rg_238 rfl (rg_248 hAT hOU (rg_273 hGO (rg_291 hRE (rg_322 hDO (rg_344 h6 h7 h8 h9 h10 h11 H)))))))))))))))
end
end
section
/-! the run of each of the four programs -/
/-- what variable x holds ahead of instruction i -/
def rg_v (NE w : Int32) (i x : Nat) : Int32 := if x = 1 then (if i = 0 then 0 else w) else if x = 0 then NE else 0
section
variable {s e p c kn mv : Int32} {a1 a2 a3 a4 a5 a6 a7 a8 a9 a10 a11 a12 a13 a14 a15 a16 : Nat → Int32}
variable {LO HI NE w k : Int32}
theorem rg_hv (e20 : a2 0 = HI) (e2 : ∀ x, x < 4 → ¬ x = 0 → a2 x = 100) (hNE : NE = if 0 ≤ HI then 0 else HI) : ∀ x, x < 4 → (if 0 ≤ a2 x then 0 else a2 x) = rg_v NE w 0 x := by
  intro x hx
  by_cases q : x = 0
  · rw [q, e20, ← hNE]
    rfl
  · rw [e2 x hx q, if_pos (by decide : (0 : Int32) ≤ 100)]
    unfold rg_v
    rw [if_neg q, if_pos rfl]
    by_cases g : x = 1
    · rw [if_pos g]
    · rw [if_neg g]
theorem rg_hz (e10 : a1 0 = LO) (e1 : ∀ x, x < 4 → ¬ x = 0 → a1 x = -100) (hLO : LO ≤ 0) : ∀ x, x < 4 → a1 x ≤ 0 := by
  intro x hx
  by_cases q : x = 0
  · rw [q, e10]
    exact hLO
  · rw [e1 x hx q]
    decide
theorem rg_run0 {post : Int32 → St2 → Prop} (hk : kn = 0) (hs : s = nI 0) (e10 : a1 0 = LO) (e20 : a2 0 = HI) (e1 : ∀ x, x < 4 → ¬ x = 0 → a1 x = -100) (e2 : ∀ x, x < 4 → ¬ x = 0 → a2 x = 100) (hLO : LO ≤ 0) (hNE : NE = if 0 ≤ HI then 0 else HI)
    (H : ∀ mv' f8 f9 f10 f11 f12 f13 f14 f15 f16, f8 0 = NE → post 1 (s, 1, -1, 0, 1, mv', a1, a2, a3, a4, a5, a6, a7, f8, f9, f10, f11, f12, f13, f14, f15, f16)) : wpX_run post (s, e, p, c, kn, mv, a1, a2, a3, a4, a5, a6, a7, a8, a9, a10, a11, a12, a13, a14, a15, a16) := by
  refine rg_run (n := 0) (v := rg_v NE 0) hk (by omega) hs (rg_hz e10 e1 hLO) (rg_hv e20 e2 hNE) (e1 1 (by omega) (by omega)) (e2 1 (by omega) (by omega)) (fun i hi => absurd hi (by omega)) (fun i hi => absurd hi (by omega)) (fun i hi => absurd hi (by omega)) (fun mv' f8 f9 f10 f11 f12 f13 f14 f15 f16 e8 J => ⟨1, ?_⟩)
  exact rg_37_end (fu := 0) (by decide) hs (H _ _ _ _ _ _ _ _ _ _ (e8 0 (by omega)))
theorem rg_runc {post : Int32 → St2 → Prop} (hk : kn = 0) (hs : s = nI 1) (e10 : a1 0 = LO) (e20 : a2 0 = HI) (e1 : ∀ x, x < 4 → ¬ x = 0 → a1 x = -100) (e2 : ∀ x, x < 4 → ¬ x = 0 → a2 x = 100) (hLO : LO ≤ 0) (hNE : NE = if 0 ≤ HI then 0 else HI)
    (h13 : ∀ i, a13 i = 0) (h14 : ∀ i, a14 i = 0) (p3 : a3 0 = 0) (p4 : a4 0 = nI 1) (p6 : a6 0 = w) (w1 : ¬ w < -100) (w2 : w ≤ 100)
    (H : ∀ mv' f8 f9 f10 f11 f12 f13 f14 f15 f16, f8 0 = NE → post 1 (s, 1, -1, 0 + 1, 1, mv', a1, a2, a3, a4, a5, a6, a7, f8, f9, f10, f11, f12, f13, f14, f15, f16)) : wpX_run post (s, e, p, c, kn, mv, a1, a2, a3, a4, a5, a6, a7, a8, a9, a10, a11, a12, a13, a14, a15, a16) := by
  have l1 : a1 1 = -100 := e1 1 (by omega) (by omega)
  have h1 : a2 1 = 100 := e2 1 (by omega) (by omega)
  have P : rg_Prog 1 a3 a4 a5 a6 (rg_v NE w) := by
    intro i hi
    have q : i = 0 := by omega
    subst q
    exact Or.inl ⟨p3, p4, by rw [p6]; exact w1, by rw [p6]; exact w2, fun g => absurd g (by omega)⟩
  refine rg_run (n := 1) (v := rg_v NE w) hk (by omega) hs (rg_hz e10 e1 hLO) (rg_hv e20 e2 hNE) l1 h1 P (fun i _ => h13 i) (fun i _ => h14 i) (fun mv' f8 f9 f10 f11 f12 f13 f14 f15 f16 e8 J => ⟨2, ?_⟩)
  refine rg_37_const (fu := 1) (i := 0) (n := 1) (by omega) (by omega) hs (by decide) p3 p4 p6 (by rw [l1]; exact w1) (by rw [h1]; exact w2) ?_
  exact rg_37_end (fu := 0) (by decide) hs (H _ _ _ _ _ _ _ _ _ _ (by rw [pk_un (by omega)]; exact e8 0 (by omega)))
theorem rg_runl {post : Int32 → St2 → Prop} (hk : kn = 0) (hs : s = nI 1) (e10 : a1 0 = LO) (e20 : a2 0 = HI) (e1 : ∀ x, x < 4 → ¬ x = 0 → a1 x = -100) (e2 : ∀ x, x < 4 → ¬ x = 0 → a2 x = 100) (hLO : LO ≤ 0) (hNE : NE = if 0 ≤ HI then 0 else HI)
    (h13 : ∀ i, a13 i = 0) (h14 : ∀ i, a14 i = 0) (p3 : a3 0 = 4) (p4 : a4 0 = nI 0) (p5 : a5 0 = nI 1) (p6 : a6 0 = k) (h7 : ∀ j, j < 8 → ¬ a7 j < -100 ∧ a7 j ≤ 100)
    (Hout : (0 + k < 0 ∨ ¬ 0 + k ≤ 7) → ∀ mv' f8 f9 f10 f11 f12 f13 f14 f15 f16, f8 0 = NE → post 3 (s, 3, nI 0, 0 + 1, 1, mv', a1, a2, a3, a4, a5, a6, a7, f8, f9, f10, f11, f12, f13, f14, f15, f16))
    (Href : ∀ m, m < 8 → 0 + k = nI m → (a7 m < LO ∨ ¬ a7 m ≤ HI) → ∀ mv' f8 f9 f10 f11 f12 f13 f14 f15 f16, f8 0 = NE → post 2 (s, 2, nI 0, 0 + 1, 1, mv', a1, a2, a3, a4, a5, a6, a7, f8, f9, f10, f11, f12, f13, f14, f15, f16))
    (Hdone : ∀ m, m < 8 → 0 + k = nI m → ¬ a7 m < LO → a7 m ≤ HI → ∀ mv' f8 f9 f10 f11 f12 f13 f14 f15 f16, f8 0 = a7 m → post 1 (s, 1, -1, 0 + 1, 1, mv', a1, a2, a3, a4, a5, a6, a7, f8, f9, f10, f11, f12, f13, f14, f15, f16)) : wpX_run post (s, e, p, c, kn, mv, a1, a2, a3, a4, a5, a6, a7, a8, a9, a10, a11, a12, a13, a14, a15, a16) := by
  have l1 : a1 1 = -100 := e1 1 (by omega) (by omega)
  have h1 : a2 1 = 100 := e2 1 (by omega) (by omega)
  have P : rg_Prog 1 a3 a4 a5 a6 (rg_v NE 0) := by
    intro i hi
    have q : i = 0 := by omega
    subst q
    exact Or.inr ⟨p3, p4, p5, rfl⟩
  refine rg_run (n := 1) (v := rg_v NE 0) hk (by omega) hs (rg_hz e10 e1 hLO) (rg_hv e20 e2 hNE) l1 h1 P (fun i _ => h13 i) (fun i _ => h14 i) (fun mv' f8 f9 f10 f11 f12 f13 f14 f15 f16 e8 J => ⟨2, ?_⟩)
  have j2 := J.2 0 (by omega) p3
  rw [p6] at j2
  refine rg_37_load (fu := 0) (i := 0) (n := 1) (w := 0) (k := k) (by omega) (by omega) hs (by decide) p3 p4 p5 p6 (e8 1 (by omega)) j2.1 j2.2 h7 (fun g => ?_) (fun m hm em g => ?_) (fun m hm em g1 g2 => ?_)
  · exact Hout g _ _ _ _ _ _ _ _ _ _ (e8 0 (by omega))
  · rw [e10, e20] at g
    exact Href m hm em g _ _ _ _ _ _ _ _ _ _ (e8 0 (by omega))
  · rw [e10] at g1
    rw [e20] at g2
    exact Hdone m hm em g1 g2 _ _ _ _ _ _ _ _ _ _ pk_us
theorem rg_runcl {post : Int32 → St2 → Prop} (hk : kn = 0) (hs : s = nI 2) (e10 : a1 0 = LO) (e20 : a2 0 = HI) (e1 : ∀ x, x < 4 → ¬ x = 0 → a1 x = -100) (e2 : ∀ x, x < 4 → ¬ x = 0 → a2 x = 100) (hLO : LO ≤ 0) (hNE : NE = if 0 ≤ HI then 0 else HI)
    (h13 : ∀ i, a13 i = 0) (h14 : ∀ i, a14 i = 0) (p3 : a3 0 = 0) (p4 : a4 0 = nI 1) (p6 : a6 0 = w) (w1 : ¬ w < -100) (w2 : w ≤ 100) (q3 : a3 1 = 4) (q4 : a4 1 = nI 0) (q5 : a5 1 = nI 1) (q6 : a6 1 = k) (h7 : ∀ j, j < 8 → ¬ a7 j < -100 ∧ a7 j ≤ 100)
    (Hout : (w + k < 0 ∨ ¬ w + k ≤ 7) → ∀ mv' f8 f9 f10 f11 f12 f13 f14 f15 f16, f8 0 = NE → post 3 (s, 3, nI 1, 0 + 1 + 1, 1, mv', a1, a2, a3, a4, a5, a6, a7, f8, f9, f10, f11, f12, f13, f14, f15, f16))
    (Href : ∀ m, m < 8 → w + k = nI m → (a7 m < LO ∨ ¬ a7 m ≤ HI) → ∀ mv' f8 f9 f10 f11 f12 f13 f14 f15 f16, f8 0 = NE → post 2 (s, 2, nI 1, 0 + 1 + 1, 1, mv', a1, a2, a3, a4, a5, a6, a7, f8, f9, f10, f11, f12, f13, f14, f15, f16))
    (Hdone : ∀ m, m < 8 → w + k = nI m → ¬ a7 m < LO → a7 m ≤ HI → ∀ mv' f8 f9 f10 f11 f12 f13 f14 f15 f16, f8 0 = a7 m → post 1 (s, 1, -1, 0 + 1 + 1, 1, mv', a1, a2, a3, a4, a5, a6, a7, f8, f9, f10, f11, f12, f13, f14, f15, f16)) : wpX_run post (s, e, p, c, kn, mv, a1, a2, a3, a4, a5, a6, a7, a8, a9, a10, a11, a12, a13, a14, a15, a16) := by
  have l1 : a1 1 = -100 := e1 1 (by omega) (by omega)
  have h1 : a2 1 = 100 := e2 1 (by omega) (by omega)
  have P : rg_Prog 2 a3 a4 a5 a6 (rg_v NE w) := by
    intro i hi
    rcases (show i = 0 ∨ i = 1 by omega) with q | q
    · subst q
      refine Or.inl ⟨p3, p4, by rw [p6]; exact w1, by rw [p6]; exact w2, fun _ x hx => ?_⟩
      rw [p6]
      unfold rg_v
      by_cases g : x = 1
      · rw [if_pos g, if_pos g, if_neg (by omega)]
      · rw [if_neg g, if_neg g, if_neg g]
    · subst q
      exact Or.inr ⟨q3, q4, q5, rfl⟩
  refine rg_run (n := 2) (v := rg_v NE w) hk (by omega) hs (rg_hz e10 e1 hLO) (rg_hv e20 e2 hNE) l1 h1 P (fun i _ => h13 i) (fun i _ => h14 i) (fun mv' f8 f9 f10 f11 f12 f13 f14 f15 f16 e8 J => ⟨3, ?_⟩)
  have j2 := J.2 1 (by omega) q3
  rw [q6] at j2
  refine rg_37_const (fu := 2) (i := 0) (n := 2) (by omega) (by omega) hs (by decide) p3 p4 p6 (by rw [l1]; exact w1) (by rw [h1]; exact w2) ?_
  refine rg_37_load (fu := 0) (i := 1) (n := 2) (w := w) (k := k) (by omega) (by omega) hs (by decide) q3 q4 q5 q6 pk_us j2.1 j2.2 h7 (fun g => ?_) (fun m hm em g => ?_) (fun m hm em g1 g2 => ?_)
  · exact Hout g _ _ _ _ _ _ _ _ _ _ (by rw [pk_un (by omega)]; exact e8 0 (by omega))
  · rw [e10, e20] at g
    exact Href m hm em g _ _ _ _ _ _ _ _ _ _ (by rw [pk_un (by omega)]; exact e8 0 (by omega))
  · rw [e10] at g1
    rw [e20] at g2
    exact Hdone m hm em g1 g2 _ _ _ _ _ _ _ _ _ _ pk_us
end
end
section
/-! making the object and filling it -/
theorem rg_init {post : St2 → Prop} (H : ∀ l h : Nat → Int32, (∀ x, x < 4 → l x = -100) → (∀ x, x < 4 → h x = 100) → post (0, 0, -1, 0, 0, 0, l, h, fun _ => 0, fun _ => 0, fun _ => 0, fun _ => 0, fun _ => 0, fun _ => 0, fun _ => 0, fun _ => 0, fun _ => 0, fun _ => 0, fun _ => 0, fun _ => 0, fun _ => 0, fun _ => 0)) :
    wpX_init post 16 262 (0, 0, 0, 0, 0, 0) := by
  unfold wpX_init
  dsimp only
  refine ⟨by omega, by omega, by omega, by omega, by omega, by omega, by omega, by omega, by omega, by omega, by omega, by omega, by omega, by omega, by omega, by omega, by omega, by omega, by omega, by omega, by omega, by omega, by omega, by omega, by omega, by omega, by omega, by omega, by omega, by omega, by omega, by omega, ?_⟩
  refine pk_loop (fun f k (q : (Nat → Int32) × (Nat → Int32)) => wX_init_129 post 16 262 16 262 0 0 0 0 0 0 f (nI k) q.1 q.2 (fun _ => 0) (fun _ => 0) (fun _ => 0) (fun _ => 0) (fun _ => 0) (fun _ => 0) (fun _ => 0) (fun _ => 0) (fun _ => 0) (fun _ => 0) (fun _ => 0) (fun _ => 0) (fun _ => 0) (fun _ => 0)) (fun k q => (∀ x, x < k → q.1 x = -100) ∧ (∀ x, x < k → q.2 x = 100)) 4 0 (fun _ => 0, fun _ => 0) (by omega) ⟨fun x h => absurd h (by omega), fun x h => absurd h (by omega)⟩ ?_ ?_
  · intro f q h
    exact pk_le 4 4 (fun _ => H q.1 q.2 h.1 h.2) (fun z => absurd z (by omega))
  · intro f k q hk h hw
    have ck : (nI k).toNatClampNeg = k := nI_clamp (by omega)
    refine pk_le 4 k (fun z => absurd z (by omega)) (fun _ => ?_)
    rw [ck]
    exact ⟨pk_in k 4 hk, nm_e ⟨pk_in k 4 hk, nm_e (nm_r (nI_1 k) (hw (_, _) ⟨rg_fill (f := fun _ => -100) h.1 rfl, rg_fill (f := fun _ => 100) h.2 rfl⟩))⟩⟩
section
variable {s e p c kn mv : Int32} {a1 a2 a3 a4 a5 a6 a7 a8 a9 a10 a11 a12 a13 a14 a15 a16 : Nat → Int32}
theorem rg_bad {post : Int32 → Prop} {x : Nat} (hx : x < 4) (H : post 0) : wpX_bad post (s, e, p, c, kn, mv, a1, a2, a3, a4, a5, a6, a7, a8, a9, a10, a11, a12, a13, a14, a15, a16) (nI x) :=
  br_f (nI_pos (by omega)) (br_t (nI_le (b := 3) (by omega) (by omega)) H)
theorem rg_badNumber {post : Int32 → Prop} {k : Int32} (h0 : (¬ k < -100 ∧ k ≤ 100) → post 0) (h1 : ¬ (¬ k < -100 ∧ k ≤ 100) → post 1) : wpX_badNumber post (s, e, p, c, kn, mv, a1, a2, a3, a4, a5, a6, a7, a8, a9, a10, a11, a12, a13, a14, a15, a16) k :=
  br_c (fun g => h1 (fun q => q.1 g)) (fun g => br_c (fun g2 => h0 ⟨g, g2⟩) (fun g2 => h1 (fun q => g2 q.2)))
theorem rg_setCell {post : Int32 → St2 → Prop} {x0 x1 C : Int32} (hC : C = if x0 < 0 then 0 else if 7 < x0 then 0 else if x1 < -100 then 0 else if 100 < x1 then 0 else 1) (h7 : ∀ j, a7 j = 0)
    (H : ∀ r f7, (∀ j, j < 8 → f7 j = if C = 0 then 0 else if nI j = x0 then x1 else 0) → (∀ j, j < 8 → ¬ f7 j < -100 ∧ f7 j ≤ 100) → post r (s, e, p, c, kn, mv, a1, a2, a3, a4, a5, a6, f7, a8, a9, a10, a11, a12, a13, a14, a15, a16)) : wpX_setCell post (s, e, p, c, kn, mv, a1, a2, a3, a4, a5, a6, a7, a8, a9, a10, a11, a12, a13, a14, a15, a16) x0 x1 := by
  have Z : C = 0 → ∀ r, post r (s, e, p, c, kn, mv, a1, a2, a3, a4, a5, a6, a7, a8, a9, a10, a11, a12, a13, a14, a15, a16) := fun hc r => H r a7 (fun j _ => by rw [h7 j, if_pos hc]) (fun j _ => by rw [h7 j]; decide)
  unfold wpX_setCell
  dsimp only
  refine br_c (fun g => Z (by rw [hC, if_pos g]) _) (fun g => br_c (fun g2 => Z (by rw [hC, if_neg g, if_pos g2]) _) (fun g2 => rg_badNumber (fun b => br_t rfl ?_) (fun b => br_f (by decide) (Z ?_ _))))
  · obtain ⟨m, hm, em⟩ := nI_of2 (n := 7) (by decide) g (rg_le_of_nlt g2)
    have hC1 : C = 1 := by rw [hC, if_neg g, if_neg g2, if_neg b.1, if_neg (rg_nlt_of_le b.2)]
    have d10 : ¬ (1 : Int32) = 0 := by decide
    have cm : (nI m).toNatClampNeg = m := nI_clamp (by omega)
    rw [em, cm]
    refine ⟨pk_in m 8 (by omega), nm_e ⟨pk_in m 8 (by omega), nm_e (H _ _ (fun j hj => ?_) (fun j hj => ?_))⟩⟩
    · rw [hC1, if_neg d10, em]
      by_cases q : j = m
      · rw [q, pk_us, if_pos rfl]
      · rw [pk_un q, h7, if_neg (fun y => q ((nI_eq (by omega) (by omega)).mp y))]
    · by_cases q : j = m
      · rw [q, pk_us]
        exact b
      · rw [pk_un q, h7]
        decide
  · rw [hC, if_neg g, if_neg g2]
    by_cases q : x1 < -100
    · rw [if_pos q]
    · rw [if_neg q, if_pos (rg_lt_of_nle (fun y => b ⟨q, y⟩))]
theorem rg_range {post : Int32 → St2 → Prop} {x4 S LO HI : Int32} (hS : S = if x4 < -5 then 0 else if 100 < x4 then 0 else 1) (hLO : LO = if S = 0 then -100 else -5) (hHI : HI = if S = 0 then 100 else x4)
    (hk : kn = 0) (h1 : ∀ x, x < 4 → a1 x = -100) (h2 : ∀ x, x < 4 → a2 x = 100)
    (H : ∀ r f1 f2, f1 0 = LO → f2 0 = HI → (∀ x, x < 4 → ¬ x = 0 → f1 x = -100) → (∀ x, x < 4 → ¬ x = 0 → f2 x = 100) → post r (s, e, p, c, 0, mv, f1, f2, a3, a4, a5, a6, a7, a8, a9, a10, a11, a12, a13, a14, a15, a16)) : wpX_range post (s, e, p, c, kn, mv, a1, a2, a3, a4, a5, a6, a7, a8, a9, a10, a11, a12, a13, a14, a15, a16) 0 (-5) x4 := by
  subst hk
  have d10 : ¬ (1 : Int32) = 0 := by decide
  have Z : S = 0 → ∀ r, post r (s, e, p, c, 0, mv, a1, a2, a3, a4, a5, a6, a7, a8, a9, a10, a11, a12, a13, a14, a15, a16) := fun hc r => H r a1 a2 (by rw [h1 0 (by omega), hLO, if_pos hc]) (by rw [h2 0 (by omega), hHI, if_pos hc]) (fun x hx _ => h1 x hx) (fun x hx _ => h2 x hx)
  unfold wpX_range
  dsimp only
  refine rg_bad (x := 0) (by omega) (br_t rfl (rg_badNumber (fun _ => br_t rfl (rg_badNumber (fun b => br_t rfl (br_c (fun g => ?_) (fun g => Z ?_ _))) (fun b => br_f (by decide) (Z ?_ _)))) (fun b => absurd ⟨by decide, by decide⟩ b)))
  · have hS1 : S = 1 := by rw [hS, if_neg (rg_nlt_of_le g), if_neg (rg_nlt_of_le b.2)]
    rw [sb_cl0]
    refine ⟨pk_in 0 4 (by omega), nm_e ⟨pk_in 0 4 (by omega), nm_e (H _ _ _ ?_ ?_ (fun x hx q => ?_) (fun x hx q => ?_))⟩⟩
    · rw [pk_us, hLO, hS1, if_neg d10]
    · rw [pk_us, hHI, hS1, if_neg d10]
    · rw [pk_un q]
      exact h1 x hx
    · rw [pk_un q]
      exact h2 x hx
  · rw [hS, if_pos (rg_lt_of_nle g)]
  · rw [hS]
    by_cases q : x4 < -5
    · rw [if_pos q]
    · by_cases q2 : 100 < x4
      · rw [if_neg q, if_pos q2]
      · refine absurd ⟨fun y => q ?_, rg_le_of_nlt q2⟩ b
        rw [Int32.lt_iff_toInt_lt] at y
        rw [Int32.lt_iff_toInt_lt]
        have c1 : (-100 : Int32).toInt = -100 := by decide
        have c2 : (-5 : Int32).toInt = -5 := by decide
        omega
theorem rg_append {post : Int32 → St2 → Prop} {n : Nat} {w x y k : Int32} (hn : n < 14) (hs : s = nI n) (H : post (nI n) (nI (n + 1), e, p, c, 0, mv, a1, a2, upd a3 n w, upd a4 n x, upd a5 n y, upd a6 n k, a7, a8, a9, a10, a11, a12, a13, a14, a15, a16)) : wpX_append post (s, e, p, c, kn, mv, a1, a2, a3, a4, a5, a6, a7, a8, a9, a10, a11, a12, a13, a14, a15, a16) w x y k := by
  subst hs
  have cn : (nI n).toNatClampNeg = n := nI_clamp (by omega)
  unfold wpX_append
  dsimp only
  rw [cn]
  refine br_f (fun g => absurd ((nI_eq (b := 14) (by omega) (by omega)).mp g) (by omega)) ⟨pk_in n 14 hn, nm_e ⟨pk_in n 14 hn, nm_e ⟨pk_in n 14 hn, nm_e ⟨pk_in n 14 hn, nm_e (nm_r (nI_1 n) ?_)⟩⟩⟩⟩
  rw [nI_pred]
  exact H
theorem rg_constant {post : Int32 → St2 → Prop} {n x : Nat} {k : Int32} (hn : n < 14) (hs : s = nI n) (hx : x < 4)
    (H1 : ¬ k < -100 → k ≤ 100 → post (nI n) (nI (n + 1), e, p, c, 0, mv, a1, a2, upd a3 n 0, upd a4 n (nI x), upd a5 n 0, upd a6 n k, a7, a8, a9, a10, a11, a12, a13, a14, a15, a16)) (H0 : ¬ (¬ k < -100 ∧ k ≤ 100) → post (-1) (s, e, p, c, kn, mv, a1, a2, a3, a4, a5, a6, a7, a8, a9, a10, a11, a12, a13, a14, a15, a16)) : wpX_constant post (s, e, p, c, kn, mv, a1, a2, a3, a4, a5, a6, a7, a8, a9, a10, a11, a12, a13, a14, a15, a16) (nI x) k := by
  unfold wpX_constant
  dsimp only
  exact rg_bad hx (br_t rfl (rg_badNumber (fun b => br_t rfl (rg_append hn hs (H1 b.1 b.2))) (fun b => br_f (by decide) (H0 b))))
theorem rg_load {post : Int32 → St2 → Prop} {n x y : Nat} {k : Int32} (hn : n < 14) (hs : s = nI n) (hx : x < 4) (hy : y < 4)
    (H1 : ¬ k < -8 → k ≤ 8 → post (nI n) (nI (n + 1), e, p, c, 0, mv, a1, a2, upd a3 n 4, upd a4 n (nI x), upd a5 n (nI y), upd a6 n k, a7, a8, a9, a10, a11, a12, a13, a14, a15, a16)) (H0 : ¬ (¬ k < -8 ∧ k ≤ 8) → post (-1) (s, e, p, c, kn, mv, a1, a2, a3, a4, a5, a6, a7, a8, a9, a10, a11, a12, a13, a14, a15, a16)) : wpX_load post (s, e, p, c, kn, mv, a1, a2, a3, a4, a5, a6, a7, a8, a9, a10, a11, a12, a13, a14, a15, a16) (nI x) (nI y) k := by
  unfold wpX_load
  dsimp only
  unfold wpX_access
  dsimp only
  exact rg_bad hx (br_t rfl (rg_bad hy (br_t rfl (br_c (fun g => H0 (fun q => q.1 g)) (fun g => br_c (fun g2 => rg_append hn hs (H1 g g2)) (fun g2 => H0 (fun q => g2 q.2)))))))
theorem rg_fin {Q : Int32 → Int32 → Int32 → Prop} (H : Q (a8 0) p c) : wpX_variable (fun r => wpX_place (fun r' => wpX_worked (fun r'' => Q r r' r'') (s, e, p, c, kn, mv, a1, a2, a3, a4, a5, a6, a7, a8, a9, a10, a11, a12, a13, a14, a15, a16)) (s, e, p, c, kn, mv, a1, a2, a3, a4, a5, a6, a7, a8, a9, a10, a11, a12, a13, a14, a15, a16)) (s, e, p, c, kn, mv, a1, a2, a3, a4, a5, a6, a7, a8, a9, a10, a11, a12, a13, a14, a15, a16) 0 := by
  unfold wpX_variable
  dsimp only
  refine rg_bad (x := 0) (by omega) (br_t rfl ⟨pk_in 0 4 (by omega), ?_⟩)
  rw [sb_cl0]
  exact H
end
end
section
/-! the law's words at each end of a run -/
section
variable {post : Int32 → St0 → Prop} {mc ms kc ks : Nat} {x0 x1 x2 x3 x4 x6 x7 x8 x9 x10 x11 C S LO HI NE O AT GO : Int32}
/-- the law's words behind the calls -/
def rg_Tree (post : Int32 → St0 → Prop) (mc ms kc ks : Nat) (x0 x1 x2 x3 x4 x6 x7 x8 x9 x10 x11 : Int32) : Prop :=
    (x0 < 0 → wL_lawOf_102 post mc ms x0 x1 x2 x3 x4 x6 x7 x8 x9 x10 x11 kc ks) ∧ (¬ x0 < 0 → ((7 < x0 → wL_lawOf_102 post mc ms x0 x1 x2 x3 x4 x6 x7 x8 x9 x10 x11 kc ks) ∧ (¬ 7 < x0 → ((x1 < -100 → wL_lawOf_102 post mc ms x0 x1 x2 x3 x4 x6 x7 x8 x9 x10 x11 kc ks) ∧ (¬ x1 < -100 → ((100 < x1 → wL_lawOf_102 post mc ms x0 x1 x2 x3 x4 x6 x7 x8 x9 x10 x11 kc ks) ∧ (¬ 100 < x1 → wL_lawOf_103 post mc ms x0 x1 x2 x3 x4 x6 x7 x8 x9 x10 x11 1 kc ks)))))))
theorem rg_d10 : ¬ (1 : Int32) = 0 := by decide
theorem rg_T0 (hT : ¬ (¬ x3 < -8 ∧ x3 ≤ 8)) : (0 : Int32) = if x3 < -8 then 0 else if 8 < x3 then 0 else 1 := by
  by_cases g : x3 < -8
  · rw [if_pos g]
  · rw [if_neg g, if_pos (rg_lt_of_nle (fun y => hT ⟨g, y⟩))]
theorem rg_T1 (h1 : ¬ x3 < -8) (h2 : x3 ≤ 8) : (1 : Int32) = if x3 < -8 then 0 else if 8 < x3 then 0 else 1 := by
  rw [if_neg h1, if_neg (rg_nlt_of_le h2)]
theorem rg_O0 (hT : ¬ (¬ x2 < -100 ∧ x2 ≤ 100)) : (0 : Int32) = if x2 < -100 then 0 else if 100 < x2 then 0 else 1 := by
  by_cases g : x2 < -100
  · rw [if_pos g]
  · rw [if_neg g, if_pos (rg_lt_of_nle (fun y => hT ⟨g, y⟩))]
theorem rg_O1 (h1 : ¬ x2 < -100) (h2 : x2 ≤ 100) : (1 : Int32) = if x2 < -100 then 0 else if 100 < x2 then 0 else 1 := by
  rw [if_neg h1, if_neg (rg_nlt_of_le h2)]
theorem rg_law_n
    (hC : C = if x0 < 0 then 0 else if 7 < x0 then 0 else if x1 < -100 then 0 else if 100 < x1 then 0 else 1)
    (hS : S = if x4 < -5 then 0 else if 100 < x4 then 0 else 1)
    (hLO : LO = if S = 0 then -100 else -5) (hHI : HI = if S = 0 then 100 else x4) (hNE : NE = if 0 ≤ HI then 0 else HI)
    (hO : O = if x2 < -100 then 0 else if 100 < x2 then 0 else 1) (hT : ¬ (¬ x3 < -8 ∧ x3 ≤ 8))
    (h6 : x6 = if O = 0 then -1 else 0) (h7 : x7 = -1) (h8 : x8 = 1) (h9 : x9 = NE) (h10 : x10 = -1) (h11 : x11 = if O = 0 then 0 else 1) (H : post 1 ()) :
    rg_Tree post mc ms kc ks x0 x1 x2 x3 x4 x6 x7 x8 x9 x10 x11 :=
  rg_law (T := 0) (OU := 0) (RE := 0) (DO := 0) hC hS hLO hHI hNE hO (rg_T0 hT) rfl rfl (if_pos rfl).symm rfl (if_pos rfl).symm (if_pos rfl).symm
    h6 (by rw [if_pos rfl]; exact h7) (by rw [if_pos rfl, if_pos rfl]; exact h8) (by rw [if_pos rfl]; exact h9) (by rw [if_pos rfl, if_pos rfl]; exact h10) (by rw [h11]; simp) H
theorem rg_law_o
    (hC : C = if x0 < 0 then 0 else if 7 < x0 then 0 else if x1 < -100 then 0 else if 100 < x1 then 0 else 1)
    (hS : S = if x4 < -5 then 0 else if 100 < x4 then 0 else 1)
    (hLO : LO = if S = 0 then -100 else -5) (hHI : HI = if S = 0 then 100 else x4) (hNE : NE = if 0 ≤ HI then 0 else HI)
    (hO : O = if x2 < -100 then 0 else if 100 < x2 then 0 else 1) (t1 : ¬ x3 < -8) (t2 : x3 ≤ 8) (hAT : AT = (if O = 0 then 0 else x2) + x3) (h : AT < 0 ∨ ¬ AT ≤ 7)
    (h6 : x6 = if O = 0 then -1 else 0) (h7 : x7 = if O = 0 then 0 else 1) (h8 : x8 = 3) (h9 : x9 = NE) (h10 : x10 = if O = 0 then 0 else 1) (h11 : x11 = (if O = 0 then 0 else 1) + 1) (H : post 1 ()) :
    rg_Tree post mc ms kc ks x0 x1 x2 x3 x4 x6 x7 x8 x9 x10 x11 := by
  have hOU : (1 : Int32) = if (1 : Int32) = 0 then 0 else if AT < 0 then 1 else if AT ≤ 7 then 0 else 1 := by
    rw [if_neg rg_d10]
    by_cases g : AT < 0
    · rw [if_pos g]
    · rw [if_neg g, if_neg (h.resolve_left g)]
  have hM : (if O = 0 then 0 else 1) = ((if O = 0 then 0 else 1) + (1 : Int32)) - 1 := by
    by_cases g : O = 0
    · rw [if_pos g]; decide
    · rw [if_neg g]; decide
  exact rg_law (T := 1) (AT := AT) (OU := 1) (RE := 0) (DO := 0) (N := (if O = 0 then 0 else 1) + 1) hC hS hLO hHI hNE hO (rg_T1 t1 t2) (by rw [if_neg rg_d10]) (by rw [if_neg rg_d10]; exact hAT) hOU rfl
    (by rw [if_neg rg_d10, if_neg rg_d10]) (by rw [if_neg rg_d10, if_neg rg_d10]) h6 (by rw [if_neg rg_d10, ← hM]; exact h7) (by rw [if_neg rg_d10]; exact h8) (by rw [if_pos rfl]; exact h9) (by rw [if_pos rfl, if_neg rg_d10, ← hM]; exact h10) h11 H
theorem rg_law_r
    (hC : C = if x0 < 0 then 0 else if 7 < x0 then 0 else if x1 < -100 then 0 else if 100 < x1 then 0 else 1)
    (hS : S = if x4 < -5 then 0 else if 100 < x4 then 0 else 1)
    (hLO : LO = if S = 0 then -100 else -5) (hHI : HI = if S = 0 then 100 else x4) (hNE : NE = if 0 ≤ HI then 0 else HI)
    (hO : O = if x2 < -100 then 0 else if 100 < x2 then 0 else 1) (t1 : ¬ x3 < -8) (t2 : x3 ≤ 8) (hAT : AT = (if O = 0 then 0 else x2) + x3) (g1 : ¬ AT < 0) (g2 : AT ≤ 7)
    (hGO : GO = if C = 0 then 0 else if AT = x0 then x1 else 0) (h : GO < LO ∨ ¬ GO ≤ HI)
    (h6 : x6 = if O = 0 then -1 else 0) (h7 : x7 = if O = 0 then 0 else 1) (h8 : x8 = 2) (h9 : x9 = NE) (h10 : x10 = if O = 0 then 0 else 1) (h11 : x11 = (if O = 0 then 0 else 1) + 1) (H : post 1 ()) :
    rg_Tree post mc ms kc ks x0 x1 x2 x3 x4 x6 x7 x8 x9 x10 x11 := by
  have hOU : (0 : Int32) = if (1 : Int32) = 0 then 0 else if AT < 0 then 1 else if AT ≤ 7 then 0 else 1 := by
    rw [if_neg rg_d10, if_neg g1, if_pos g2]
  have hRE : (1 : Int32) = if (1 : Int32) = 0 then 0 else if (0 : Int32) = 0 then (if GO < LO then 1 else if GO ≤ HI then 0 else 1) else 0 := by
    rw [if_neg rg_d10, if_pos rfl]
    by_cases g : GO < LO
    · rw [if_pos g]
    · rw [if_neg g, if_neg (h.resolve_left g)]
  have hM : (if O = 0 then 0 else 1) = ((if O = 0 then 0 else 1) + (1 : Int32)) - 1 := by
    by_cases g : O = 0
    · rw [if_pos g]; decide
    · rw [if_neg g]; decide
  exact rg_law (T := 1) (AT := AT) (OU := 0) (RE := 1) (DO := 0) (N := (if O = 0 then 0 else 1) + 1) hC hS hLO hHI hNE hO (rg_T1 t1 t2) (by rw [if_neg rg_d10]) (by rw [if_neg rg_d10]; exact hAT) hOU hGO
    hRE (by rw [if_neg rg_d10, if_pos rfl, if_neg rg_d10]) h6 (by rw [if_neg rg_d10, ← hM]; exact h7) (by rw [if_pos rfl, if_neg rg_d10]; exact h8) (by rw [if_pos rfl]; exact h9) (by rw [if_pos rfl, if_neg rg_d10, ← hM]; exact h10) h11 H
theorem rg_law_d
    (hC : C = if x0 < 0 then 0 else if 7 < x0 then 0 else if x1 < -100 then 0 else if 100 < x1 then 0 else 1)
    (hS : S = if x4 < -5 then 0 else if 100 < x4 then 0 else 1)
    (hLO : LO = if S = 0 then -100 else -5) (hHI : HI = if S = 0 then 100 else x4) (hNE : NE = if 0 ≤ HI then 0 else HI)
    (hO : O = if x2 < -100 then 0 else if 100 < x2 then 0 else 1) (t1 : ¬ x3 < -8) (t2 : x3 ≤ 8) (hAT : AT = (if O = 0 then 0 else x2) + x3) (g1 : ¬ AT < 0) (g2 : AT ≤ 7)
    (hGO : GO = if C = 0 then 0 else if AT = x0 then x1 else 0) (h1 : ¬ GO < LO) (h2 : GO ≤ HI)
    (h6 : x6 = if O = 0 then -1 else 0) (h7 : x7 = if O = 0 then 0 else 1) (h8 : x8 = 1) (h9 : x9 = GO) (h10 : x10 = -1) (h11 : x11 = (if O = 0 then 0 else 1) + 1) (H : post 1 ()) :
    rg_Tree post mc ms kc ks x0 x1 x2 x3 x4 x6 x7 x8 x9 x10 x11 := by
  have hOU : (0 : Int32) = if (1 : Int32) = 0 then 0 else if AT < 0 then 1 else if AT ≤ 7 then 0 else 1 := by
    rw [if_neg rg_d10, if_neg g1, if_pos g2]
  have hRE : (0 : Int32) = if (1 : Int32) = 0 then 0 else if (0 : Int32) = 0 then (if GO < LO then 1 else if GO ≤ HI then 0 else 1) else 0 := by
    rw [if_neg rg_d10, if_pos rfl, if_neg h1, if_pos h2]
  have hM : (if O = 0 then 0 else 1) = ((if O = 0 then 0 else 1) + (1 : Int32)) - 1 := by
    by_cases g : O = 0
    · rw [if_pos g]; decide
    · rw [if_neg g]; decide
  exact rg_law (T := 1) (AT := AT) (OU := 0) (RE := 0) (DO := 1) (N := (if O = 0 then 0 else 1) + 1) hC hS hLO hHI hNE hO (rg_T1 t1 t2) (by rw [if_neg rg_d10]) (by rw [if_neg rg_d10]; exact hAT) hOU hGO
    hRE (by rw [if_neg rg_d10, if_pos rfl, if_pos rfl]) h6 (by rw [if_neg rg_d10, ← hM]; exact h7) (by rw [if_pos rfl, if_pos rfl]; exact h8) (by rw [if_neg rg_d10]; exact h9) (by rw [if_neg rg_d10]; exact h10) h11 H
end
end
section
/-! the whole law -/
theorem rg_lawOf (x0 x1 x2 x3 x4 : Int32) : wpL_lawOf (fun r _ => r = 1) 17 284 () x0 x1 x2 x3 x4 := by
  obtain ⟨C, hC⟩ : ∃ C : Int32, C = if x0 < 0 then 0 else if 7 < x0 then 0 else if x1 < -100 then 0 else if 100 < x1 then 0 else 1 := ⟨_, rfl⟩
  obtain ⟨S, hS⟩ : ∃ S : Int32, S = if x4 < -5 then 0 else if 100 < x4 then 0 else 1 := ⟨_, rfl⟩
  obtain ⟨LO, hLO⟩ : ∃ LO : Int32, LO = if S = 0 then -100 else -5 := ⟨_, rfl⟩
  obtain ⟨HI, hHI⟩ : ∃ HI : Int32, HI = if S = 0 then 100 else x4 := ⟨_, rfl⟩
  obtain ⟨NE, hNE⟩ : ∃ NE : Int32, NE = if 0 ≤ HI then 0 else HI := ⟨_, rfl⟩
  have hLO0 : LO ≤ 0 := by
    rw [hLO]
    by_cases g : S = 0
    · rw [if_pos g]; decide
    · rw [if_neg g]; decide
  have hm : ∀ m, m < 8 → ¬ nI m < 0 ∧ nI m ≤ 7 := fun m hm => ⟨nI_pos (by omega), nI_le (b := 7) (by omega) (by omega)⟩
  unfold wpL_lawOf
  refine ⟨by omega, by omega, 16, 262, by omega, by omega, ?_⟩
  refine rg_init (fun l h hl hh => ?_)
  dsimp only
  refine rg_setCell hC (fun _ => rfl) (fun r f7 e7 b7 => ?_)
  dsimp only
  refine rg_range hS hLO hHI rfl hl hh (fun r f1 f2 e10 e20 e1 e2 => ?_)
  dsimp only
  refine rg_constant (n := 0) (x := 1) (by omega) rfl (by omega) (fun c1 c2 => ?_) (fun c0 => ?_)
  · dsimp only
    refine rg_load (n := 1) (x := 0) (y := 1) (by omega) rfl (by omega) (by omega) (fun d1 d2 => ?_) (fun d0 => ?_)
    · dsimp only
      refine rg_runcl (w := x2) (k := x3) rfl rfl e10 e20 e1 e2 hLO0 hNE (fun _ => rfl) (fun _ => rfl) rfl rfl rfl c1 c2 rfl rfl rfl rfl b7 (fun g mv' f8 f9 f10 f11 f12 f13 f14 f15 f16 e8 => ?_) (fun m hm8 em g mv' f8 f9 f10 f11 f12 f13 f14 f15 f16 e8 => ?_) (fun m hm8 em g g' mv' f8 f9 f10 f11 f12 f13 f14 f15 f16 e8 => ?_)
      · exact rg_fin (rg_law_o (AT := x2 + x3) hC hS hLO hHI hNE (rg_O1 c1 c2) d1 d2 (by rw [if_neg rg_d10]) g rfl rfl rfl e8 rfl rfl rfl)
      · rw [e7 m hm8] at g
        exact rg_fin (rg_law_r (AT := nI m) hC hS hLO hHI hNE (rg_O1 c1 c2) d1 d2 (by rw [if_neg rg_d10, em]) (hm m hm8).1 (hm m hm8).2 rfl g rfl rfl rfl e8 rfl rfl rfl)
      · rw [e7 m hm8] at g g' e8
        exact rg_fin (rg_law_d (AT := nI m) hC hS hLO hHI hNE (rg_O1 c1 c2) d1 d2 (by rw [if_neg rg_d10, em]) (hm m hm8).1 (hm m hm8).2 rfl g g' rfl rfl rfl e8 rfl rfl rfl)
    · dsimp only
      refine rg_runc (w := x2) rfl rfl e10 e20 e1 e2 hLO0 hNE (fun _ => rfl) (fun _ => rfl) rfl rfl rfl c1 c2 (fun mv' f8 f9 f10 f11 f12 f13 f14 f15 f16 e8 => ?_)
      exact rg_fin (rg_law_n hC hS hLO hHI hNE (rg_O1 c1 c2) d0 rfl rfl rfl e8 rfl rfl rfl)
  · dsimp only
    refine rg_load (n := 0) (x := 0) (y := 1) (by omega) rfl (by omega) (by omega) (fun d1 d2 => ?_) (fun d0 => ?_)
    · dsimp only
      refine rg_runl (k := x3) rfl rfl e10 e20 e1 e2 hLO0 hNE (fun _ => rfl) (fun _ => rfl) rfl rfl rfl rfl b7 (fun g mv' f8 f9 f10 f11 f12 f13 f14 f15 f16 e8 => ?_) (fun m hm8 em g mv' f8 f9 f10 f11 f12 f13 f14 f15 f16 e8 => ?_) (fun m hm8 em g g' mv' f8 f9 f10 f11 f12 f13 f14 f15 f16 e8 => ?_)
      · exact rg_fin (rg_law_o (AT := 0 + x3) hC hS hLO hHI hNE (rg_O0 c0) d1 d2 (by rw [if_pos rfl]) g rfl rfl rfl e8 rfl rfl rfl)
      · rw [e7 m hm8] at g
        exact rg_fin (rg_law_r (AT := nI m) hC hS hLO hHI hNE (rg_O0 c0) d1 d2 (by rw [if_pos rfl, em]) (hm m hm8).1 (hm m hm8).2 rfl g rfl rfl rfl e8 rfl rfl rfl)
      · rw [e7 m hm8] at g g' e8
        exact rg_fin (rg_law_d (AT := nI m) hC hS hLO hHI hNE (rg_O0 c0) d1 d2 (by rw [if_pos rfl, em]) (hm m hm8).1 (hm m hm8).2 rfl g g' rfl rfl rfl e8 rfl rfl rfl)
    · dsimp only
      refine rg_run0 rfl rfl e10 e20 e1 e2 hLO0 hNE (fun mv' f8 f9 f10 f11 f12 f13 f14 f15 f16 e8 => ?_)
      exact rg_fin (rg_law_n hC hS hLO hHI hNE (rg_O0 c0) d0 rfl rfl rfl e8 rfl rfl rfl)
theorem rg_cellAt {post : Int32 → Prop} {L j : Nat} {xs : Nat → Int32} (hL : L ≤ 5) (hj : j ≤ 4) (H : ∀ y, post y) : wpL_cellAt post L xs () (nI j) :=
  pk_le L j (fun _ => H 0) (fun z => ⟨pk_in j L z, H _⟩)
theorem i_vc (xs : Nat → Int32) (L : Nat) (hL : L ≤ 5) : wpL_law (fun r => r = 1) L xs := by
  unfold wpL_law
  refine rg_cellAt (j := 0) hL (by omega) (fun x0 => ?_)
  refine rg_cellAt (j := 1) hL (by omega) (fun x1 => ?_)
  refine rg_cellAt (j := 2) hL (by omega) (fun x2 => ?_)
  refine rg_cellAt (j := 3) hL (by omega) (fun x3 => ?_)
  refine rg_cellAt (j := 4) hL (by omega) (fun x4 => ?_)
  exact ⟨17, 284, by omega, by omega, rg_lawOf x0 x1 x2 x3 x4⟩
end
