section
/-- the height of the widest node that begins at day T and ends ahead of day E: from height h on, in n tries -/
def bb_wd (T E : Nat) : Nat → Nat → Nat
  | 0, h => h
  | n + 1, h => if (T / 2 ^ h) % 2 = 0 ∧ T + 2 * 2 ^ h ≤ E then bb_wd T E n (h + 1) else h
/-- a walk that stands at day T reaches day E within k steps -/
def bb_dn (E : Nat) : Nat → Nat → Bool
  | 0, T => decide (E ≤ T)
  | k + 1, T => decide (E ≤ T) || bb_dn E k (T + 2 ^ bb_wd T E 6 0)
/-- the node k levels above the leaf of day D -/
def bb_nd (D : Nat) : Nat → Nat
  | 0 => 64 + D
  | k + 1 => bb_nd D k / 2
/-- m is one of the nodes 0 .. k levels above the leaf of day D -/
def bb_on (D : Nat) : Nat → Nat → Bool
  | 0, m => m == 64 + D
  | k + 1, m => m == bb_nd D (k + 1) || bb_on D k m
/-- and D is its first day -/
def bb_lf (D : Nat) : Nat → Nat → Bool
  | 0, m => m == 64 + D
  | k + 1, m => (m == bb_nd D (k + 1) && D % 2 ^ (k + 1) == 0) || bb_lf D k m
theorem bb_wdt : ∀ T, T < 48 → ∀ E, E < 49 → T < E → bb_wd T E 6 0 < 6 ∧ T % 2 ^ bb_wd T E 6 0 = 0 ∧ T + 2 ^ bb_wd T E 6 0 ≤ E := by decide +kernel
theorem bb_dn0 : ∀ E, E < 49 → bb_dn E 14 0 = true := by decide +kernel
theorem bb_dn48 : ∀ T, T < 48 → bb_dn 48 14 T = true := by decide +kernel
theorem bb_bit : ∀ T, T < 48 → ∀ h, h < 6 → (((nI T >>> (nI h &&& 31)) &&& 1) = 0 ↔ (T / 2 ^ h) % 2 = 0) := by decide +kernel
theorem bb_top : ∀ T, T < 48 → ∀ h, h < 6 → ((nI T + ((2 : Int32) <<< (nI h &&& 31))) - 1).toInt = ((T + 2 * 2 ^ h : Nat) : Int) - 1 := by decide +kernel
theorem bb_nod : ∀ T, T < 48 → ∀ h, h < 6 → (64 + nI T) >>> (nI h &&& 31) = nI ((64 + T) / 2 ^ h) := by decide +kernel
theorem bb_adv : ∀ T, T < 48 → ∀ h, h < 6 → nI T + ((1 : Int32) <<< (nI h &&& 31)) = nI (T + 2 ^ h) := by decide +kernel
theorem bb_ont : ∀ h, h < 6 → ∀ T, T < 48 → T % 2 ^ h = 0 → ∀ D, D < 48 → bb_on D 6 ((64 + T) / 2 ^ h) = decide (T ≤ D ∧ D < T + 2 ^ h) := by decide +kernel
theorem bb_lft : ∀ h, h < 6 → ∀ T, T < 48 → T % 2 ^ h = 0 → ∀ D, D < 48 → bb_lf D 6 ((64 + T) / 2 ^ h) = decide (T = D) := by decide +kernel
theorem bb_ndt : ∀ D, D < 48 → ∀ k, k < 7 → bb_nd D k < 128 ∧ (0 < k → bb_nd D k < 64) := by decide +kernel
theorem bb_up : ∀ D, D < 48 → ∀ k, k < 6 →
    (bb_on D k (2 * bb_nd D (k + 1)) = true ∧ bb_on D k (2 * bb_nd D (k + 1) + 1) = false ∧ bb_lf D k (2 * bb_nd D (k + 1) + 1) = false ∧ bb_lf D (k + 1) (bb_nd D (k + 1)) = bb_lf D k (2 * bb_nd D (k + 1))) ∨
    (bb_on D k (2 * bb_nd D (k + 1)) = false ∧ bb_lf D k (2 * bb_nd D (k + 1)) = false ∧ bb_on D k (2 * bb_nd D (k + 1) + 1) = true ∧ bb_lf D (k + 1) (bb_nd D (k + 1)) = false) := by decide +kernel
/-- the tree of account A holds X at day D, the nodes up to level k worked out -/
def bb_tk (A D : Nat) (X : Int32) (k : Nat) (a6 a7 : Nat → Int32) : Prop := ∀ m, m < 128 → a6 (128 * A + m) = (if bb_on D k m then X else 0) ∧ a7 (128 * A + m) = (if bb_lf D k m then X else 0)
theorem bb_tk0 {A D k : Nat} {a6 a7 : Nat → Int32} (h : ∀ m, m < 128 → a6 (128 * A + m) = 0 ∧ a7 (128 * A + m) = 0) : bb_tk A D 0 k a6 a7 := by
  intro m hm
  obtain ⟨h1, h2⟩ := h m hm
  rw [h1, h2]
  constructor <;> split <;> rfl
/-- the leaf -/
theorem bb_leaf {A D : Nat} {X x y : Int32} {a6 a7 : Nat → Int32} (h : ∀ m, m < 128 → a6 (128 * A + m) = 0 ∧ a7 (128 * A + m) = 0) (hx : x = X) (hy : y = X) : bb_tk A D X 0 (upd a6 (128 * A + (64 + D)) x) (upd a7 (128 * A + (64 + D)) y) := by
  intro m hm
  subst hx hy
  by_cases e : m = 64 + D
  · subst e
    rw [pk_us, pk_us]
    constructor <;> simp [bb_on, bb_lf]
  · rw [pk_un (by omega), pk_un (by omega), (h m hm).1, (h m hm).2]
    constructor <;> simp [bb_on, bb_lf, e]
/-- one level up -/
theorem bb_step {A D k : Nat} {X z : Int32} {a6 a7 : Nat → Int32} (hD : D < 48) (hk : k < 6) (hX : 0 ≤ X) (h : bb_tk A D X k a6 a7)
    (hz : (a6 (128 * A + 2 * bb_nd D (k + 1)) + a7 (128 * A + 2 * bb_nd D (k + 1) + 1) ≤ a7 (128 * A + 2 * bb_nd D (k + 1)) ∧ z = a6 (128 * A + 2 * bb_nd D (k + 1)) + a7 (128 * A + 2 * bb_nd D (k + 1) + 1)) ∨ (¬ a6 (128 * A + 2 * bb_nd D (k + 1)) + a7 (128 * A + 2 * bb_nd D (k + 1) + 1) ≤ a7 (128 * A + 2 * bb_nd D (k + 1)) ∧ z = a7 (128 * A + 2 * bb_nd D (k + 1)))) :
    bb_tk A D X (k + 1) (upd a6 (128 * A + bb_nd D (k + 1)) (a6 (128 * A + 2 * bb_nd D (k + 1)) + a6 (128 * A + 2 * bb_nd D (k + 1) + 1))) (upd a7 (128 * A + bb_nd D (k + 1)) z) := by
  have hn : bb_nd D (k + 1) < 64 := (bb_ndt D hD (k + 1) (by omega)).2 (by omega)
  have u := bb_up D hD k hk
  have l := h (2 * bb_nd D (k + 1)) (by omega)
  have r := h (2 * bb_nd D (k + 1) + 1) (by omega)
  rw [show 128 * A + (2 * bb_nd D (k + 1) + 1) = 128 * A + 2 * bb_nd D (k + 1) + 1 by omega] at r
  have on1 : ∀ m, bb_on D (k + 1) m = (m == bb_nd D (k + 1) || bb_on D k m) := fun m => rfl
  have lf1 : ∀ m, bb_lf D (k + 1) m = ((m == bb_nd D (k + 1) && D % 2 ^ (k + 1) == 0) || bb_lf D k m) := fun m => rfl
  intro m hm
  by_cases e : m = bb_nd D (k + 1)
  · rw [e, pk_us, pk_us]
    rcases u with ⟨u1, u2, u3, u4⟩ | ⟨u1, u2, u3, u4⟩
    · rw [l.1, l.2, r.2, u1, u3] at hz
      rw [l.1, r.1, u1, u2, u4, on1]
      constructor
      · simp
      · rcases hz with ⟨hz, e⟩ | ⟨hz, e⟩
        · rw [e]
          cases hb : bb_lf D k (2 * bb_nd D (k + 1))
          · rw [hb] at hz
            simp at hz ⊢
            exact Int32.le_antisymm hz hX
          · simp
        · exact e
    · rw [l.1, l.2, r.2, u1, u2] at hz
      rw [l.1, r.1, u1, u3, u4, on1]
      constructor
      · simp
      · rcases hz with ⟨hz, e⟩ | ⟨hz, e⟩
        · rw [e]
          cases hb : bb_lf D k (2 * bb_nd D (k + 1) + 1)
          · simp
          · rw [hb] at hz
            simp at hz ⊢
            exact Int32.le_antisymm hz hX
        · exact e
  · rw [pk_un (by omega), pk_un (by omega), (h m hm).1, (h m hm).2, on1, lf1]
    have e' : (m == bb_nd D (k + 1)) = false := by simp [e]
    rw [e']
    constructor <;> rfl
end
section
theorem bb_174 {post : St2 → Prop} {J : Int32 → Int32 → Int32 → (Nat → Int32) → (Nat → Int32) → (Nat → Int32) → (Nat → Int32) → (Nat → Int32) → (Nat → Int32) → (Nat → Int32) → (Nat → Int32) → (Nat → Int32) → Prop} {c lg mr b wc wl wa : Int32} {a1 a2 a3 a4 a5 a6 a7 a8 a9 : Nat → Int32} {A N L i : Nat} {x6 z0 z1 : Int32} (hA : A < 4) (hN : N < 64) (hL : L = 128 * A + 2 * N) (hz : z1 = nI (128 * A + N))
    (H : ∀ a, J (nI N) (2 * x6) (nI (i + 1)) a1 a2 a3 a4 a5 a6 (upd a7 (128 * A + N) z0) a a9) : wX_add_174 post J (nI (128 * A)) (nI N) x6 (nI i) (nI L) z0 z1 c lg mr b wc wl wa a1 a2 a3 a4 a5 a6 a7 a8 a9 :=
  ⟨pk_in (128 * A + N) 512 (by omega) hz, nm_r (e' := upd a7 (128 * A + N) z0) (by rw [hz, nI_clamp (by omega)]) ⟨pk_in L 512 (by omega), pk_in (L + 1) 512 (by omega) (nI_1 L), pk_in L 512 (by omega), pk_in (128 * A + N) 512 (by omega) (nI_add _ _), nm_e (nm_e (nm_r (nI_1 i) (H _)))⟩⟩
theorem bb_73 {post : St2 → Prop} {c lg mr b wc wl wa : Int32} {a1 a2 a3 a4 a5 a6 a7 a8 a9 : Nat → Int32} {A D : Nat} {X : Int32} {Z : Prop} (hA : A < 4) (hD : D < 48) (hX : Z → 0 ≤ X) (h0 : Z → bb_tk A D X 0 a6 a7)
    (H : ∀ a6' a7' a8', (Z → bb_tk A D X 6 a6' a7') → post (c, lg, mr, b, wc, wl, wa, a1, a2, a3, a4, a5, a6', a7', a8', a9)) : ∃ n, wX_add_73 post (nI (128 * A)) c lg mr b wc wl wa n (nI (64 + D)) 1 0 a1 a2 a3 a4 a5 a6 a7 a8 a9 := by
  refine pk_loop (fun n i (s : Int32 × (Nat → Int32) × (Nat → Int32) × (Nat → Int32)) => wX_add_73 post (nI (128 * A)) c lg mr b wc wl wa n (nI (bb_nd D i)) s.1 (nI i) a1 a2 a3 a4 a5 s.2.1 s.2.2.1 s.2.2.2 a9) (fun i s => Z → bb_tk A D X i s.2.1 s.2.2.1) 6 0 (1, a6, a7, a8) (by omega) h0 ?_ ?_
  · exact fun n s h => pk_le 6 6 (fun _ => H _ _ _ h) (fun z => absurd z (by omega))
  · intro n i s hi h hw
    have hn : bb_nd D (i + 1) < 64 := (bb_ndt D hD (i + 1) (by omega)).2 (by omega)
    have hm : bb_nd D i < 128 := (bb_ndt D hD i (by omega)).1
    obtain ⟨x6, b6, b7, b8⟩ := s
    dsimp only at h hw ⊢
    have e1 : nI (bb_nd D i) >>> ((1 : Int32) &&& 31) = nI (bb_nd D (i + 1)) := pk_shrN (by omega) _ 1 (by decide)
    have e2 : nI (128 * A) + 2 * nI (bb_nd D (i + 1)) = nI (128 * A + 2 * bb_nd D (i + 1)) := by
      rw [show (2 : Int32) = nI 2 from rfl, pk_mul, nI_add]
    have S := fun z hz hZ => bb_step (A := A) (z := z) hD hi (hX hZ) (h hZ) hz
    generalize hN : bb_nd D (i + 1) = N at *
    refine pk_le 6 i (fun z => absurd z (by omega)) (fun _ => nm_r e1 (nm_r e2 ?_))
    refine ⟨pk_in (128 * A + 2 * N) 512 (by omega), pk_in (128 * A + 2 * N + 1) 512 (by omega) (nI_1 _), nm_r (e' := b6 (128 * A + 2 * N) + b7 (128 * A + 2 * N + 1)) (by rw [nI_1, nI_clamp (by omega), nI_clamp (by omega)]) ?_⟩
    refine ⟨pk_in (128 * A + 2 * N) 512 (by omega), pk_in (128 * A + 2 * N + 1) 512 (by omega) (nI_1 _), pk_in (128 * A + N) 512 (by omega) (nI_add _ _), nm_r (e' := upd b6 (128 * A + N) (b6 (128 * A + 2 * N) + b6 (128 * A + 2 * N + 1))) (by rw [nI_1, nI_add, nI_clamp (by omega), nI_clamp (by omega), nI_clamp (by omega)]) ?_⟩
    refine ⟨pk_in (128 * A + 2 * N) 512 (by omega), ?_⟩
    rw [nI_clamp (show 128 * A + 2 * N < 2 ^ 31 by omega)]
    refine br_c (fun g => ?_) (fun g => ⟨pk_in (128 * A + 2 * N) 512 (by omega), ?_⟩)
    · exact bb_174 hA hn rfl (nI_add _ _) (fun a => hw (2 * x6, _, _, a) (fun hZ => S _ (Or.inl ⟨g, rfl⟩) hZ))
    · exact bb_174 hA hn rfl (nI_add _ _) (fun a => hw (2 * x6, _, _, a) (fun hZ => S _ (Or.inr ⟨g, rfl⟩) hZ))
/-- the method add: it ends; from an empty tree it leaves the tree of one entry -/
theorem bb_add {post : St2 → Prop} {c lg mr b wc wl wa : Int32} {a1 a2 a3 a4 a5 a6 a7 a8 a9 : Nat → Int32} {A D : Nat} {X : Int32} (hA : A < 4) (hD : D < 48)
    (H : ∀ a6' a7' a8', (0 ≤ X → (∀ m, m < 128 → a6 (128 * A + m) = 0 ∧ a7 (128 * A + m) = 0) → bb_tk A D X 6 a6' a7') → post (c, lg, mr, b, wc, wl, wa, a1, a2, a3, a4, a5, a6', a7', a8', a9)) : wpX_add post (c, lg, mr, b, wc, wl, wa, a1, a2, a3, a4, a5, a6, a7, a8, a9) (nI A) (nI D) X := by
  have e1 : 128 * nI A = nI (128 * A) := by rw [show (128 : Int32) = nI 128 from rfl, pk_mul]
  have e2 : 64 + nI D = nI (64 + D) := by rw [show (64 : Int32) = nI 64 from rfl, nI_add]
  have e3 : nI (128 * A) + nI (64 + D) = nI (128 * A + (64 + D)) := nI_add _ _
  have v : vp_in (nI (128 * A) + nI (64 + D)) 512 := pk_in (128 * A + (64 + D)) 512 (by omega) e3
  have cl : (nI (128 * A) + nI (64 + D)).toNatClampNeg = 128 * A + (64 + D) := by rw [e3, nI_clamp (by omega)]
  unfold wpX_add
  refine nm_r e1 (nm_r e2 ?_)
  rw [cl]
  refine ⟨v, v, nm_e ⟨v, v, nm_e ⟨v, v, nm_e ?_⟩⟩⟩
  refine bb_73 (X := X) (Z := 0 ≤ X ∧ ∀ m, m < 128 → a6 (128 * A + m) = 0 ∧ a7 (128 * A + m) = 0) hA hD (fun z => z.1) (fun z => ?_) (fun a6' a7' a8' h => H a6' a7' a8' (fun h1 h2 => h ⟨h1, h2⟩))
  have q : a6 (128 * A + (64 + D)) + X = X := by rw [(z.2 (64 + D) (by omega)).1]; simp
  exact bb_leaf z.2 q (by rw [pk_us]; exact q)
end
section
theorem bb_widest {post : Int32 → Prop} {T E : Nat} {x : Int32} (hT : T < 48) (hx : x.toInt = (E : Int) - 1) (H : post (nI (bb_wd T E 6 0))) : wpX_widest post () (nI T) x := by
  have main : ∀ k h, h + k = 6 → post (nI (bb_wd T E k h)) → wX_widest_2 post (nI T) x (k + 1) (nI h) := by
    intro k
    induction k with
    | zero =>
      intro h e hp
      exact pk_le 6 h (fun _ => hp) (fun z => absurd z (by omega))
    | succ k ih =>
      intro h e hp
      have hw : bb_wd T E (k + 1) h = if (T / 2 ^ h) % 2 = 0 ∧ T + 2 * 2 ^ h ≤ E then bb_wd T E k (h + 1) else h := rfl
      rw [hw] at hp
      have ht := bb_top T hT h (by omega)
      have hb := bb_bit T hT h (by omega)
      generalize hP : 2 * 2 ^ h = P at hp ht
      refine pk_le 6 h (fun z => absurd z (by omega)) (fun _ => ek_if hb (fun g => br_c (fun z => ?_) (fun z => nm_r (nI_1 h) (ih (h + 1) (by omega) ?_))) (fun g => ?_))
      · rw [Int32.lt_iff_toInt_lt, ht, hx] at z
        rw [if_neg (fun t => absurd t.2 (by omega))] at hp
        exact hp
      · rw [Int32.lt_iff_toInt_lt, ht, hx] at z
        rw [if_pos ⟨g, by omega⟩] at hp
        exact hp
      · rw [if_neg (fun t => g t.1)] at hp
        exact hp
  exact ⟨7, main 6 0 rfl H⟩
theorem bb_96 {post : St2 → Prop} {J : Int32 → Int32 → Int32 → Int32 → Int32 → Prop} {c lg mr b wc wl wa : Int32} {a1 a2 a3 a4 a5 a6 a7 a8 a9 : Nat → Int32} {x3 x4 z0 : Int32} {T s h m : Nat} (hT : T < 48) (hh : h < 6) (hm : m < 512)
    (H : ∀ wa', J (nI (T + 2 ^ h)) (nI (s + 1)) (wc + a6 m) z0 wa') : wX_walk_96 post J x3 x4 (nI T) (nI s) (nI h) (nI m) z0 c lg mr b wc wl wa a1 a2 a3 a4 a5 a6 a7 a8 a9 :=
  ⟨pk_in m 512 hm, nm_e ⟨pk_in m 512 hm, nm_r (e' := wc + a6 m) (by rw [nI_clamp (by omega)]) (nm_r (bb_adv T hT h hh) (nm_r (nI_1 s) (H _)))⟩⟩
theorem bb_sum {F T U D : Nat} {X : Int32} (h1 : F ≤ T) (h2 : T ≤ U) : (if F ≤ D ∧ D < T then X else 0) + (if T ≤ D ∧ D < U then X else 0) = (if F ≤ D ∧ D < U then X else 0) := by
  by_cases p : F ≤ D ∧ D < T
  · rw [if_pos p, if_neg (by omega), if_pos (by omega)]; simp
  · by_cases q : T ≤ D ∧ D < U
    · rw [if_neg p, if_pos q, if_pos (by omega)]; simp
    · rw [if_neg p, if_neg q, if_neg (by omega)]; simp
theorem bb_max (x : Int32) (h : (2147483647 : Int32) ≤ x) : x = 2147483647 := by
  refine Int32.le_antisymm ?_ h
  rw [Int32.le_iff_toInt_le]
  have := Int32.toInt_lt x
  have e : (2147483647 : Int32).toInt = 2147483647 := by decide
  omega
theorem bb_low {F T D : Nat} {X wl low : Int32} (hX : 0 ≤ X) (hFT : F ≤ T) (h1 : T = F → wl = 2147483647) (h2 : F < T → wl = if F = D then X else 0) (hl : low = (if F ≤ D ∧ D < T then X else 0) + (if T = D then X else 0)) :
    (wl ≤ low → wl = if F = D then X else 0) ∧ (¬ wl ≤ low → low = if F = D then X else 0) := by
  rcases Nat.lt_or_ge F T with g | g
  · refine ⟨fun _ => h2 g, fun z => absurd ?_ z⟩
    rw [h2 g, hl]
    by_cases e : F = D
    · rw [if_pos e, if_pos (by omega), if_neg (by omega)]; simp
    · rw [if_neg e]
      by_cases p : F ≤ D ∧ D < T
      · rw [if_pos p, if_neg (by omega)]; simpa using hX
      · rw [if_neg p]
        split
        · simpa using hX
        · simp
  · have e : T = F := by omega
    subst e
    have hl' : low = if T = D then X else 0 := by rw [hl, if_neg (by omega)]; simp
    refine ⟨fun z => ?_, fun _ => hl'⟩
    rw [h1 rfl] at z ⊢
    rw [← hl', bb_max low z]
theorem bb_29 {post : St2 → Prop} {c lg mr b : Int32} {a1 a2 a3 a4 a5 a6 a7 a8 a9 : Nat → Int32} {A D F E : Nat} {X x : Int32} (hA : A < 4) (hD : D < 48) (hE : E ≤ 48) (hX : 0 ≤ X) (hx : x.toInt = (E : Int) - 1) (ht : bb_tk A D X 6 a6 a7)
    (H : ∀ wc wl wa, wc = (if F ≤ D ∧ D < E then X else 0) → (F < E → wl = if F = D then X else 0) → post (c, lg, mr, b, wc, wl, wa, a1, a2, a3, a4, a5, a6, a7, a8, a9)) :
    ∀ k s T wc wl wa, s + k = 14 → F ≤ T → T ≤ E → bb_dn E k T = true → wc = (if F ≤ D ∧ D < T then X else 0) → (T = F → wl = 2147483647) → (F < T → wl = if F = D then X else 0) → wX_walk_29 post x (nI (128 * A)) c lg mr b a1 a2 a3 a4 a5 a6 a7 a8 a9 (k + 1) (nI T) (nI s) wc wl wa := by
  have fin : ∀ T wc wl wa, E ≤ T → T ≤ E → wc = (if F ≤ D ∧ D < T then X else 0) → (F < T → wl = if F = D then X else 0) → post (c, lg, mr, b, wc, wl, wa, a1, a2, a3, a4, a5, a6, a7, a8, a9) := by
    intro T wc wl wa h1 h2 h3 h4
    have e : T = E := by omega
    subst e
    exact H wc wl wa h3 h4
  intro k
  induction k with
  | zero =>
    intro s T wc wl wa hs hF hT hd h1 h2 h3
    have hd' : E ≤ T := of_decide_eq_true hd
    exact pk_le 14 s (fun _ => fin T wc wl wa hd' hT h1 h3) (fun z => absurd z (by omega))
  | succ k ih =>
    intro s T wc wl wa hs hF hT hd h1 h2 h3
    have nT : (nI T).toInt = (T : Int) := nI_toInt (by omega)
    refine pk_le 14 s (fun z => absurd z (by omega)) (fun _ => br_c (fun z => ?_) (fun z => ?_))
    · rw [Int32.lt_iff_toInt_lt, nT, hx] at z
      exact fin T wc wl wa (by omega) hT h1 h3
    · rw [Int32.lt_iff_toInt_lt, nT, hx] at z
      have hTE : T < E := by omega
      have hT48 : T < 48 := by omega
      obtain ⟨w1, w2, w3⟩ := bb_wdt T hT48 E (by omega) hTE
      have hd' : bb_dn E k (T + 2 ^ bb_wd T E 6 0) = true := by
        have hd2 : (decide (E ≤ T) || bb_dn E k (T + 2 ^ bb_wd T E 6 0)) = true := hd
        rw [decide_eq_false (by omega), Bool.false_or] at hd2
        exact hd2
      refine bb_widest hT48 hx ?_
      generalize bb_wd T E 6 0 = h at *
      have hm : (64 + T) / 2 ^ h < 128 := Nat.lt_of_le_of_lt (Nat.div_le_self _ _) (by omega)
      obtain ⟨q6, q7⟩ := ht _ hm
      rw [bb_ont h w1 T hT48 w2 D hD] at q6
      rw [bb_lft h w1 T hT48 w2 D hD] at q7
      simp only [decide_eq_true_eq] at q6 q7
      have en : nI (128 * A) + ((64 + nI T) >>> (nI h &&& 31)) = nI (128 * A + (64 + T) / 2 ^ h) := by rw [bb_nod T hT48 h w1, nI_add]
      have pw : 0 < 2 ^ h := Nat.two_pow_pos h
      generalize (64 + T) / 2 ^ h = m at *
      have L := bb_low (low := wc + a7 (128 * A + m)) hX hF h2 h3 (by rw [h1, q7])
      have S : wc + a6 (128 * A + m) = (if F ≤ D ∧ D < T + 2 ^ h then X else 0) := by rw [h1, q6]; exact bb_sum hF (by omega)
      refine nm_r en ⟨pk_in (128 * A + m) 512 (by omega), nm_r (e' := wc + a7 (128 * A + m)) (by rw [nI_clamp (by omega)]) (br_c (fun g => ?_) (fun g => ?_))⟩
      · exact bb_96 hT48 w1 (by omega) (fun wa' => ih (s + 1) (T + 2 ^ h) _ _ wa' (by omega) (by omega) w3 hd' S (fun e => absurd e (by omega)) (fun _ => L.1 g))
      · exact bb_96 hT48 w1 (by omega) (fun wa' => ih (s + 1) (T + 2 ^ h) _ _ wa' (by omega) (by omega) w3 hd' S (fun e => absurd e (by omega)) (fun _ => L.2 g))
/-- the method walk over the days F .. E - 1 -/
theorem bb_walk {post : St2 → Prop} {c lg mr b wc wl wa : Int32} {a1 a2 a3 a4 a5 a6 a7 a8 a9 : Nat → Int32} {A D : Nat} (F E : Nat) {X x : Int32} (hA : A < 4) (hD : D < 48) (hX : 0 ≤ X) (ht : bb_tk A D X 6 a6 a7) (hF : F ≤ E) (hE : E ≤ 48) (hd : bb_dn E 14 F = true) (hx : x.toInt = (E : Int) - 1)
    (H : ∀ wc wl wa, wc = (if F ≤ D ∧ D < E then X else 0) → (F < E → wl = if F = D then X else 0) → post (c, lg, mr, b, wc, wl, wa, a1, a2, a3, a4, a5, a6, a7, a8, a9)) : wpX_walk post (c, lg, mr, b, wc, wl, wa, a1, a2, a3, a4, a5, a6, a7, a8, a9) (nI A) (nI F) x := by
  have e1 : 128 * nI A = nI (128 * A) := by rw [show (128 : Int32) = nI 128 from rfl, pk_mul]
  unfold wpX_walk
  exact nm_r e1 ⟨15, bb_29 hA hD hE hX hx ht H 14 0 F 0 2147483647 0 rfl (Nat.le_refl F) hF hd (by rw [if_neg (by omega)]) (fun _ => rfl) (fun z => absurd z (by omega))⟩
/-- the method lowestIn from day F to the last one -/
theorem bb_lowestIn {post : Int32 → St2 → Prop} {c lg mr b wc wl wa : Int32} {a1 a2 a3 a4 a5 a6 a7 a8 a9 : Nat → Int32} {A D : Nat} (F : Nat) {X : Int32} (hA : A < 4) (hD : D < 48) (hX : 0 ≤ X) (ht : bb_tk A D X 6 a6 a7) (hF : F < 48)
    (H : ∀ wc wl wa, post (if D ≤ F then X else 0) (c, lg, mr, b, wc, wl, wa, a1, a2, a3, a4, a5, a6, a7, a8, a9)) : wpX_lowestIn post (c, lg, mr, b, wc, wl, wa, a1, a2, a3, a4, a5, a6, a7, a8, a9) (nI A) (nI F) 47 := by
  unfold wpX_lowestIn
  have hx : (nI F - 1).toInt = (F : Int) - 1 := pk_sub_toInt (b := 1) (by omega) (by omega)
  refine bb_walk 0 F hA hD hX ht (Nat.zero_le F) (by omega) (bb_dn0 F (by omega)) hx (fun wc1 wl1 wa1 e1 _ => ?_)
  refine bb_walk F 48 hA hD hX ht (by omega) (by omega) (bb_dn48 F hF) (by decide) (fun wc2 wl2 wa2 _ e2 => ?_)
  have e : wc1 + wl2 = (if D ≤ F then X else 0) := by
    rw [e1, e2 hF]
    by_cases p : D < F
    · rw [if_pos (by omega), if_neg (by omega), if_pos (by omega)]; simp
    · rw [if_neg (by omega)]
      by_cases q : F = D
      · rw [if_pos q, if_pos (by omega)]; simp
      · rw [if_neg q, if_neg (by omega)]; simp
  have t := H wc2 wl2 wa2
  rw [← e] at t
  exact t
theorem bb_bears {post : Int32 → St2 → Prop} {c lg mr b wc wl wa : Int32} {a1 a2 a3 a4 a5 a6 a7 a8 a9 : Nat → Int32} {A D : Nat} (F : Nat) {X p2 : Int32} (hA : A < 4) (hD : D < 48) (hX : 0 ≤ X) (ht : bb_tk A D X 6 a6 a7) (hF : F < 48) (hp : ¬ 0 < p2)
    (H0 : (if D ≤ F then X else 0) + p2 < a5 A → ∀ wc wl wa, post 0 (c, lg, mr, b, wc, wl, wa, a1, a2, a3, a4, a5, a6, a7, a8, a9)) (H1 : ¬ (if D ≤ F then X else 0) + p2 < a5 A → ∀ wc wl wa, post 1 (c, lg, mr, b, wc, wl, wa, a1, a2, a3, a4, a5, a6, a7, a8, a9)) : wpX_bears post (c, lg, mr, b, wc, wl, wa, a1, a2, a3, a4, a5, a6, a7, a8, a9) (nI A) (nI F) p2 := by
  unfold wpX_bears
  refine br_f hp (bb_lowestIn F hA hD hX ht hF (fun wc wl wa => ⟨pk_in A 4 hA, ?_⟩))
  rw [nI_clamp (by omega)]
  exact br_c (fun g => H0 g wc wl wa) (fun g => H1 g wc wl wa)
end
section
theorem bb_acc {post : Int32 → Prop} {A : Nat} (hA : A < 4) (H : post 1) : wpX_isAccount post () (nI A) :=
  br_f (nI_pos (by omega)) (br_f (nI_ge (b := 4) hA (by decide)) H)
theorem bb_nacc {post : Int32 → Prop} {p0 : Int32} (h : p0 < 0 ∨ 4 ≤ p0) (H : post 0) : wpX_isAccount post () p0 :=
  br_c (fun _ => H) (fun g => br_t (h.resolve_left g) H)
theorem bb_day {post : Int32 → Prop} {D : Nat} (hD : D < 48) (H : post 1) : wpX_isDay post () (nI D) :=
  br_f (nI_pos (by omega)) (br_f (nI_ge (b := 48) hD (by decide)) H)
theorem bb_nday {post : Int32 → Prop} {p0 : Int32} (h : p0 < 0 ∨ 48 ≤ p0) (H : post 0) : wpX_isDay post () p0 :=
  br_c (fun _ => H) (fun g => br_t (h.resolve_left g) H)
theorem bb_nent {post : Int32 → Prop} {c lg mr b wc wl wa : Int32} {a1 a2 a3 a4 a5 a6 a7 a8 a9 : Nat → Int32} {p0 : Int32} (h : p0 < 0 ∨ c ≤ p0) (H : post 0) : wpX_isEntry post (c, lg, mr, b, wc, wl, wa, a1, a2, a3, a4, a5, a6, a7, a8, a9) p0 :=
  br_c (fun _ => H) (fun g => br_t (h.resolve_left g) H)
theorem bb_10 : ¬ (1 : Int32) = 0 := by decide
/-- post refused -/
theorem bb_post1 {post : Int32 → St2 → Prop} {c lg mr b wc wl wa : Int32} {a1 a2 a3 a4 a5 a6 a7 a8 a9 : Nat → Int32} {p0 p1 p2 : Int32} (h : p0 < 0 ∨ 4 ≤ p0) (H : post (-1) (c, lg, mr, b, wc, wl, wa, a1, a2, a3, a4, a5, a6, a7, a8, a9)) : wpX_post post (c, lg, mr, b, wc, wl, wa, a1, a2, a3, a4, a5, a6, a7, a8, a9) p0 p1 p2 := by
  unfold wpX_post
  exact bb_nacc h (br_t rfl H)
theorem bb_post2 {post : Int32 → St2 → Prop} {c lg mr b wc wl wa : Int32} {a1 a2 a3 a4 a5 a6 a7 a8 a9 : Nat → Int32} {A : Nat} {p1 p2 : Int32} (hA : A < 4) (h : p1 < 0 ∨ 48 ≤ p1) (H : post (-2) (c, lg, mr, b, wc, wl, wa, a1, a2, a3, a4, a5, a6, a7, a8, a9)) : wpX_post post (c, lg, mr, b, wc, wl, wa, a1, a2, a3, a4, a5, a6, a7, a8, a9) (nI A) p1 p2 := by
  unfold wpX_post
  exact bb_acc hA (br_f bb_10 (bb_nday h (br_t rfl H)))
theorem bb_post3 {post : Int32 → St2 → Prop} {c lg mr b wc wl wa : Int32} {a1 a2 a3 a4 a5 a6 a7 a8 a9 : Nat → Int32} {A D : Nat} {p2 : Int32} (hA : A < 4) (hD : D < 48) (h : p2 = 0 ∨ p2 < (-10000) ∨ ¬ p2 ≤ 10000) (H : post (-3) (c, lg, mr, b, wc, wl, wa, a1, a2, a3, a4, a5, a6, a7, a8, a9)) : wpX_post post (c, lg, mr, b, wc, wl, wa, a1, a2, a3, a4, a5, a6, a7, a8, a9) (nI A) (nI D) p2 := by
  unfold wpX_post
  exact bb_acc hA (br_f bb_10 (bb_day hD (br_f bb_10 (br_c (fun _ => H) (fun g => br_c (fun _ => H) (fun g' => br_f ((h.resolve_left g).resolve_left g') H))))))
theorem bb_post5 {post : Int32 → St2 → Prop} {c lg mr b wc wl wa : Int32} {a1 a2 a3 a4 a5 a6 a7 a8 a9 : Nat → Int32} {A D : Nat} {p2 : Int32} (hA : A < 4) (hD : D < 48) (hc : c = 0) (hb : b = 0) (h0 : ¬ p2 = 0) (h1 : ¬ p2 < (-10000)) (h2 : p2 ≤ 10000) (hn : ¬ 0 ≤ p2) (hf : a5 A = 0) (ht : bb_tk A 0 0 6 a6 a7)
    (H : ∀ wc wl wa, post (-5) (c, lg, mr, b, wc, wl, wa, a1, a2, a3, a4, a5, a6, a7, a8, a9)) : wpX_post post (c, lg, mr, b, wc, wl, wa, a1, a2, a3, a4, a5, a6, a7, a8, a9) (nI A) (nI D) p2 := by
  subst hc
  have hp : p2 < 0 := Int32.not_le.mp hn
  have e0 : (if 0 ≤ D then (0 : Int32) else 0) + p2 = p2 := by
    rw [if_pos (Nat.zero_le D)]; simp
  unfold wpX_post
  refine bb_acc hA (br_f bb_10 (bb_day hD (br_f bb_10 (br_f h0 (br_f h1 (br_t h2 (br_f (by decide) (br_t hb ?_))))))))
  refine bb_bears (D := 0) D hA (by omega) (by decide) ht hD (fun z => hn (Int32.le_of_lt z)) (fun _ wc wl wa => br_t rfl (H wc wl wa)) (fun g => absurd ?_ g)
  rw [e0, hf]
  exact hp
theorem bb_post0 {post : Int32 → St2 → Prop} {c lg mr b wc wl wa : Int32} {a1 a2 a3 a4 a5 a6 a7 a8 a9 : Nat → Int32} {A D : Nat} {p2 : Int32} (hA : A < 4) (hD : D < 48) (hc : c = 0) (hb : b = 0) (h0 : ¬ p2 = 0) (h1 : ¬ p2 < (-10000)) (h2 : p2 ≤ 10000) (hn : 0 < p2) (hz : ∀ m, m < 128 → a6 (128 * A + m) = 0 ∧ a7 (128 * A + m) = 0)
    (H : ∀ a6 a7 a8, bb_tk A D p2 6 a6 a7 → post 0 (1, lg, mr, b, wc, wl, wa, (upd a1 0 (nI A)), (upd a2 0 (nI D)), (upd a3 0 p2), (upd a4 0 0), a5, a6, a7, a8, a9)) : wpX_post post (c, lg, mr, b, wc, wl, wa, a1, a2, a3, a4, a5, a6, a7, a8, a9) (nI A) (nI D) p2 := by
  subst hc
  have v : vp_in (0 : Int32) 60 := pk_in 0 60 (by omega)
  unfold wpX_post
  refine bb_acc hA (br_f bb_10 (bb_day hD (br_f bb_10 (br_f h0 (br_f h1 (br_t h2 (br_f (by decide) (br_t hb ?_))))))))
  unfold wpX_bears
  refine br_t hn (br_f bb_10 ?_)
  unfold wX_post_72 wpX_enter
  refine ⟨v, nm_e ⟨v, nm_e ⟨v, nm_e ⟨v, nm_e ?_⟩⟩⟩⟩
  exact bb_add hA hD (fun b6 b7 b8 h => nm_r (e' := 1) (by decide) (ek_v (P := fun r => post r (1, lg, mr, b, wc, wl, wa, (upd a1 0 (nI A)), (upd a2 0 (nI D)), (upd a3 0 p2), (upd a4 0 0), a5, b6, b7, b8, a9)) (a := 1 - 1) (by decide) (H b6 b7 b8 (h (Int32.le_of_lt hn) hz))))
/-- balance -/
theorem bb_balN {post : Int32 → St2 → Prop} {c lg mr b wc wl wa : Int32} {a1 a2 a3 a4 a5 a6 a7 a8 a9 : Nat → Int32} {p0 p1 : Int32} (h : p0 < 0 ∨ 4 ≤ p0) (H : post (-1000000) (c, lg, mr, b, wc, wl, wa, a1, a2, a3, a4, a5, a6, a7, a8, a9)) : wpX_balance post (c, lg, mr, b, wc, wl, wa, a1, a2, a3, a4, a5, a6, a7, a8, a9) p0 p1 := by
  unfold wpX_balance
  exact bb_nacc h (br_t rfl H)
theorem bb_balD {post : Int32 → St2 → Prop} {c lg mr b wc wl wa : Int32} {a1 a2 a3 a4 a5 a6 a7 a8 a9 : Nat → Int32} {A : Nat} {p1 : Int32} (hA : A < 4) (h : p1 < 0 ∨ 48 ≤ p1) (H : post (-1000000) (c, lg, mr, b, wc, wl, wa, a1, a2, a3, a4, a5, a6, a7, a8, a9)) : wpX_balance post (c, lg, mr, b, wc, wl, wa, a1, a2, a3, a4, a5, a6, a7, a8, a9) (nI A) p1 := by
  unfold wpX_balance
  exact bb_acc hA (br_f bb_10 (bb_nday h (br_t rfl H)))
theorem bb_bal {post : Int32 → St2 → Prop} {c lg mr b wc wl wa : Int32} {a1 a2 a3 a4 a5 a6 a7 a8 a9 : Nat → Int32} {A D F : Nat} {X : Int32} (hA : A < 4) (hD : D < 48) (hX : 0 ≤ X) (ht : bb_tk A D X 6 a6 a7) (hF : F < 48) (H : ∀ wc wl wa, post (if D ≤ F then X else 0) (c, lg, mr, b, wc, wl, wa, a1, a2, a3, a4, a5, a6, a7, a8, a9)) : wpX_balance post (c, lg, mr, b, wc, wl, wa, a1, a2, a3, a4, a5, a6, a7, a8, a9) (nI A) (nI F) := by
  unfold wpX_balance
  refine bb_acc hA (br_f bb_10 (bb_day hF (br_f bb_10 ?_)))
  refine bb_walk 0 (F + 1) hA hD hX ht (by omega) (by omega) (bb_dn0 _ (by omega)) (by rw [nI_toInt (by omega)]; omega) (fun wc wl wa e1 _ => ?_)
  have e : wc = (if D ≤ F then X else 0) := by
    rw [e1]
    by_cases p : D ≤ F
    · rw [if_pos p, if_pos (by omega)]
    · rw [if_neg p, if_neg (by omega)]
  subst e
  exact H _ wl wa
/-- floor -/
theorem bb_flrN {post : Int32 → St2 → Prop} {c lg mr b wc wl wa : Int32} {a1 a2 a3 a4 a5 a6 a7 a8 a9 : Nat → Int32} {p0 p1 : Int32} (h : p0 < 0 ∨ 4 ≤ p0) (H : post (-1) (c, lg, mr, b, wc, wl, wa, a1, a2, a3, a4, a5, a6, a7, a8, a9)) : wpX_floor post (c, lg, mr, b, wc, wl, wa, a1, a2, a3, a4, a5, a6, a7, a8, a9) p0 p1 := by
  unfold wpX_floor
  exact bb_nacc h (br_t rfl H)
theorem bb_flrR {post : Int32 → St2 → Prop} {c lg mr b wc wl wa : Int32} {a1 a2 a3 a4 a5 a6 a7 a8 a9 : Nat → Int32} {A : Nat} {p1 : Int32} (hA : A < 4) (h : p1 < (-10000) ∨ ¬ p1 ≤ 10000) (H : post (-2) (c, lg, mr, b, wc, wl, wa, a1, a2, a3, a4, a5, a6, a7, a8, a9)) : wpX_floor post (c, lg, mr, b, wc, wl, wa, a1, a2, a3, a4, a5, a6, a7, a8, a9) (nI A) p1 := by
  unfold wpX_floor
  exact bb_acc hA (br_f bb_10 (br_c (fun _ => H) (fun g => br_f (h.resolve_left g) H)))
theorem bb_flr {post : Int32 → St2 → Prop} {c lg mr b wc wl wa : Int32} {a1 a2 a3 a4 a5 a6 a7 a8 a9 : Nat → Int32} {A D : Nat} {X p1 : Int32} (hA : A < 4) (hD : D < 48) (hX : 0 ≤ X) (ht : bb_tk A D X 6 a6 a7) (hb : b = 0) (h1 : ¬ p1 < (-10000)) (h2 : p1 ≤ 10000)
    (H0 : p1 ≤ (if D ≤ 0 then X else 0) → ∀ wc wl wa, post (a5 A) (c, lg, mr, b, wc, wl, wa, a1, a2, a3, a4, (upd a5 A p1), a6, a7, a8, a9)) (H4 : ¬ p1 ≤ (if D ≤ 0 then X else 0) → ∀ wc wl wa, post (-4) (c, lg, mr, b, wc, wl, wa, a1, a2, a3, a4, a5, a6, a7, a8, a9)) : wpX_floor post (c, lg, mr, b, wc, wl, wa, a1, a2, a3, a4, a5, a6, a7, a8, a9) (nI A) p1 := by
  unfold wpX_floor
  refine bb_acc hA (br_f bb_10 (br_f h1 (br_t h2 (br_t hb ?_))))
  refine bb_walk 0 48 hA hD hX ht (by omega) (by omega) (bb_dn0 48 (by omega)) (by decide) (fun wc wl wa _ e2 => ?_)
  have e : wl = (if D ≤ 0 then X else 0) := by
    rw [e2 (by omega)]
    by_cases p : D ≤ 0
    · rw [if_pos p, if_pos (by omega)]
    · rw [if_neg p, if_neg (by omega)]
  refine br_c (fun g => ⟨pk_in A 4 hA, nm_e ⟨pk_in A 4 hA, nm_e ?_⟩⟩) (fun g => H4 (by rw [← e]; exact g) wc wl wa)
  rw [nI_clamp (by omega)]
  exact H0 (by rw [← e]; exact g) wc wl wa
/-- free from day 0 on -/
theorem bb_freeN {post : Int32 → St2 → Prop} {c lg mr b wc wl wa : Int32} {a1 a2 a3 a4 a5 a6 a7 a8 a9 : Nat → Int32} {p0 p1 : Int32} (h : p0 < 0 ∨ 4 ≤ p0) (H : post (-1) (c, lg, mr, b, wc, wl, wa, a1, a2, a3, a4, a5, a6, a7, a8, a9)) : wpX_free post (c, lg, mr, b, wc, wl, wa, a1, a2, a3, a4, a5, a6, a7, a8, a9) p0 p1 := by
  unfold wpX_free
  exact bb_nacc h (br_t rfl H)
theorem bb_free {post : Int32 → St2 → Prop} {c lg mr b wc wl wa : Int32} {a1 a2 a3 a4 a5 a6 a7 a8 a9 : Nat → Int32} {A D : Nat} {X : Int32} (hA : A < 4) (hD : D < 48) (hX : 0 ≤ X) (ht : bb_tk A D X 6 a6 a7) (h0 : 0 ≤ (if D ≤ 0 then X else 0) - a5 A)
    (H : ∀ wc wl wa, post ((if D ≤ 0 then X else 0) - a5 A) (c, lg, mr, b, wc, wl, wa, a1, a2, a3, a4, a5, a6, a7, a8, a9)) : wpX_free post (c, lg, mr, b, wc, wl, wa, a1, a2, a3, a4, a5, a6, a7, a8, a9) (nI A) 0 := by
  unfold wpX_free
  refine bb_acc hA (br_f bb_10 (bb_day (D := 0) (by omega) (br_f bb_10 ?_)))
  refine bb_lowestIn 0 hA hD hX ht (by omega) (fun wc wl wa => ⟨pk_in A 4 hA, nm_e ?_⟩)
  rw [nI_clamp (by omega)]
  exact br_t h0 (H wc wl wa)
/-- cancel, cancelled -/
theorem bb_canN {post : Int32 → St2 → Prop} {c lg mr b wc wl wa : Int32} {a1 a2 a3 a4 a5 a6 a7 a8 a9 : Nat → Int32} {p0 : Int32} (h : p0 < 0 ∨ c ≤ p0) (H : post (-1) (c, lg, mr, b, wc, wl, wa, a1, a2, a3, a4, a5, a6, a7, a8, a9)) : wpX_cancel post (c, lg, mr, b, wc, wl, wa, a1, a2, a3, a4, a5, a6, a7, a8, a9) p0 := by
  unfold wpX_cancel
  exact bb_nent h (br_t rfl H)
theorem bb_xx (X : Int32) : X + -X = 0 := by grind
theorem bb_can {post : Int32 → St2 → Prop} {c lg mr b wc wl wa : Int32} {a1 a2 a3 a4 a5 a6 a7 a8 a9 : Nat → Int32} {A D : Nat} {X : Int32} (hA : A < 4) (hD : D < 48) (hX : 0 < X) (hX2 : X ≤ 10000) (ht : bb_tk A D X 6 a6 a7) (hc : c = 1) (hb : b = 0) (e1 : a1 0 = nI A) (e2 : a2 0 = nI D) (e3 : a3 0 = X) (e4 : a4 0 = 0)
    (H3 : 0 < a5 A → ∀ wc wl wa, post (-3) (c, lg, mr, b, wc, wl, wa, a1, a2, a3, a4, a5, a6, a7, a8, a9)) (H0 : ¬ 0 < a5 A → ∀ wc wl wa a6 a7 a8, post X (c, lg, mr, b, wc, wl, wa, a1, a2, a3, (upd a4 0 1), a5, a6, a7, a8, a9)) : wpX_cancel post (c, lg, mr, b, wc, wl, wa, a1, a2, a3, a4, a5, a6, a7, a8, a9) 0 := by
  subst hc
  have v : vp_in (0 : Int32) 60 := pk_in 0 60 (by omega)
  have z : (0 : Int32).toNatClampNeg = 0 := by decide
  have ng : ¬ 0 < -X := by
    intro h
    rw [Int32.lt_iff_toInt_lt] at h hX
    rw [Int32.le_iff_toInt_le] at hX2
    have q : (10000 : Int32).toInt = 10000 := by decide
    have q0 : (0 : Int32).toInt = 0 := by decide
    rw [Int32.toInt_neg] at h
    have q2 : (-X.toInt).bmod (2 ^ 32) = -X.toInt := by
      rw [Int.bmod_eq_of_le] <;> omega
    omega
  unfold wpX_cancel
  refine br_f (by decide) (br_f (by decide) (br_f bb_10 ⟨v, ?_⟩))
  rw [z]
  refine br_t e4 ⟨v, nm_r e3 (br_t hb ⟨v, v, ?_⟩)⟩
  rw [e1, e2]
  refine bb_bears D hA hD (Int32.le_of_lt hX) ht hD ng (fun g wc wl wa => br_t rfl (H3 ?_ wc wl wa)) (fun g wc wl wa => br_f bb_10 ?_)
  · rw [if_pos (Nat.le_refl D), bb_xx] at g
    exact g
  · rw [if_pos (Nat.le_refl D), bb_xx] at g
    unfold wX_cancel_60
    refine ⟨v, nm_e ⟨v, v, ?_⟩⟩
    rw [z, e1, e2]
    exact bb_add hA hD (fun b6 b7 b8 _ => br_t hb (H0 g wc wl wa b6 b7 b8))
theorem bb_cdN {post : Int32 → Prop} {c lg mr b wc wl wa : Int32} {a1 a2 a3 a4 a5 a6 a7 a8 a9 : Nat → Int32} {p0 : Int32} (h : p0 < 0 ∨ c ≤ p0) (H : post (-1)) : wpX_cancelled post (c, lg, mr, b, wc, wl, wa, a1, a2, a3, a4, a5, a6, a7, a8, a9) p0 := by
  unfold wpX_cancelled
  exact bb_nent h (br_t rfl H)
theorem bb_cd0 {post : Int32 → Prop} {c lg mr b wc wl wa : Int32} {a1 a2 a3 a4 a5 a6 a7 a8 a9 : Nat → Int32} (hc : c = 1) (e4 : a4 0 = 0) (H : post 0) : wpX_cancelled post (c, lg, mr, b, wc, wl, wa, a1, a2, a3, a4, a5, a6, a7, a8, a9) 0 := by
  subst hc
  unfold wpX_cancelled
  exact br_f (by decide) (br_f (by decide) (br_f bb_10 ⟨pk_in 0 60 (by omega), br_t e4 H⟩))
theorem bb_cd1 {post : Int32 → Prop} {c lg mr b wc wl wa : Int32} {a1 a2 a3 a4 a5 a6 a7 a8 a9 : Nat → Int32} (hc : c = 1) (e4 : a4 0 = 1) (H : post 1) : wpX_cancelled post (c, lg, mr, b, wc, wl, wa, a1, a2, a3, a4, a5, a6, a7, a8, a9) 0 := by
  subst hc
  have e : ¬ a4 (0 : Int32).toNatClampNeg = 0 := by
    rw [show (0 : Int32).toNatClampNeg = 0 by decide, e4]
    decide
  unfold wpX_cancelled
  exact br_f (by decide) (br_f (by decide) (br_f bb_10 ⟨pk_in 0 60 (by omega), br_f e H⟩))
end
section
/-- the book's state behind a post: account A's tree holds X at day D, its floor is H; i = 1: X was entered as entry 0 -/
def bb_ok (A D : Nat) (X H i x2 : Int32) (u : St2) : Prop := match u with
  | (c, lg, mr, b, wc, wl, wa, a1, a2, a3, a4, a5, a6, a7, a8, a9) => b = 0 ∧ a5 A = H ∧ bb_tk A D X 6 a6 a7 ∧ ((i = 0 ∧ X = 0 ∧ c = 0) ∨ (i = 1 ∧ 0 < X ∧ X = x2 ∧ c = 1 ∧ a1 0 = nI A ∧ a2 0 = nI D ∧ a3 0 = X ∧ a4 0 = 0))
theorem bb_sub {x y : Int32} (h1 : ¬ y < (-10000)) (h2 : y ≤ x) (h3 : x ≤ 10000) : 0 ≤ x - y := by
  rw [Int32.lt_iff_toInt_lt] at h1
  rw [Int32.le_iff_toInt_le] at h2 h3 ⊢
  have q : (10000 : Int32).toInt = 10000 := by decide
  have q1 : (-10000 : Int32).toInt = -10000 := by decide
  have q0 : (0 : Int32).toInt = 0 := by decide
  rw [Int32.toInt_sub, Int.bmod_eq_of_le (by omega) (by omega)]
  omega
theorem bb_tot (x : Int32) : x < 0 ∨ 0 ≤ x := by
  by_cases h : x < 0
  · exact Or.inl h
  · exact Or.inr (Int32.not_lt.mp h)
theorem bb_tot1 {x : Int32} (h : ¬ x = 0) : x < 0 ∨ 1 ≤ x := by
  rcases bb_tot x with z | z
  · exact Or.inl z
  · refine Or.inr ?_
    have q : ¬ x.toInt = 0 := fun e => h (Int32.toInt_inj.mp (by rw [e]; decide))
    rw [Int32.le_iff_toInt_le] at z ⊢
    have q1 : (1 : Int32).toInt = 1 := by decide
    have q0 : (0 : Int32).toInt = 0 := by decide
    omega
section
variable {post : Int32 → St0 → Prop} {mc ms kc ks : Nat}
theorem bb_l316n {c lg mr b wc wl wa : Int32} {a1 a2 a3 a4 a5 a6 a7 a8 a9 : Nat → Int32} {x2 x4 x13 : Int32} (h : x4 < 0 ∨ c ≤ x4) (H : post 1 ()) : wL_lawOf_316 post mc ms x2 x4 x13 0 kc ks c lg mr b wc wl wa a1 a2 a3 a4 a5 a6 a7 a8 a9 := by
  unfold wL_lawOf_316
  exact bb_canN h (br_t rfl (br_t rfl (bb_cdN h (br_t rfl (br_t rfl H)))))
theorem bb_l316y {c lg mr b wc wl wa : Int32} {a1 a2 a3 a4 a5 a6 a7 a8 a9 : Nat → Int32} {A D : Nat} {X x13 : Int32} (hA : A < 4) (hD : D < 48) (hX : 0 < X) (hX2 : X ≤ 10000) (ht : bb_tk A D X 6 a6 a7) (hc : c = 1) (hb : b = 0) (e1 : a1 0 = nI A) (e2 : a2 0 = nI D) (e3 : a3 0 = X) (e4 : a4 0 = 0) (hf : a5 A = x13)
    (H : post 1 ()) : wL_lawOf_316 post mc ms X 0 x13 1 kc ks c lg mr b wc wl wa a1 a2 a3 a4 a5 a6 a7 a8 a9 := by
  unfold wL_lawOf_316
  subst hf
  refine bb_can hA hD hX hX2 ht hc hb e1 e2 e3 e4 (fun g wc wl wa => ?_) (fun g wc wl wa a6 a7 a8 => ?_)
  · have g' : ¬ a5 A ≤ 0 := Int32.not_le.mpr g
    exact br_f bb_10 (br_f g' (br_t rfl (bb_cd0 hc e4 (br_f bb_10 (br_f g' (br_t rfl H))))))
  · have g' : a5 A ≤ 0 := Int32.not_lt.mp g
    exact br_f bb_10 (br_t g' (br_t rfl (bb_cd1 hc pk_us (br_f bb_10 (br_t g' (br_t rfl H))))))
theorem bb_l296 {c lg mr b wc wl wa : Int32} {a1 a2 a3 a4 a5 a6 a7 a8 a9 : Nat → Int32} {A D : Nat} {X x2 x4 x10 x13 z0 z1 : Int32} (he : z1 = z0) (hA : A < 4) (hD : D < 48) (hX2 : X ≤ 10000) (k : bb_ok A D X x13 x10 x2 (c, lg, mr, b, wc, wl, wa, a1, a2, a3, a4, a5, a6, a7, a8, a9)) (H : post 1 ()) : wL_lawOf_296 post mc ms x2 x4 x10 x13 z0 z1 kc ks c lg mr b wc wl wa a1 a2 a3 a4 a5 a6 a7 a8 a9 := by
  obtain ⟨hb, hf, ht, ⟨i0, _, hc⟩ | ⟨i1, hX, ex, hc, e1, e2, e3, e4⟩⟩ := k
  · exact br_t he (br_t i0 (bb_l316n (by rw [hc]; exact bb_tot x4) H))
  · subst i1 ex
    refine br_t he (br_f bb_10 (br_c (fun g => ?_) (fun g => bb_l316n (by rw [hc]; exact bb_tot1 g) H)))
    subst g
    exact bb_l316y hA hD hX hX2 ht hc hb e1 e2 e3 e4 hf H
theorem bb_l273 {c lg mr b wc wl wa : Int32} {a1 a2 a3 a4 a5 a6 a7 a8 a9 : Nat → Int32} {A D : Nat} {X x2 x4 x10 x11 z0 : Int32} (hA : A < 4) (hD : D < 48) (hX : 0 ≤ X) (hX2 : X ≤ 10000) (h11 : x11 = if D ≤ 0 then X else 0) (hz : 0 ≤ x11 - z0) (k : bb_ok A D X z0 x10 x2 (c, lg, mr, b, wc, wl, wa, a1, a2, a3, a4, a5, a6, a7, a8, a9)) (H : post 1 ()) : wL_lawOf_273 post mc ms (nI A) x2 x4 1 x10 x11 z0 kc ks c lg mr b wc wl wa a1 a2 a3 a4 a5 a6 a7 a8 a9 := by
  obtain ⟨hb, hf, ht, hi⟩ := k
  unfold wL_lawOf_273
  refine bb_free hA hD hX ht (by rw [hf, ← h11]; exact hz) (fun wc wl wa => br_f bb_10 (bb_l296 (by rw [hf, h11]) hA hD hX2 ?_ H))
  exact ⟨hb, hf, ht, hi⟩
theorem bb_l207n {c lg mr b wc wl wa : Int32} {a1 a2 a3 a4 a5 a6 a7 a8 a9 : Nat → Int32} {A D : Nat} {X x2 x3 x4 x10 x11 : Int32} (hA : A < 4) (hD : D < 48) (hX : 0 ≤ X) (hX2 : X ≤ 10000) (h11 : x11 = if D ≤ 0 then X else 0) (h0 : 0 ≤ x11) (h : x3 < (-10000) ∨ 10000 < x3) (k : bb_ok A D X 0 x10 x2 (c, lg, mr, b, wc, wl, wa, a1, a2, a3, a4, a5, a6, a7, a8, a9)) (H : post 1 ()) : wL_lawOf_207 post mc ms (nI A) x2 x3 x4 1 x10 x11 0 kc ks c lg mr b wc wl wa a1 a2 a3 a4 a5 a6 a7 a8 a9 := by
  unfold wL_lawOf_207
  exact bb_flrR hA (h.imp id Int32.not_le.mpr) (br_f bb_10 (br_t rfl (br_t rfl (br_f bb_10 (br_t rfl (bb_l273 hA hD hX hX2 h11 (by simpa using h0) k H))))))
theorem bb_l207y {c lg mr b wc wl wa : Int32} {a1 a2 a3 a4 a5 a6 a7 a8 a9 : Nat → Int32} {A D : Nat} {X x2 x3 x4 x10 x11 : Int32} (hA : A < 4) (hD : D < 48) (hX : 0 ≤ X) (hX2 : X ≤ 10000) (h11 : x11 = if D ≤ 0 then X else 0) (h0 : 0 ≤ x11) (h12 : x11 ≤ 10000) (h1 : ¬ x3 < (-10000)) (h2 : x3 ≤ 10000) (k : bb_ok A D X 0 x10 x2 (c, lg, mr, b, wc, wl, wa, a1, a2, a3, a4, a5, a6, a7, a8, a9)) (H : post 1 ()) : wL_lawOf_207 post mc ms (nI A) x2 x3 x4 1 x10 x11 1 kc ks c lg mr b wc wl wa a1 a2 a3 a4 a5 a6 a7 a8 a9 := by
  obtain ⟨hb, hf, ht, hi⟩ := k
  unfold wL_lawOf_207
  refine bb_flr hA hD hX ht hb h1 h2 (fun g wc wl wa => ?_) (fun g wc wl wa => ?_)
  · rw [← h11] at g
    refine br_f bb_10 (br_f bb_10 (br_t g (br_t hf (br_f bb_10 (br_f bb_10 (br_f (Int32.not_lt.mpr g) (bb_l273 hA hD hX hX2 h11 (bb_sub h1 g h12) ?_ H)))))))
    exact ⟨hb, pk_us, ht, hi⟩
  · rw [← h11] at g
    refine br_f bb_10 (br_f bb_10 (br_f g (br_t rfl (br_f bb_10 (br_f bb_10 (br_t (Int32.not_le.mp g) (bb_l273 hA hD hX hX2 h11 (by simpa using h0) ?_ H)))))))
    exact ⟨hb, hf, ht, hi⟩
theorem bb_l186 {c lg mr b wc wl wa : Int32} {a1 a2 a3 a4 a5 a6 a7 a8 a9 : Nat → Int32} {A D : Nat} {X x2 x3 x4 x10 x11 : Int32} (hA : A < 4) (hD : D < 48) (hX : 0 ≤ X) (hX2 : X ≤ 10000) (h11 : x11 = if D ≤ 0 then X else 0) (k : bb_ok A D X 0 x10 x2 (c, lg, mr, b, wc, wl, wa, a1, a2, a3, a4, a5, a6, a7, a8, a9)) (H : post 1 ()) : wL_lawOf_186 post mc ms (nI A) x2 x3 x4 1 x10 x11 kc ks c lg mr b wc wl wa a1 a2 a3 a4 a5 a6 a7 a8 a9 := by
  have h0 : 0 ≤ x11 := by
    rw [h11]
    split
    · exact hX
    · decide
  have h12 : x11 ≤ 10000 := by
    rw [h11]
    split
    · exact hX2
    · decide
  exact br_c (fun g => bb_l207n hA hD hX hX2 h11 h0 (Or.inl g) k H) (fun g => br_c (fun g' => bb_l207n hA hD hX hX2 h11 h0 (Or.inr g') k H) (fun g' => bb_l207y hA hD hX hX2 h11 h0 h12 g (Int32.not_lt.mp g') k H))
theorem bb_l167 {c lg mr b wc wl wa : Int32} {a1 a2 a3 a4 a5 a6 a7 a8 a9 : Nat → Int32} {A D : Nat} {X x1 x2 x3 x4 x10 z0 z1 : Int32} (he : z1 = z0) (hA : A < 4) (hD : D < 48) (hX : 0 ≤ X) (hX2 : X ≤ 10000) (h1 : x10 = 1 → x1 = nI D) (k : bb_ok A D X 0 x10 x2 (c, lg, mr, b, wc, wl, wa, a1, a2, a3, a4, a5, a6, a7, a8, a9)) (H : post 1 ()) : wL_lawOf_167 post mc ms (nI A) x1 x2 x3 x4 1 x10 z0 z1 kc ks c lg mr b wc wl wa a1 a2 a3 a4 a5 a6 a7 a8 a9 := by
  have k' := k
  obtain ⟨hb, hf, ht, ⟨i0, x0, hc⟩ | ⟨i1, _, ex, hc, _⟩⟩ := k'
  · exact br_t he (br_t i0 (bb_l186 hA hD hX hX2 (by rw [x0]; split <;> rfl) k H))
  · subst i1 ex
    refine br_t he (br_f bb_10 (br_c (fun g => bb_l186 hA hD hX hX2 ?_ k H) (fun g => bb_l186 hA hD hX hX2 ?_ k H)))
    · rw [h1 rfl] at g
      have e : D = 0 := (nI_eq (by omega) (by decide)).mp (g.trans nI_0.symm)
      rw [if_pos (by omega)]
    · have e : ¬ D ≤ 0 := by
        intro e
        apply g
        rw [h1 rfl, show D = 0 by omega, nI_0]
      rw [if_neg e]
theorem bb_l133 {c lg mr b wc wl wa : Int32} {a1 a2 a3 a4 a5 a6 a7 a8 a9 : Nat → Int32} {A D : Nat} {X x1 x2 x3 x4 x7 z0 : Int32} (hA : A < 4) (hD : D < 48) (hX : 0 ≤ X) (hX2 : X ≤ 10000) (hd : (x7 = 0 ∧ z0 = 0 ∧ (x1 < 0 ∨ 48 ≤ x1)) ∨ (x7 = 1 ∧ ∃ F, F < 48 ∧ x1 = nI F ∧ (z0 = 1 → F = D))) (k : bb_ok A D X 0 z0 x2 (c, lg, mr, b, wc, wl, wa, a1, a2, a3, a4, a5, a6, a7, a8, a9)) (H : post 1 ()) : wL_lawOf_133 post mc ms (nI A) x1 x2 x3 x4 1 x7 z0 kc ks c lg mr b wc wl wa a1 a2 a3 a4 a5 a6 a7 a8 a9 := by
  unfold wL_lawOf_133
  rcases hd with ⟨h7, hz, hx⟩ | ⟨h7, F, hF, hx, hFD⟩
  · subst h7 hz
    exact bb_balD hA hx (br_f bb_10 (br_t rfl (bb_l167 rfl hA hD hX hX2 (fun z => absurd z.symm bb_10) k H)))
  · subst h7 hx
    obtain ⟨hb, hf, ht, hi⟩ := k
    refine bb_bal hA hD hX ht hF (fun wc wl wa => br_f bb_10 (br_f bb_10 ?_))
    have k' : bb_ok A D X 0 z0 x2 (c, lg, mr, b, wc, wl, wa, a1, a2, a3, a4, a5, a6, a7, a8, a9) := ⟨hb, hf, ht, hi⟩
    have h1 : z0 = 1 → nI F = nI D := fun z => by rw [hFD z]
    rcases hi with ⟨i0, x0, _⟩ | ⟨i1, _, ex, _⟩
    · exact br_t i0 (bb_l167 (by rw [x0]; split <;> rfl) hA hD hX hX2 h1 k' H)
    · exact br_f (by rw [i1]; exact bb_10) (bb_l167 (by rw [hFD i1, if_pos (Nat.le_refl D), ex]) hA hD hX hX2 h1 k' H)
/-- a good account: what the post answers, and on -/
theorem bb_l65 {c lg mr b wc wl wa : Int32} {a1 a2 a3 a4 a5 a6 a7 a8 a9 : Nat → Int32} {A : Nat} {x1 x2 x3 x4 x7 z0 : Int32} (hA : A < 4) (hc : c = 0) (hb : b = 0) (hf : a5 A = 0) (hz : ∀ m, m < 128 → a6 (128 * A + m) = 0 ∧ a7 (128 * A + m) = 0)
    (hd : (x7 = 0 ∧ (x1 < 0 ∨ 48 ≤ x1)) ∨ (x7 = 1 ∧ ∃ F, F < 48 ∧ x1 = nI F))
    (hg : (z0 = 0 ∧ (x2 = 0 ∨ x2 < (-10000) ∨ ¬ x2 ≤ 10000)) ∨ (z0 = 1 ∧ ¬ x2 = 0 ∧ ¬ x2 < (-10000) ∧ x2 ≤ 10000)) (H : post 1 ()) : wL_lawOf_65 post mc ms (nI A) x1 x2 x3 x4 1 x7 z0 kc ks c lg mr b wc wl wa a1 a2 a3 a4 a5 a6 a7 a8 a9 := by
  have t0 : bb_tk A 0 0 6 a6 a7 := bb_tk0 hz
  have l0 : (0 : Int32) ≤ 0 := by decide
  have l1 : (0 : Int32) ≤ 10000 := by decide
  rcases hd with ⟨h7, hx⟩ | ⟨h7, F, hF, hx⟩
  · subst h7
    refine br_f bb_10 (br_t rfl ?_)
    unfold wL_lawOf_106
    exact bb_post2 hA hx (br_t rfl (br_f (by decide) (bb_l133 (D := 0) (X := 0) hA (by omega) l0 l1 (Or.inl ⟨rfl, rfl, hx⟩) ⟨hb, hf, t0, Or.inl ⟨rfl, rfl, hc⟩⟩ H)))
  · subst h7 hx
    have hn : ∀ z : Int32, z = 0 → (1 : Int32) = 0 ∧ z = 0 ∧ (nI F < 0 ∨ 48 ≤ nI F) ∨ (1 : Int32) = 1 ∧ ∃ F', F' < 48 ∧ nI F = nI F' ∧ (z = 1 → F' = 0) := fun z e => Or.inr ⟨rfl, F, hF, rfl, fun z1 => absurd (z1.symm.trans e) bb_10⟩
    rcases hg with ⟨hz0, h⟩ | ⟨hz0, h0, h1, h2⟩
    · subst hz0
      refine br_f bb_10 (br_f bb_10 (br_t rfl ?_))
      unfold wL_lawOf_106
      exact bb_post3 hA hF h (br_t rfl (br_f (by decide) (bb_l133 (D := 0) (X := 0) hA (by omega) l0 l1 (hn 0 rfl) ⟨hb, hf, t0, Or.inl ⟨rfl, rfl, hc⟩⟩ H)))
    · subst hz0
      refine br_f bb_10 (br_f bb_10 (br_f bb_10 (br_c (fun g => ?_) (fun g => ?_))))
      · have p : 0 < x2 := by
          rcases bb_tot1 h0 with q | q
          · exact absurd g (Int32.not_le.mpr q)
          · exact Int32.lt_of_lt_of_le (by decide) q
        unfold wL_lawOf_106
        refine bb_post0 hA hF hc hb h0 h1 h2 p hz (fun a6 a7 a8 h => br_t rfl (br_t rfl (bb_l133 (D := F) (X := x2) hA hF g h2 (Or.inr ⟨rfl, F, hF, rfl, fun _ => rfl⟩) ?_ H)))
        exact ⟨hb, hf, h, Or.inr ⟨rfl, p, rfl, rfl, pk_us, pk_us, pk_us, pk_us⟩⟩
      · unfold wL_lawOf_106
        exact bb_post5 hA hF hc hb h0 h1 h2 g hf t0 (fun wc wl wa => br_t rfl (br_f (by decide) (bb_l133 (D := 0) (X := 0) hA (by omega) l0 l1 (hn 0 rfl) ⟨hb, hf, t0, Or.inl ⟨rfl, rfl, hc⟩⟩ H)))
theorem bb_l40 {c lg mr b wc wl wa : Int32} {a1 a2 a3 a4 a5 a6 a7 a8 a9 : Nat → Int32} {A : Nat} {x1 x2 x3 x4 x7 : Int32} (hA : A < 4) (hc : c = 0) (hb : b = 0) (hf : a5 A = 0) (hz : ∀ m, m < 128 → a6 (128 * A + m) = 0 ∧ a7 (128 * A + m) = 0)
    (hd : (x7 = 0 ∧ (x1 < 0 ∨ 48 ≤ x1)) ∨ (x7 = 1 ∧ ∃ F, F < 48 ∧ x1 = nI F)) (H : post 1 ()) : wL_lawOf_40 post mc ms (nI A) x1 x2 x3 x4 1 x7 kc ks c lg mr b wc wl wa a1 a2 a3 a4 a5 a6 a7 a8 a9 :=
  br_c (fun g => bb_l65 hA hc hb hf hz hd (Or.inl ⟨rfl, Or.inl g⟩) H) (fun g => br_c (fun g1 => bb_l65 hA hc hb hf hz hd (Or.inl ⟨rfl, Or.inr (Or.inl g1)⟩) H) (fun g1 => br_c (fun g2 => bb_l65 hA hc hb hf hz hd (Or.inl ⟨rfl, Or.inr (Or.inr (Int32.not_le.mpr g2))⟩) H) (fun g2 => bb_l65 hA hc hb hf hz hd (Or.inr ⟨rfl, g, g1, Int32.not_lt.mp g2⟩) H)))
theorem bb_l23 {c lg mr b wc wl wa : Int32} {a1 a2 a3 a4 a5 a6 a7 a8 a9 : Nat → Int32} {A : Nat} {x1 x2 x3 x4 : Int32} (hA : A < 4) (hc : c = 0) (hb : b = 0) (hf : a5 A = 0) (hz : ∀ m, m < 128 → a6 (128 * A + m) = 0 ∧ a7 (128 * A + m) = 0) (H : post 1 ()) : wL_lawOf_23 post mc ms (nI A) x1 x2 x3 x4 1 kc ks c lg mr b wc wl wa a1 a2 a3 a4 a5 a6 a7 a8 a9 := by
  refine br_c (fun g => bb_l40 hA hc hb hf hz (Or.inl ⟨rfl, Or.inl g⟩) H) (fun g => br_c (fun g1 => bb_l40 hA hc hb hf hz (Or.inl ⟨rfl, Or.inr ?_⟩) H) (fun g1 => bb_l40 hA hc hb hf hz (Or.inr ⟨rfl, ?_⟩) H))
  · rw [Int32.lt_iff_toInt_lt] at g1
    rw [Int32.le_iff_toInt_le]
    have q : (48 : Int32).toInt = 48 := by decide
    have q1 : (47 : Int32).toInt = 47 := by decide
    omega
  · obtain ⟨j, hj, e⟩ := nI_of2 (M := 47) (n := 47) (by decide) g (Int32.not_lt.mp g1)
    exact ⟨j, by omega, e⟩
/-- a bad account -/
theorem bb_b106 {c lg mr b wc wl wa : Int32} {a1 a2 a3 a4 a5 a6 a7 a8 a9 : Nat → Int32} {x0 x1 x2 x3 x4 x7 : Int32} (h : x0 < 0 ∨ 4 ≤ x0) (hc : c = 0) (H : post 1 ()) : wL_lawOf_106 post mc ms x0 x1 x2 x3 x4 0 x7 (-1) kc ks c lg mr b wc wl wa a1 a2 a3 a4 a5 a6 a7 a8 a9 := by
  have h4 : x4 < 0 ∨ c ≤ x4 := by rw [hc]; exact bb_tot x4
  have l273 : ∀ x11, wL_lawOf_273 post mc ms x0 x2 x4 0 0 x11 0 kc ks c lg mr b wc wl wa a1 a2 a3 a4 a5 a6 a7 a8 a9 := by
    intro x11
    unfold wL_lawOf_273
    exact bb_freeN h (br_t rfl (br_t rfl (br_t rfl (bb_l316n h4 H))))
  have l207 : ∀ x11 z, wL_lawOf_207 post mc ms x0 x2 x3 x4 0 0 x11 z kc ks c lg mr b wc wl wa a1 a2 a3 a4 a5 a6 a7 a8 a9 := by
    intro x11 z
    unfold wL_lawOf_207
    exact bb_flrN h (br_t rfl (br_t rfl (br_t rfl (l273 x11))))
  have l186 : wL_lawOf_186 post mc ms x0 x2 x3 x4 0 0 0 kc ks c lg mr b wc wl wa a1 a2 a3 a4 a5 a6 a7 a8 a9 := br_c (fun _ => l207 0 0) (fun _ => br_c (fun _ => l207 0 0) (fun _ => l207 0 1))
  unfold wL_lawOf_106
  refine bb_post1 h (br_t rfl (br_f (by decide) ?_))
  unfold wL_lawOf_133
  exact bb_balN h (br_t rfl (br_t rfl (br_t rfl l186)))
theorem bb_b23 {c lg mr b wc wl wa : Int32} {a1 a2 a3 a4 a5 a6 a7 a8 a9 : Nat → Int32} {x0 x1 x2 x3 x4 : Int32} (h : x0 < 0 ∨ 4 ≤ x0) (hc : c = 0) (H : post 1 ()) : wL_lawOf_23 post mc ms x0 x1 x2 x3 x4 0 kc ks c lg mr b wc wl wa a1 a2 a3 a4 a5 a6 a7 a8 a9 := by
  have l65 : ∀ x7 z, wL_lawOf_65 post mc ms x0 x1 x2 x3 x4 0 x7 z kc ks c lg mr b wc wl wa a1 a2 a3 a4 a5 a6 a7 a8 a9 := fun x7 z => br_t rfl (bb_b106 h hc H)
  have l40 : ∀ x7, wL_lawOf_40 post mc ms x0 x1 x2 x3 x4 0 x7 kc ks c lg mr b wc wl wa a1 a2 a3 a4 a5 a6 a7 a8 a9 := fun x7 => br_c (fun _ => l65 x7 0) (fun _ => br_c (fun _ => l65 x7 0) (fun _ => br_c (fun _ => l65 x7 0) (fun _ => l65 x7 1)))
  exact br_c (fun _ => l40 0) (fun _ => br_c (fun _ => l40 0) (fun _ => l40 1))
end
end
section
theorem bb_lawOf (p0 p1 p2 p3 p4 : Int32) : wpL_lawOf (fun r _ => r = 1) 926 14816 () p0 p1 p2 p3 p4 := by
  refine ⟨by omega, by omega, 925, 14800, by omega, by omega, ?_⟩
  unfold wpX_init
  refine ⟨by omega, by omega, by omega, by omega, by omega, by omega, by omega, by omega, by omega, by omega, by omega, by omega, by omega, by omega, by omega, by omega, by omega, by omega, ?_⟩
  refine br_c (fun g => bb_b23 (Or.inl g) rfl rfl) (fun g => br_c (fun g1 => bb_b23 (Or.inr ?_) rfl rfl) (fun g1 => ?_))
  · rw [Int32.lt_iff_toInt_lt] at g1
    rw [Int32.le_iff_toInt_le]
    have q : (3 : Int32).toInt = 3 := by decide
    have q1 : (4 : Int32).toInt = 4 := by decide
    omega
  · obtain ⟨j, hj, e⟩ := nI_of2 (M := 3) (n := 3) (by decide) g (Int32.not_lt.mp g1)
    subst e
    exact bb_l23 (by omega) rfl rfl rfl (fun _ _ => ⟨rfl, rfl⟩) rfl
theorem bb_cell {post : Int32 → Prop} {L : Nat} {xs : Nat → Int32} {p : Int32} (k : Nat) (hL : L ≤ 5) (hk : k < 5) (hp : p = nI k) (H : ∀ r, post r) : wpL_cellAt post L xs () p :=
  pk_le L k (fun _ => H 0) (fun z => ⟨pk_in k L z hp, H _⟩) rfl hp
theorem i_vc (xs : Nat → Int32) (L : Nat) (hL : L ≤ 5) : wpL_law (fun r => r = 1) L xs := by
  unfold wpL_law
  exact bb_cell 0 hL (by omega) rfl (fun r1 => bb_cell 1 hL (by omega) rfl (fun r2 => bb_cell 2 hL (by omega) rfl (fun r3 => bb_cell 3 hL (by omega) rfl (fun r4 => bb_cell 4 hL (by omega) rfl (fun r5 => ⟨926, 14816, by omega, by omega, bb_lawOf r1 r2 r3 r4 r5⟩)))))
end
