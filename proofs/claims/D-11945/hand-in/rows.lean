section
/-! ===== 01: small numbers, packed, ones, entryFor, isGood ===== -/
/-- the parents' sets of the law's object: only variable 2 has parents, 0 and 1 -/
def bq_P : Nat → Int32 := upd (fun _ => 0) 2 3
def bq_par (v : Nat) : Nat := if v = 2 then 3 else 0
def bq_cnt (s : Nat) : Nat := s % 2 + s / 2 % 2 + s / 4 % 2
/-- the bits of x at the members of s, moved together -/
def bq_pk (x s : Nat) : Nat := s % 2 * (x % 2) + s / 2 % 2 * (x / 2 % 2) * 2 ^ (s % 2) + s / 4 % 2 * (x / 4 % 2) * 2 ^ (s % 2 + s / 2 % 2)
/-- the k-th subset of s -/
def bq_sub (s k : Nat) : Nat := s % 2 * (k % 2) + s / 2 % 2 * 2 * (k / 2 ^ (s % 2) % 2) + s / 4 % 2 * 4 * (k / 2 ^ (s % 2 + s / 2 % 2) % 2)
/-- s without v -/
def bq_cl (s v : Nat) : Nat := s - s / 2 ^ v % 2 * 2 ^ v
def bq_ix (v x : Nat) : Nat := 16 * v + 2 * bq_pk x (bq_par v) + x / 2 ^ v % 2
theorem bq_P_at : ∀ v, v < 3 → bq_P v = nI (bq_par v) := by decide +kernel
theorem bq_par8 : ∀ v, v < 3 → bq_par v < 8 := by decide +kernel
theorem bq_or : ∀ a, a < 8 → ∀ b, b < 8 → nI a ||| nI b = nI (a ||| b) ∧ a ||| b < 8 := by decide +kernel
theorem bq_bit : ∀ v, v < 3 → ∀ s, s < 8 → (nI s >>> (nI v &&& 31)) &&& 1 = nI (s / 2 ^ v % 2) := by decide +kernel
theorem bq_shl1 : ∀ v, v < 3 → (1 : Int32) <<< (nI v &&& 31) = nI (2 ^ v) ∧ 2 ^ v < 8 := by decide +kernel
theorem bq_clr : ∀ v, v < 3 → ∀ s, s < 8 → nI s &&& (nI (2 ^ v) ^^^ (-1)) = nI (bq_cl s v) ∧ bq_cl s v < 8 := by decide +kernel
theorem bq_cnt4 : ∀ s, s < 8 → bq_cnt s < 4 ∧ 2 ^ bq_cnt s ≤ 8 ∧ 0 < 2 ^ bq_cnt s := by decide +kernel
theorem bq_pkb : ∀ s, s < 8 → ∀ x, x < 8 → bq_pk x s < 2 ^ bq_cnt s := by decide +kernel
theorem bq_sub0 : ∀ s, s < 8 → bq_sub s 0 = 0 := by decide +kernel
theorem bq_sub_f : ∀ s, s < 8 → ∀ k, k < 2 ^ bq_cnt s → bq_sub s k < 8 ∧ bq_pk (bq_sub s k) s = k := by decide +kernel
theorem bq_sub_e : ∀ s, s < 8 → bq_sub s (2 ^ bq_cnt s - 1) = s := by decide +kernel
theorem bq_sub_n : ∀ s, s < 8 → ∀ k, k < 2 ^ bq_cnt s - 1 → bq_sub s k ≠ s ∧ (nI (bq_sub s k) - nI s) &&& nI s = nI (bq_sub s (k + 1)) := by decide +kernel
/-! packed -/
def bq_pkR (x0 x1 : Int32) : Nat → Int32 → Int32 → Int32 → Option Int32
  | 0 => fun _ _ _ => none
  | n + 1 => fun x2 x3 x4 => if 7 ≤ x4 then some x2 else if ((x1 >>> (x4 &&& 31)) &&& 1) = 1 then bq_pkR x0 x1 n (x2 ||| (((x0 >>> (x4 &&& 31)) &&& 1) <<< (x3 &&& 31))) (x3 + 1) (x4 + 1) else bq_pkR x0 x1 n x2 x3 (x4 + 1)
theorem bq_pkW {post : Int32 → Prop} {x0 x1 r : Int32} (hp : post r) : ∀ (n : Nat) (x2 x3 x4 : Int32), bq_pkR x0 x1 n x2 x3 x4 = some r → wX_packed_7 post x0 x1 n x2 x3 x4 := by
  intro n
  induction n with
  | zero => intro x2 x3 x4 h; exact absurd h (by simp [bq_pkR])
  | succ n ih =>
    intro x2 x3 x4 h
    simp only [bq_pkR] at h
    refine br_c (fun c => ?_) (fun c => ?_)
    · rw [if_pos c] at h
      exact (Option.some.inj h) ▸ hp
    · rw [if_neg c] at h
      refine br_c (fun d => ?_) (fun d => ?_)
      · rw [if_pos d] at h
        exact nm_e (nm_e (nm_e (ih _ _ _ h)))
      · rw [if_neg d] at h
        exact nm_e (ih _ _ _ h)
theorem bq_pk_run : ∀ x, x < 8 → ∀ s, s < 8 → bq_pkR (nI x) (nI s) 8 0 0 0 = some (nI (bq_pk x s)) := by decide +kernel
theorem bq_packed {post : Int32 → Prop} (x s : Nat) (hx : x < 8) (hs : s < 8) (h : post (nI (bq_pk x s))) : wpX_packed post () (nI x) (nI s) := ⟨8, bq_pkW h 8 0 0 0 (bq_pk_run x hx s hs)⟩
/-! ones -/
def bq_onR (x0 : Int32) : Nat → Int32 → Int32 → Option Int32
  | 0 => fun _ _ => none
  | n + 1 => fun x1 x2 => if 7 ≤ x2 then some x1 else bq_onR x0 n (x1 + ((x0 >>> (x2 &&& 31)) &&& 1)) (x2 + 1)
theorem bq_onW {post : Int32 → Prop} {x0 r : Int32} (hp : post r) : ∀ (n : Nat) (x1 x2 : Int32), bq_onR x0 n x1 x2 = some r → wX_ones_4 post x0 n x1 x2 := by
  intro n
  induction n with
  | zero => intro x1 x2 h; exact absurd h (by simp [bq_onR])
  | succ n ih =>
    intro x1 x2 h
    simp only [bq_onR] at h
    refine br_c (fun c => ?_) (fun c => ?_)
    · rw [if_pos c] at h
      exact (Option.some.inj h) ▸ hp
    · rw [if_neg c] at h
      exact nm_e (nm_e (ih _ _ h))
theorem bq_on_run : ∀ s, s < 8 → bq_onR (nI s) 8 0 0 = some (nI (bq_cnt s)) := by decide +kernel
theorem bq_ones {post : Int32 → Prop} (s : Nat) (hs : s < 8) (h : post (nI (bq_cnt s))) : wpX_ones post () (nI s) := ⟨8, bq_onW h 8 0 0 (bq_on_run s hs)⟩
/-! entryFor, isGood -/
theorem bq_ef_ix : ∀ v, v < 3 → ∀ x, x < 8 → ((16 * nI v) + (2 * nI (bq_pk x (bq_par v)))) + ((nI x >>> (nI v &&& 31)) &&& 1) = nI (bq_ix v x) ∧ bq_ix v x < 112 := by decide +kernel
theorem bq_entryFor {post : Int32 → Prop} {f g : Int32} {a2 a3 a4 a5 : Nat → Int32} {a6 : Nat → Int64} {a7 : Nat → Int32} (v x : Nat) (hv : v < 3) (hx : x < 8) (h : post (a2 (bq_ix v x))) : wpX_entryFor post (3, f, g, bq_P, a2, a3, a4, a5, a6, a7) (nI v) (nI x) := by
  have e := bq_ef_ix v hv x hx
  unfold wpX_entryFor
  try dsimp only
  rw [nI_clamp (show v < 2 ^ 31 by omega), bq_P_at v hv]
  refine ⟨pk_in v 7 (by omega), bq_packed x (bq_par v) hx (bq_par8 v hv) ?_⟩
  try dsimp only
  rw [e.1, nI_clamp (show bq_ix v x < 2 ^ 31 by omega)]
  exact ⟨pk_in _ 112 e.2, h⟩
theorem bq_good {post : Int32 → Prop} {f g : Int32} {a1 a2 a3 a4 a5 : Nat → Int32} {a6 : Nat → Int64} {a7 : Nat → Int32} (v : Nat) (hv : v < 3) (h : post 1) : wpX_isGood post (3, f, g, a1, a2, a3, a4, a5, a6, a7) (nI v) := by
  unfold wpX_isGood
  try dsimp only
  exact pk_lt v 0 (fun z => absurd z (by omega)) (fun _ => pk_le 3 v (fun z => absurd z (by omega)) (fun _ => h))
end
section
/-! ===== 02: the factors as a picture; makeTable, jointScope, cheapest, joined, takeOut ===== -/
/-- a function with one place set -/
def bq_x {α : Type} (f : Nat → α) (k : Nat) (y : α) : Nat → α := fun j => if j = k then y else f j
theorem bq_x_s {α : Type} {f : Nat → α} {k : Nat} {y : α} : bq_x f k y k = y := if_pos rfl
theorem bq_x_n {α : Type} {f : Nat → α} {k j : Nat} {y : α} (h : j ≠ k) : bq_x f k y j = f j := if_neg h
/-- an array of longs with the k places from b on filled by g -/
def bq_fl (a : Nat → Int64) (b : Nat) (g : Nat → Int64) (k : Nat) : Nat → Int64 := fun j => if b ≤ j ∧ j < b + k then g (j - b) else a j
theorem bq_fl_0 (a : Nat → Int64) (b : Nat) (g : Nat → Int64) : bq_fl a b g 0 = a := funext fun j => if_neg (by omega)
theorem bq_fl_s (a : Nat → Int64) (b : Nat) (g : Nat → Int64) (k : Nat) : vp_updL (bq_fl a b g k) (b + k) (g k) = bq_fl a b g (k + 1) := by
  funext j
  unfold vp_updL bq_fl
  by_cases e : j = b + k
  · rw [if_pos e, if_pos (by omega), e, Nat.add_sub_cancel_left]
  · rw [if_neg e]
    by_cases c : b ≤ j ∧ j < b + k
    · rw [if_pos c, if_pos (by omega)]
    · rw [if_neg c, if_neg (by omega)]
theorem bq_fl_in {a : Nat → Int64} {b : Nat} {g : Nat → Int64} {k i : Nat} (h : i < k) : bq_fl a b g k (b + i) = g i := by
  unfold bq_fl
  rw [if_pos (by omega), Nat.add_sub_cancel_left]
theorem bq_fl_out {a : Nat → Int64} {b : Nat} {g : Nat → Int64} {k j : Nat} (h : j < b) : bq_fl a b g k j = a j := if_neg (by omega)
/-- the picture: F factors, their scopes, whether used, their values -/
def bq_R (F : Nat) (sc us : Nat → Nat) (va : Nat → Nat → Int64) (a5 : Nat → Int32) (a6 : Nat → Int64) (a7 : Nat → Int32) : Prop :=
  ∀ j, j < F → a5 j = nI (sc j) ∧ a7 j = nI (us j) ∧ sc j < 8 ∧ us j < 2 ∧ ∀ k, k < 2 ^ bq_cnt (sc j) → a6 (128 * j + k) = va j k
theorem bq_R0 {sc us : Nat → Nat} {va : Nat → Nat → Int64} {a5 : Nat → Int32} {a6 : Nat → Int64} {a7 : Nat → Int32} : bq_R 0 sc us va a5 a6 a7 := fun j h => absurd h (by omega)
theorem bq_R_add {F s : Nat} {sc us : Nat → Nat} {va : Nat → Nat → Int64} {a5 : Nat → Int32} {a6 : Nat → Int64} {a7 : Nat → Int32} {G : Nat → Int64} (h : bq_R F sc us va a5 a6 a7) (hs : s < 8) :
    bq_R (F + 1) (bq_x sc F s) (bq_x us F 1) (bq_x va F G) (upd a5 F (nI s)) (bq_fl a6 (128 * F) G (2 ^ bq_cnt s)) (upd a7 F 1) := by
  intro j hj
  by_cases e : j = F
  · subst e
    rw [bq_x_s, bq_x_s, bq_x_s, pk_us, pk_us]
    exact ⟨rfl, rfl, hs, by omega, fun k hk => bq_fl_in hk⟩
  · rw [bq_x_n e, bq_x_n e, bq_x_n e, pk_un e, pk_un e]
    have hj' : j < F := by omega
    obtain ⟨h5, h7, h8, h2, h6⟩ := h j hj'
    refine ⟨h5, h7, h8, h2, fun k hk => ?_⟩
    have := (bq_cnt4 _ h8).2.1
    rw [bq_fl_out (by omega)]
    exact h6 k hk
theorem bq_R_fl {F n : Nat} {sc us : Nat → Nat} {va : Nat → Nat → Int64} {a5 : Nat → Int32} {a6 : Nat → Int64} {a7 : Nat → Int32} {G : Nat → Int64} (h : bq_R F sc us va a5 a6 a7) : bq_R F sc us va a5 (bq_fl a6 (128 * F) G n) a7 := by
  intro j hj
  obtain ⟨h5, h7, h8, h2, h6⟩ := h j hj
  refine ⟨h5, h7, h8, h2, fun k hk => ?_⟩
  have := (bq_cnt4 _ h8).2.1
  rw [bq_fl_out (by omega)]
  exact h6 k hk
theorem bq_idx (F k : Nat) : (128 * nI F) + nI k = nI (128 * F + k) := by
  rw [show (128 : Int32) = nI 128 from rfl, pk_mul, nI_add]
/-! makeTable -/
theorem bq_mt41 {post : St2 → Prop} {g : Int32} {a2 a3 a4 a5 : Nat → Int32} {a6 : Nat → Int64} {a7 : Nat → Int32} (v st s F : Nat) (hv : v < 3) (hst : st < 8) (hs : s < 8) (hF : F < 15)
    (H : post (3, nI (F + 1), g, bq_P, a2, a3, a4, a5, bq_fl a6 (128 * F) (fun k => (a2 (bq_ix v (bq_sub s k ||| st))).toInt64) (2 ^ bq_cnt s), a7)) :
    ∃ n, wX_makeTable_41 post (nI v) (nI st) (nI s) 3 (nI F) g n 0 0 bq_P a2 a3 a4 a5 a6 a7 := by
  have c8 := bq_cnt4 s hs
  have body : ∀ n i, i < 2 ^ bq_cnt s →
      (∀ a6' : Nat → Int64, a6' = bq_fl a6 (128 * F) (fun k => (a2 (bq_ix v (bq_sub s k ||| st))).toInt64) (i + 1) →
        ((nI (bq_sub s i) = nI s → (∀ f_16 : Int32, f_16 = nI F + 1 → post (3, f_16, g, bq_P, a2, a3, a4, a5, a6', a7))) ∧
         (¬ nI (bq_sub s i) = nI s → (∀ x5_14 : Int32, x5_14 = (nI (bq_sub s i) - nI s) &&& nI s → (∀ x6_15 : Int32, x6_15 = nI i + 1 → wX_makeTable_41 post (nI v) (nI st) (nI s) 3 (nI F) g n x5_14 x6_15 bq_P a2 a3 a4 a5 a6' a7))))) →
      wX_makeTable_41 post (nI v) (nI st) (nI s) 3 (nI F) g (n + 1) (nI (bq_sub s i)) (nI i) bq_P a2 a3 a4 a5 (bq_fl a6 (128 * F) (fun k => (a2 (bq_ix v (bq_sub s k ||| st))).toInt64) i) a7 := by
    intro n i hi K
    have f1 := bq_sub_f s hs i hi
    have f2 := bq_or _ f1.1 st hst
    refine pk_le 128 i (fun z => absurd z (by omega)) (fun _ => ?_)
    refine bq_packed (bq_sub s i) s f1.1 hs ?_
    try dsimp only
    rw [f1.2, f2.1]
    refine bq_entryFor v _ hv f2.2 ?_
    try dsimp only
    rw [bq_idx, nI_clamp (show 128 * F + i < 2 ^ 31 by omega)]
    exact ⟨pk_in (128 * F + i) 1920 (by omega), fun a6' ea => K a6' (ea.trans (bq_fl_s a6 (128 * F) (fun k => (a2 (bq_ix v (bq_sub s k ||| st))).toInt64) i))⟩
  refine Exists.elim (pk_loop (fun n i b => wX_makeTable_41 post (nI v) (nI st) (nI s) 3 (nI F) g n (nI (bq_sub s i)) (nI i) bq_P a2 a3 a4 a5 b a7)
    (fun i b => b = bq_fl a6 (128 * F) (fun k => (a2 (bq_ix v (bq_sub s k ||| st))).toInt64) i) (2 ^ bq_cnt s - 1) 0 a6 (by omega) (bq_fl_0 _ _ _).symm ?_ ?_) (fun n hn => ⟨n, ?_⟩)
  · intro n b hb
    subst hb
    refine body n _ (by omega) (fun a6' ea => ?_)
    rw [show 2 ^ bq_cnt s - 1 + 1 = 2 ^ bq_cnt s by omega] at ea
    refine br_t (by rw [bq_sub_e s hs]) (nm_r (nI_1 F) ?_)
    rw [ea]
    exact H
  · intro n i b hi hb hw
    subst hb
    refine body n i (by omega) (fun a6' ea => ?_)
    have q := bq_sub_n s hs i hi
    have f1 := bq_sub_f s hs i (by omega)
    refine br_f (fun z => q.1 ((nI_eq (by omega) (by omega)).mp z)) (nm_r q.2 (nm_r (nI_1 i) ?_))
    exact hw a6' ea
  · have hn' : wX_makeTable_41 post (nI v) (nI st) (nI s) 3 (nI F) g n (nI (bq_sub s 0)) (nI 0) bq_P a2 a3 a4 a5 a6 a7 := hn
    rw [bq_sub0 s hs] at hn'
    exact hn'
def bq_scp (v : Nat) : Nat := bq_par v ||| 2 ^ v
theorem bq_scp8 : ∀ v, v < 3 → nI (bq_par v) ||| nI (2 ^ v) = nI (bq_scp v) ∧ bq_scp v < 8 := by decide +kernel
theorem bq_and : ∀ a, a < 8 → ∀ b, b < 8 → nI a &&& nI b = nI (a &&& b) ∧ a &&& b < 8 := by decide +kernel
theorem bq_makeTable {post : St2 → Prop} {g : Int32} {a2 a3 a4 a5 : Nat → Int32} {a6 : Nat → Int64} {a7 : Nat → Int32} (v o st F : Nat) (hv : v < 3) (ho : o < 8) (hst : st < 8) (hF : F < 15)
    (H : post (3, nI (F + 1), g, bq_P, a2, a3, a4, upd a5 F (nI (bq_scp v &&& o)), bq_fl a6 (128 * F) (fun k => (a2 (bq_ix v (bq_sub (bq_scp v &&& o) k ||| st))).toInt64) (2 ^ bq_cnt (bq_scp v &&& o)), upd a7 F 1)) :
    wpX_makeTable post (3, nI F, g, bq_P, a2, a3, a4, a5, a6, a7) (nI v) (nI o) (nI st) := by
  have e1 := bq_scp8 v hv
  have e2 := bq_and _ e1.2 o ho
  unfold wpX_makeTable
  try dsimp only
  rw [nI_clamp (show v < 2 ^ 31 by omega), nI_clamp (show F < 2 ^ 31 by omega), bq_P_at v hv, (bq_shl1 v hv).1, e1.1, e2.1]
  exact ⟨pk_in v 7 (by omega), nm_e ⟨pk_in F 15 (by omega), nm_e ⟨pk_in F 15 (by omega), nm_e (bq_mt41 v st _ F hv hst e2.2 hF H)⟩⟩⟩
/-! jointScope -/
def bq_js (sc us : Nat → Nat) (v : Nat) : Nat → Nat
  | 0 => 0
  | f + 1 => if us f = 0 then bq_js sc us v f else if sc f / 2 ^ v % 2 = 1 then bq_js sc us v f ||| sc f else bq_js sc us v f
theorem bq_js8 {sc us : Nat → Nat} {v : Nat} : ∀ F, (∀ j, j < F → sc j < 8) → bq_js sc us v F < 8 := by
  intro F
  induction F with
  | zero => intro _; exact (by decide : (0 : Nat) < 8)
  | succ F ih =>
    intro h
    have i := ih (fun j hj => h j (by omega))
    unfold bq_js
    split
    · exact i
    · split
      · exact (bq_or _ i _ (h F (by omega))).2
      · exact i
theorem bq_joint {post : Int32 → Prop} {g : Int32} {a1 a2 a3 a4 a5 : Nat → Int32} {a6 : Nat → Int64} {a7 : Nat → Int32} {sc us : Nat → Nat} {va : Nat → Nat → Int64} (v F : Nat) (hv : v < 3) (hF : F ≤ 15) (R : bq_R F sc us va a5 a6 a7) (H : post (nI (bq_js sc us v F))) :
    wpX_jointScope post (3, nI F, g, a1, a2, a3, a4, a5, a6, a7) (nI v) := by
  unfold wpX_jointScope
  try dsimp only
  refine pk_loop (σ := Unit) (fun n i _ => wX_jointScope_4 post (nI v) 3 (nI F) g a1 a2 a3 a4 a5 a6 a7 n (nI (bq_js sc us v i)) (nI i)) (fun _ _ => True) F 0 () (by omega) trivial ?_ ?_
  · intro n _ _
    exact pk_le F F (fun _ => H) (fun z => absurd z (by omega))
  · intro n i _ hi _ hw
    have hw' := hw () trivial
    obtain ⟨h5, h7, h8, h2, h6⟩ := R i hi
    have j8 : bq_js sc us v i < 8 := bq_js8 i (fun j hj => (R j (by omega)).2.2.1)
    refine pk_le F i (fun z => absurd z (by omega)) (fun _ => ⟨pk_in i 15 (by omega), ?_⟩)
    rw [nI_clamp (show i < 2 ^ 31 by omega), h7, h5, bq_bit v hv _ h8]
    simp only [bq_js] at hw'
    refine pk_eq (us i) 0 (fun z => ?_) (fun z => ⟨pk_in i 15 (by omega), pk_eq (sc i / 2 ^ v % 2) 1 (fun y => ⟨pk_in i 15 (by omega), ?_⟩) (fun y => ?_)⟩)
    · rw [if_pos z] at hw'
      exact nm_r (nI_1 i) hw'
    · rw [if_neg z, if_pos y] at hw'
      exact nm_r (bq_or _ j8 _ h8).1 (nm_r (nI_1 i) hw')
    · rw [if_neg z, if_neg y] at hw'
      exact nm_r (nI_1 i) hw'
/-! cheapest: the first component is the best variable and one, 0 where there is none -/
def bq_ch (o : Nat) (sz : Nat → Nat) : Nat → Nat × Nat
  | 0 => (0, 0)
  | v + 1 => if o / 2 ^ v % 2 = 1 then (if (bq_ch o sz v).1 = 0 ∨ sz v < (bq_ch o sz v).2 then (v + 1, sz v) else bq_ch o sz v) else bq_ch o sz v
theorem bq_ch_b {o : Nat} {sz : Nat → Nat} (hsz : ∀ v, sz v < 4) : ∀ v, (bq_ch o sz v).1 ≤ v ∧ (bq_ch o sz v).2 < 4 := by
  intro v
  induction v with
  | zero => exact ⟨Nat.le_refl 0, (by decide : (0 : Nat) < 4)⟩
  | succ v ih =>
    unfold bq_ch
    split
    · split
      · exact ⟨Nat.le_refl _, hsz v⟩
      · exact ⟨by omega, ih.2⟩
    · exact ⟨by omega, ih.2⟩
theorem bq_ch_pos {o : Nat} {sz : Nat → Nat} (ho : o < 8) (h0 : o ≠ 0) : (bq_ch o sz 3).1 ≠ 0 := by
  have hk : ∀ v, o / 2 ^ v % 2 = 1 → (bq_ch o sz (v + 1)).1 ≠ 0 := by
    intro v hv
    simp only [bq_ch]
    rw [if_pos hv]
    split
    · exact Nat.succ_ne_zero v
    · rename_i z
      exact fun y => z (Or.inl y)
  have hm : ∀ v, (bq_ch o sz v).1 ≠ 0 → (bq_ch o sz (v + 1)).1 ≠ 0 := by
    intro v hv
    simp only [bq_ch]
    split
    · split
      · exact Nat.succ_ne_zero v
      · exact hv
    · exact hv
  by_cases b2 : o / 2 ^ 2 % 2 = 1
  · exact hk 2 b2
  · by_cases b1 : o / 2 ^ 1 % 2 = 1
    · exact hm 2 (hk 1 b1)
    · by_cases b0 : o / 2 ^ 0 % 2 = 1
      · exact hm 2 (hm 1 (hk 0 b0))
      · exact absurd (show o = 0 by omega) h0
theorem bq_m1n : ∀ p, p < 4 → (nI p - 1 < 0 ↔ p = 0) := by decide +kernel
theorem bq_cheapest {post : Int32 → Prop} {g : Int32} {a1 a2 a3 a4 a5 : Nat → Int32} {a6 : Nat → Int64} {a7 : Nat → Int32} {sc us : Nat → Nat} {va : Nat → Nat → Int64} (o F : Nat) (ho : o < 8) (hF : F ≤ 15) (R : bq_R F sc us va a5 a6 a7)
    (H : post (nI (bq_ch o (fun v => bq_cnt (bq_js sc us v F)) 3).1 - 1)) :
    wpX_cheapest post (3, nI F, g, a1, a2, a3, a4, a5, a6, a7) (nI o) := by
  unfold wpX_cheapest
  try dsimp only
  have j8 : ∀ v, bq_js sc us v F < 8 := fun v => bq_js8 F (fun j hj => (R j hj).2.2.1)
  have B := bq_ch_b (o := o) (sz := fun v => bq_cnt (bq_js sc us v F)) (fun v => (bq_cnt4 _ (j8 v)).1)
  refine pk_loop (σ := Unit) (fun n i _ => wX_cheapest_7 post (nI o) 3 (nI F) g a1 a2 a3 a4 a5 a6 a7 n (nI (bq_ch o (fun v => bq_cnt (bq_js sc us v F)) i).1 - 1) (nI (bq_ch o (fun v => bq_cnt (bq_js sc us v F)) i).2) (nI i)) (fun _ _ => True) 3 0 () (by omega) trivial ?_ ?_
  · intro n _ _
    exact pk_le 3 3 (fun _ => H) (fun z => absurd z (by omega))
  · intro n i _ hi _ hw
    have hw' := hw () trivial
    have b := B i
    have b1 := B (i + 1)
    have c4 := (bq_cnt4 _ (j8 i)).1
    refine pk_le 3 i (fun z => absurd z (by omega)) (fun _ => ?_)
    rw [bq_bit i hi o ho]
    simp only [bq_ch] at hw'
    refine pk_eq (o / 2 ^ i % 2) 1 (fun y => ?_) (fun y => ?_)
    · rw [if_pos y] at hw'
      refine bq_joint i F hi hF R ?_
      refine bq_ones _ (j8 i) ?_
      refine ek_if (bq_m1n _ (by omega)) (fun z => ?_) (fun z => ?_)
      · rw [if_pos (Or.inl z)] at hw'
        rw [nI_pred] at hw'
        exact nm_r (nI_1 i) hw'
      · refine pk_le (bq_ch o (fun v => bq_cnt (bq_js sc us v F)) i).2 (bq_cnt (bq_js sc us i F)) (fun x => ?_) (fun x => ?_)
        · rw [if_neg (by omega)] at hw'
          exact nm_r (nI_1 i) hw'
        · rw [if_pos (Or.inr x)] at hw'
          rw [nI_pred] at hw'
          exact nm_r (nI_1 i) hw'
    · rw [if_neg y] at hw'
      exact nm_r (nI_1 i) hw'
/-! joined -/
def bq_jn {V : Type} (one : V) (mul : V → V → V) (sc us : Nat → Nat) (va : Nat → Nat → V) (v x : Nat) : Nat → V
  | 0 => one
  | f + 1 => if us f = 0 then bq_jn one mul sc us va v x f else if sc f / 2 ^ v % 2 = 1 then mul (bq_jn one mul sc us va v x f) (va f (bq_pk x (sc f))) else bq_jn one mul sc us va v x f
theorem bq_joined {post : Int64 → Prop} {g : Int32} {a1 a2 a3 a4 a5 : Nat → Int32} {a6 : Nat → Int64} {a7 : Nat → Int32} {sc us : Nat → Nat} {va : Nat → Nat → Int64} (v x F : Nat) (hv : v < 3) (hx : x < 8) (hF : F ≤ 15) (R : bq_R F sc us va a5 a6 a7)
    (H : post (bq_jn 1 (fun p q => p * q) sc us va v x F)) : wpX_joined post (3, nI F, g, a1, a2, a3, a4, a5, a6, a7) (nI v) (nI x) := by
  unfold wpX_joined
  try dsimp only
  refine pk_loop (σ := Unit) (fun n i _ => wX_joined_5 post (nI v) (nI x) 3 (nI F) g a1 a2 a3 a4 a5 a6 a7 n (bq_jn 1 (fun p q => p * q) sc us va v x i) (nI i)) (fun _ _ => True) F 0 () (by omega) trivial ?_ ?_
  · intro n _ _
    exact pk_le F F (fun _ => H) (fun z => absurd z (by omega))
  · intro n i _ hi _ hw
    have hw' := hw () trivial
    obtain ⟨h5, h7, h8, h2, h6⟩ := R i hi
    refine pk_le F i (fun z => absurd z (by omega)) (fun _ => ⟨pk_in i 15 (by omega), ?_⟩)
    rw [nI_clamp (show i < 2 ^ 31 by omega), h7, h5, bq_bit v hv _ h8]
    simp only [bq_jn] at hw'
    refine pk_eq (us i) 0 (fun z => ?_) (fun z => ⟨pk_in i 15 (by omega), pk_eq (sc i / 2 ^ v % 2) 1 (fun y => ⟨pk_in i 15 (by omega), ?_⟩) (fun y => ?_)⟩)
    · rw [if_pos z] at hw'
      exact nm_r (nI_1 i) hw'
    · rw [if_neg z, if_pos y] at hw'
      refine bq_packed x (sc i) hx h8 ?_
      try dsimp only
      have pb := bq_pkb (sc i) h8 x hx
      have c8 := bq_cnt4 (sc i) h8
      rw [bq_idx, nI_clamp (show 128 * i + bq_pk x (sc i) < 2 ^ 31 by omega), h6 _ pb]
      exact ⟨pk_in (128 * i + bq_pk x (sc i)) 1920 (by omega), nm_e (nm_r (nI_1 i) hw')⟩
    · rw [if_neg z, if_neg y] at hw'
      exact nm_r (nI_1 i) hw'
/-! takeOut -/
theorem bq_to131 {post : St2 → Prop} {g : Int32} {a1 a2 a3 a4 a5 : Nat → Int32} {a6 : Nat → Int64} {a7 : Nat → Int32} {sc us : Nat → Nat} (v s F : Nat) (hv : v < 3) (hF : F < 15) (h5 : ∀ j, j < F → a5 j = nI (sc j)) (h8 : ∀ j, j < F → sc j < 8) (h7 : ∀ j, j < F → a7 j = nI (us j))
    (H : ∀ b : Nat → Int32, (∀ j, j < F → b j = nI (if sc j / 2 ^ v % 2 = 1 then 0 else us j)) → post (3, nI (F + 1), g, a1, a2, a3, a4, upd a5 F (nI s), a6, upd b F 1)) :
    ∃ n, wX_takeOut_131 post (nI v) (nI s) 3 (nI F) g n 0 a1 a2 a3 a4 a5 a6 a7 := by
  refine pk_loop (fun n i b => wX_takeOut_131 post (nI v) (nI s) 3 (nI F) g n (nI i) a1 a2 a3 a4 a5 a6 b) (fun i b => ∀ j, j < F → b j = nI (if j < i ∧ sc j / 2 ^ v % 2 = 1 then 0 else us j)) F 0 a7 (by omega) ?_ ?_ ?_
  · intro j hj
    rw [if_neg (by omega)]
    exact h7 j hj
  · intro n b hb
    refine pk_le F F (fun _ => ?_) (fun z => absurd z (by omega))
    rw [nI_clamp (show F < 2 ^ 31 by omega)]
    refine ⟨pk_in F 15 (by omega), nm_e ⟨pk_in F 15 (by omega), nm_e (nm_r (nI_1 F) (H b (fun j hj => ?_)))⟩⟩
    rw [hb j hj]
    by_cases c : sc j / 2 ^ v % 2 = 1
    · rw [if_pos c, if_pos ⟨hj, c⟩]
    · rw [if_neg c, if_neg (fun z => c z.2)]
  · intro n i b hi hb hw
    refine pk_le F i (fun z => absurd z (by omega)) (fun _ => ⟨pk_in i 15 (by omega), ?_⟩)
    rw [nI_clamp (show i < 2 ^ 31 by omega), h5 i hi, bq_bit v hv _ (h8 i hi)]
    refine pk_eq (sc i / 2 ^ v % 2) 1 (fun y => ⟨pk_in i 15 (by omega), nm_e (nm_r (nI_1 i) (hw _ (fun j hj => ?_)))⟩) (fun y => nm_r (nI_1 i) (hw _ (fun j hj => ?_)))
    · by_cases e : j = i
      · subst e
        rw [pk_us, if_pos ⟨by omega, y⟩]
        rfl
      · rw [pk_un e, hb j hj]
        by_cases c : j < i ∧ sc j / 2 ^ v % 2 = 1
        · rw [if_pos c, if_pos ⟨by omega, c.2⟩]
        · rw [if_neg c, if_neg (fun z => c ⟨by omega, z.2⟩)]
    · rw [hb j hj]
      by_cases c : j < i ∧ sc j / 2 ^ v % 2 = 1
      · rw [if_pos c, if_pos ⟨by omega, c.2⟩]
      · rw [if_neg c, if_neg]
        intro z
        by_cases e : j = i
        · subst e
          exact y z.2
        · exact c ⟨by omega, z.2⟩
/-- the sum, or the greater -/
def bq_op (g : Int32) (x y : Int64) : Int64 := if g = 0 then x + y else if x ≤ y then y else x
/-- a new factor's values -/
def bq_nw {V : Type} (one : V) (mul op : V → V → V) (sc us : Nat → Nat) (va : Nat → Nat → V) (v s F : Nat) : Nat → V := fun k => op (bq_jn one mul sc us va v (bq_sub s k) F) (bq_jn one mul sc us va v (bq_sub s k ||| 2 ^ v) F)
/-- which factors stay in use -/
def bq_un (sc us : Nat → Nat) (v : Nat) : Nat → Nat := fun j => if sc j / 2 ^ v % 2 = 1 then 0 else us j
theorem bq_to20 {post : St2 → Prop} {g : Int32} {a1 a2 a3 a4 a5 : Nat → Int32} {a6 : Nat → Int64} {a7 : Nat → Int32} {sc us : Nat → Nat} {va : Nat → Nat → Int64} (v s F : Nat) (hv : v < 3) (hs : s < 8) (hF : F < 15) (R : bq_R F sc us va a5 a6 a7)
    (H : ∃ n, wX_takeOut_131 post (nI v) (nI s) 3 (nI F) g n 0 a1 a2 a3 a4 a5 (bq_fl a6 (128 * F) (bq_nw 1 (fun p q => p * q) (bq_op g) sc us va v s F) (2 ^ bq_cnt s)) a7) :
    ∃ n, wX_takeOut_20 post (nI v) (nI (2 ^ v)) (nI s) 3 (nI F) g n 0 0 a1 a2 a3 a4 a5 a6 a7 := by
  have c8 := bq_cnt4 s hs
  have v8 := (bq_shl1 v hv).2
  have body : ∀ n i, i < 2 ^ bq_cnt s →
      (∀ a6' : Nat → Int64, a6' = bq_fl a6 (128 * F) (bq_nw 1 (fun p q => p * q) (bq_op g) sc us va v s F) (i + 1) →
        ((nI (bq_sub s i) = nI s → (∃ fu131 : Nat, wX_takeOut_131 post (nI v) (nI s) 3 (nI F) g fu131 0 a1 a2 a3 a4 a5 a6' a7)) ∧
         (¬ nI (bq_sub s i) = nI s → (∀ x4_25 : Int32, x4_25 = (nI (bq_sub s i) - nI s) &&& nI s → (∀ x5_26 : Int32, x5_26 = nI i + 1 → wX_takeOut_20 post (nI v) (nI (2 ^ v)) (nI s) 3 (nI F) g n x4_25 x5_26 a1 a2 a3 a4 a5 a6' a7))))) →
      wX_takeOut_20 post (nI v) (nI (2 ^ v)) (nI s) 3 (nI F) g (n + 1) (nI (bq_sub s i)) (nI i) a1 a2 a3 a4 a5 (bq_fl a6 (128 * F) (bq_nw 1 (fun p q => p * q) (bq_op g) sc us va v s F) i) a7 := by
    intro n i hi K
    have f1 := bq_sub_f s hs i hi
    have f2 := bq_or _ f1.1 (2 ^ v) v8
    have Ri : bq_R F sc us va a5 (bq_fl a6 (128 * F) (bq_nw 1 (fun p q => p * q) (bq_op g) sc us va v s F) i) a7 := bq_R_fl R
    refine pk_le 128 i (fun z => absurd z (by omega)) (fun _ => ?_)
    refine bq_joined v (bq_sub s i) F hv f1.1 (by omega) Ri ?_
    try dsimp only
    rw [f2.1]
    refine bq_joined v _ F hv f2.2 (by omega) Ri ?_
    try dsimp only
    have T : wX_takeOut_79 post (wX_takeOut_20 post (nI v) (nI (2 ^ v)) (nI s) 3 (nI F) g n) (nI v) (nI (2 ^ v)) (nI s) (nI (bq_sub s i)) (nI i) (bq_nw 1 (fun p q => p * q) (bq_op g) sc us va v s F i) 3 (nI F) g a1 a2 a3 a4 a5 (bq_fl a6 (128 * F) (bq_nw 1 (fun p q => p * q) (bq_op g) sc us va v s F) i) a7 := by
      unfold wX_takeOut_79
      refine bq_packed (bq_sub s i) s f1.1 hs ?_
      try dsimp only
      rw [f1.2, bq_idx, nI_clamp (show 128 * F + i < 2 ^ 31 by omega)]
      exact ⟨pk_in (128 * F + i) 1920 (by omega), fun a6' ea => K a6' (ea.trans (bq_fl_s a6 (128 * F) _ i))⟩
    refine nm_e (br_c (fun c => ?_) (fun c => br_c (fun d => ?_) (fun d => ?_)))
    · rw [show bq_nw 1 (fun p q => p * q) (bq_op g) sc us va v s F i = bq_jn 1 (fun p q => p * q) sc us va v (bq_sub s i) F + bq_jn 1 (fun p q => p * q) sc us va v (bq_sub s i ||| 2 ^ v) F from if_pos c] at T
      exact T
    · rw [show bq_nw 1 (fun p q => p * q) (bq_op g) sc us va v s F i = bq_jn 1 (fun p q => p * q) sc us va v (bq_sub s i ||| 2 ^ v) F from (if_neg c).trans (if_pos d)] at T
      exact T
    · rw [show bq_nw 1 (fun p q => p * q) (bq_op g) sc us va v s F i = bq_jn 1 (fun p q => p * q) sc us va v (bq_sub s i) F from (if_neg c).trans (if_neg d)] at T
      exact T
  refine Exists.elim (pk_loop (fun n i b => wX_takeOut_20 post (nI v) (nI (2 ^ v)) (nI s) 3 (nI F) g n (nI (bq_sub s i)) (nI i) a1 a2 a3 a4 a5 b a7)
    (fun i b => b = bq_fl a6 (128 * F) (bq_nw 1 (fun p q => p * q) (bq_op g) sc us va v s F) i) (2 ^ bq_cnt s - 1) 0 a6 (by omega) (bq_fl_0 _ _ _).symm ?_ ?_) (fun n hn => ⟨n, ?_⟩)
  · intro n b hb
    subst hb
    refine body n _ (by omega) (fun a6' ea => ?_)
    rw [show 2 ^ bq_cnt s - 1 + 1 = 2 ^ bq_cnt s by omega] at ea
    refine br_t (by rw [bq_sub_e s hs]) ?_
    rw [ea]
    exact H
  · intro n i b hi hb hw
    subst hb
    refine body n i (by omega) (fun a6' ea => ?_)
    have q := bq_sub_n s hs i hi
    have f1 := bq_sub_f s hs i (by omega)
    refine br_f (fun z => q.1 ((nI_eq (by omega) (by omega)).mp z)) (nm_r q.2 (nm_r (nI_1 i) ?_))
    exact hw a6' ea
  · have hn' : wX_takeOut_20 post (nI v) (nI (2 ^ v)) (nI s) 3 (nI F) g n (nI (bq_sub s 0)) (nI 0) a1 a2 a3 a4 a5 a6 a7 := hn
    rw [bq_sub0 s hs] at hn'
    exact hn'
theorem bq_takeOut {post : St2 → Prop} {g : Int32} {a1 a2 a3 a4 a5 : Nat → Int32} {a6 : Nat → Int64} {a7 : Nat → Int32} {sc us : Nat → Nat} {va : Nat → Nat → Int64} (v F : Nat) (hv : v < 3) (hF : F < 15) (R : bq_R F sc us va a5 a6 a7)
    (H : ∀ (b5 : Nat → Int32) (b6 : Nat → Int64) (b7 : Nat → Int32), bq_R (F + 1) (bq_x sc F (bq_cl (bq_js sc us v F) v)) (bq_x (bq_un sc us v) F 1) (bq_x va F (bq_nw 1 (fun p q => p * q) (bq_op g) sc us va v (bq_cl (bq_js sc us v F) v) F)) b5 b6 b7 →
      post (3, nI (F + 1), g, a1, a2, a3, a4, b5, b6, b7)) :
    wpX_takeOut post (3, nI F, g, a1, a2, a3, a4, a5, a6, a7) (nI v) := by
  have j8 : bq_js sc us v F < 8 := bq_js8 F (fun j hj => (R j hj).2.2.1)
  have cl := bq_clr v hv _ j8
  unfold wpX_takeOut
  try dsimp only
  rw [(bq_shl1 v hv).1]
  refine nm_e (bq_joint v F hv (by omega) R ?_)
  try dsimp only
  refine nm_r cl.1 (bq_to20 v _ F hv cl.2 hF R ?_)
  refine bq_to131 (sc := sc) (us := us) v _ F hv hF (fun j hj => (R j hj).1) (fun j hj => (R j hj).2.2.1) (fun j hj => (R j hj).2.1) (fun b hb => H _ _ _ ?_)
  refine bq_R_add (us := bq_un sc us v) (a7 := b) (fun j hj => ?_) cl.2
  obtain ⟨h5, h7, h8, h2, h6⟩ := R j hj
  refine ⟨h5, hb j hj, h8, ?_, h6⟩
  unfold bq_un
  split
  · omega
  · exact h2
end
section
/-! ===== 03: solve walks, its answer by the pure run bq_sv ===== -/
def bq_pr {V : Type} (one : V) (mul : V → V → V) (us : Nat → Nat) (va : Nat → Nat → V) : Nat → V
  | 0 => one
  | f + 1 => if us f = 0 then bq_pr one mul us va f else mul (bq_pr one mul us va f) (va f 0)
theorem bq_s140 {post : Int64 → St2 → Prop} {g : Int32} {a1 a2 a3 a4 a5 : Nat → Int32} {a6 : Nat → Int64} {a7 : Nat → Int32} {sc us : Nat → Nat} {va : Nat → Nat → Int64} (F : Nat) (hF : F ≤ 15) (R : bq_R F sc us va a5 a6 a7)
    (H : post (bq_pr 1 (fun p q => p * q) us va F) (3, nI F, g, a1, a2, a3, a4, a5, a6, a7)) : ∃ n, wX_solve_140 post 3 (nI F) g a1 a2 a3 a4 a5 a6 a7 n 1 0 := by
  refine pk_loop (σ := Unit) (fun n i _ => wX_solve_140 post 3 (nI F) g a1 a2 a3 a4 a5 a6 a7 n (bq_pr 1 (fun p q => p * q) us va i) (nI i)) (fun _ _ => True) F 0 () (by omega) trivial ?_ ?_
  · intro n _ _
    exact pk_le F F (fun _ => H) (fun z => absurd z (by omega))
  · intro n i _ hi _ hw
    have hw' := hw () trivial
    obtain ⟨h5, h7, h8, h2, h6⟩ := R i hi
    refine pk_le F i (fun z => absurd z (by omega)) (fun _ => ⟨pk_in i 15 (by omega), ?_⟩)
    have e : (128 : Int32) * nI i = nI (128 * i + 0) := pk_mul 128 i
    rw [nI_clamp (show i < 2 ^ 31 by omega), h7, e, nI_clamp (show 128 * i + 0 < 2 ^ 31 by omega), h6 0 (bq_cnt4 _ h8).2.2]
    simp only [bq_pr] at hw'
    refine pk_eq (us i) 0 (fun z => ?_) (fun z => ⟨pk_in (128 * i + 0) 1920 (by omega), ?_⟩)
    · rw [if_pos z] at hw'
      exact nm_r (nI_1 i) hw'
    · rw [if_neg z] at hw'
      exact nm_e (nm_r (nI_1 i) hw')
/-- taking the members of o out, k steps at most -/
def bq_lp {V : Type} (one : V) (mul op : V → V → V) : Nat → Nat → Nat → (Nat → Nat) → (Nat → Nat) → (Nat → Nat → V) → V
  | 0 => fun _ F _ us va => bq_pr one mul us va F
  | k + 1 => fun o F sc us va => if o = 0 then bq_pr one mul us va F else
      (fun v => (fun s => bq_lp one mul op k (bq_cl o v) (F + 1) (bq_x sc F s) (bq_x (bq_un sc us v) F 1) (bq_x va F (bq_nw one mul op sc us va v s F))) (bq_cl (bq_js sc us v F) v)) ((bq_ch o (fun w => bq_cnt (bq_js sc us w F)) 3).1 - 1)
theorem bq_lp_0 {V : Type} {one : V} {mul op : V → V → V} {k F : Nat} {sc us : Nat → Nat} {va : Nat → Nat → V} : bq_lp one mul op k 0 F sc us va = bq_pr one mul us va F := by
  cases k
  · rfl
  · simp only [bq_lp]
    exact if_pos trivial
theorem bq_lp_s {V : Type} {one : V} {mul op : V → V → V} {k o F : Nat} {sc us : Nat → Nat} {va : Nat → Nat → V} (v s : Nat) (ho : o ≠ 0) (hv : (bq_ch o (fun w => bq_cnt (bq_js sc us w F)) 3).1 - 1 = v) (hs : bq_cl (bq_js sc us v F) v = s) :
    bq_lp one mul op (k + 1) o F sc us va = bq_lp one mul op k (bq_cl o v) (F + 1) (bq_x sc F s) (bq_x (bq_un sc us v) F 1) (bq_x va F (bq_nw one mul op sc us va v s F)) := by
  simp only [bq_lp]
  rw [if_neg ho, hv, hs]
theorem bq_s95 {post : Int64 → St2 → Prop} {g : Int32} {a1 a2 a3 a4 : Nat → Int32} : ∀ (k : Nat), k ≤ 7 → ∀ (o F : Nat) (sc us : Nat → Nat) (va : Nat → Nat → Int64) (a5 : Nat → Int32) (a6 : Nat → Int64) (a7 : Nat → Int32), o < 8 → F + k ≤ 15 → bq_R F sc us va a5 a6 a7 →
    (∀ (f : Int32) (b5 : Nat → Int32) (b6 : Nat → Int64) (b7 : Nat → Int32), post (bq_lp 1 (fun p q => p * q) (bq_op g) k o F sc us va) (3, f, g, a1, a2, a3, a4, b5, b6, b7)) →
    wX_solve_95 post (k + 1) (nI o) (nI (7 - k)) 3 (nI F) g a1 a2 a3 a4 a5 a6 a7 := by
  intro k
  induction k with
  | zero =>
    intro _ o F sc us va a5 a6 a7 ho hF R H
    exact pk_le 7 (7 - 0) (fun _ => bq_s140 F (by omega) R (H _ _ _ _)) (fun z => absurd z (by omega))
  | succ k ih =>
    intro hk o F sc us va a5 a6 a7 ho hF R H
    refine pk_le 7 (7 - (k + 1)) (fun z => absurd z (by omega)) (fun _ => pk_eq o 0 (fun z => ?_) (fun z => ?_))
    · subst z
      refine bq_s140 F (by omega) R ?_
      have h := H (nI F) a5 a6 a7
      rw [bq_lp_0] at h
      exact h
    · have j8 : ∀ v, bq_js sc us v F < 8 := fun v => bq_js8 F (fun j hj => (R j hj).2.2.1)
      have B := bq_ch_b (o := o) (sz := fun v => bq_cnt (bq_js sc us v F)) (fun v => (bq_cnt4 _ (j8 v)).1) 3
      have B0 := bq_ch_pos (o := o) (sz := fun v => bq_cnt (bq_js sc us v F)) ho z
      obtain ⟨v, hv⟩ : ∃ v, (bq_ch o (fun v => bq_cnt (bq_js sc us v F)) 3).1 = v + 1 := ⟨_, (Nat.succ_pred B0).symm⟩
      have v3 : v < 3 := by omega
      have H' := H
      rw [bq_lp_s v _ z (by rw [hv]; rfl) rfl] at H'
      have cl := bq_clr v v3 o ho
      refine bq_cheapest o F ho (by omega) R ?_
      try dsimp only
      rw [hv, nI_pred]
      refine bq_takeOut v F v3 (by omega) R (fun b5 b6 b7 R' => ?_)
      try dsimp only
      rw [(bq_shl1 v v3).1]
      refine nm_r cl.1 (nm_r (nI_1 _) ?_)
      rw [show 7 - (k + 1) + 1 = 7 - k by omega]
      exact ih (by omega) _ _ _ _ _ _ _ _ cl.2 (by omega) R' H'
/-- the tables' scopes, uses and values -/
def bq_sc3 (o : Nat) : Nat → Nat → Nat
  | 0 => fun _ => 0
  | i + 1 => bq_x (bq_sc3 o i) i (bq_scp i &&& o)
def bq_us3 : Nat → Nat → Nat
  | 0 => fun _ => 0
  | i + 1 => bq_x (bq_us3 i) i 1
def bq_va3 {V : Type} (z : V) (e : Nat → V) (o st : Nat) : Nat → Nat → Nat → V
  | 0 => fun _ _ => z
  | i + 1 => bq_x (bq_va3 z e o st i) i (fun k => e (bq_ix i (bq_sub (bq_scp i &&& o) k ||| st)))
def bq_sv {V : Type} (one : V) (mul op : V → V → V) (e : Nat → V) (o st : Nat) : V := bq_lp one mul op 7 o 3 (bq_sc3 o 3) (bq_us3 3) (bq_va3 one e o st 3)
theorem bq_s69 {post : Int64 → St2 → Prop} {g : Int32} {a2 a3 a4 a5 : Nat → Int32} {a6 : Nat → Int64} {a7 : Nat → Int32} (o st : Nat) (ho : o < 8) (hst : st < 8)
    (H : ∀ (f : Int32) (b5 : Nat → Int32) (b6 : Nat → Int64) (b7 : Nat → Int32), post (bq_sv 1 (fun p q => p * q) (bq_op g) (fun i => (a2 i).toInt64) o st) (3, f, g, bq_P, a2, a3, a4, b5, b6, b7)) :
    ∃ n, wX_solve_69 post (nI o) (nI st) n 0 3 0 g bq_P a2 a3 a4 a5 a6 a7 := by
  refine pk_loop (σ := (Nat → Int32) × (Nat → Int64) × (Nat → Int32)) (fun n i s => wX_solve_69 post (nI o) (nI st) n (nI i) 3 (nI i) g bq_P a2 a3 a4 s.1 s.2.1 s.2.2)
    (fun i s => bq_R i (bq_sc3 o i) (bq_us3 i) (bq_va3 1 (fun i => (a2 i).toInt64) o st i) s.1 s.2.1 s.2.2) 3 0 (a5, a6, a7) (by omega) bq_R0 ?_ ?_
  · intro n s R
    exact pk_le 3 3 (fun _ => ⟨8, bq_s95 7 (by omega) o 3 _ _ _ _ _ _ ho (by omega) R H⟩) (fun z => absurd z (by omega))
  · intro n i s hi R hw
    refine pk_le 3 i (fun z => absurd z (by omega)) (fun _ => ?_)
    refine bq_makeTable i o st i hi ho hst (by omega) ?_
    try dsimp only
    refine nm_r (nI_1 i) (hw (_, _, _) ?_)
    exact bq_R_add R (bq_and _ (bq_scp8 i hi).2 o ho).2
def bq_oo (p : Nat → Nat) : Nat → Nat
  | 0 => 0
  | i + 1 => if p i = 2 then bq_oo p i ||| 2 ^ i else bq_oo p i
def bq_ss (p : Nat → Nat) : Nat → Nat
  | 0 => 0
  | i + 1 => if p i = 2 then bq_ss p i else bq_ss p i ||| p i * 2 ^ i
theorem bq_shlp : ∀ v, v < 3 → ∀ q, q < 2 → nI q <<< (nI v &&& 31) = nI (q * 2 ^ v) ∧ q * 2 ^ v < 8 := by decide +kernel
theorem bq_os8 {p : Nat → Nat} (hp : ∀ j, j < 3 → p j < 3) : ∀ i, i ≤ 3 → bq_oo p i < 8 ∧ bq_ss p i < 8 := by
  intro i
  induction i with
  | zero => intro _; exact ⟨(by decide : (0 : Nat) < 8), (by decide : (0 : Nat) < 8)⟩
  | succ i ih =>
    intro hi
    obtain ⟨h1, h2⟩ := ih (by omega)
    have := hp i (by omega)
    simp only [bq_oo, bq_ss]
    by_cases c : p i = 2
    · rw [if_pos c, if_pos c]
      exact ⟨(bq_or _ h1 _ (bq_shl1 i (by omega)).2).2, h2⟩
    · rw [if_neg c, if_neg c]
      exact ⟨h1, (bq_or _ h2 _ (bq_shlp i (by omega) (p i) (by omega)).2).2⟩
theorem bq_narB : ∀ b, b < 2 → narrow .boolean (.int (nI b)) = .int (nI b) ∧ fits .boolean (.int (nI b)) = true := by
  intro b hb
  have : b = 0 ∨ b = 1 := by omega
  rcases this with rfl | rfl
  · exact ⟨rfl, rfl⟩
  · exact ⟨rfl, rfl⟩
theorem bq_solveW {post : Int64 → St2 → Prop} {f g : Int32} {a2 a3 a4 a5 : Nat → Int32} {a6 : Nat → Int64} {a7 : Nat → Int32} (b : Nat) (p : Nat → Nat) (hb : b < 2) (hp : ∀ j, j < 3 → p j < 3) (h4 : ∀ j, j < 3 → a4 j = nI (p j))
    (H : ∀ (f : Int32) (b5 : Nat → Int32) (b6 : Nat → Int64) (b7 : Nat → Int32), post (bq_sv 1 (fun p q => p * q) (bq_op (nI b)) (fun i => (a2 i).toInt64) (bq_oo p 3) (bq_ss p 3)) (3, f, nI b, bq_P, a2, a3, a4, b5, b6, b7)) :
    wpX_solve post (3, f, g, bq_P, a2, a3, a4, a5, a6, a7) (nI b) := by
  have O := bq_os8 hp
  unfold wpX_solve
  try dsimp only
  refine ⟨(bq_narB b hb).1, (bq_narB b hb).2, ?_⟩
  refine pk_loop (σ := Unit) (fun n i _ => wX_solve_12 post 3 f (nI b) bq_P a2 a3 a4 a5 a6 a7 n (nI (bq_oo p i)) (nI (bq_ss p i)) (nI i)) (fun _ _ => True) 3 0 () (by omega) trivial ?_ ?_
  · intro n _ _
    exact pk_le 3 3 (fun _ => bq_s69 _ _ (O 3 (by omega)).1 (O 3 (by omega)).2 H) (fun z => absurd z (by omega))
  · intro n i _ hi _ hw
    have hw' := hw () trivial
    have o8 := O i (by omega)
    have p3 := hp i hi
    refine pk_le 3 i (fun z => absurd z (by omega)) (fun _ => ⟨pk_in i 7 (by omega), ?_⟩)
    rw [nI_clamp (show i < 2 ^ 31 by omega), h4 i hi]
    simp only [bq_oo, bq_ss] at hw'
    refine pk_eq (p i) 2 (fun z => ?_) (fun z => ⟨pk_in i 7 (by omega), ?_⟩)
    · rw [if_pos z, if_pos z] at hw'
      have s1 := bq_shl1 i hi
      rw [s1.1]
      exact nm_r (bq_or _ o8.1 _ s1.2).1 (nm_r (nI_1 i) hw')
    · rw [if_neg z, if_neg z] at hw'
      have s1 := bq_shlp i hi (p i) (by omega)
      rw [s1.1]
      exact nm_r (bq_or _ o8.2 _ s1.2).1 (nm_r (nI_1 i) hw')
end
section
/-! ===== 04: the value of solve (printed by gen04.py) ===== -/
def bq_w (t : Nat → Nat) (x : Nat) : Nat := t (bq_ix 0 x) * t (bq_ix 1 x) * t (bq_ix 2 x)
def bq_o (op : Nat → Nat → Nat) (p : Nat) (f : Nat → Nat) : Nat := if p = 2 then op (f 0) (f 1) else f p
def bq_v3 (op : Nat → Nat → Nat) (w : Nat → Nat) (a b c : Nat) : Nat := bq_o op c (fun z => bq_o op b (fun y => bq_o op a (fun x => w (x + 2 * y + 4 * z))))
def bq_val (op : Nat → Nat → Nat) (w p : Nat → Nat) : Nat := bq_v3 op w (p 0) (p 1) (p 2)
def bq_opN (b : Nat) (x y : Nat) : Nat := if b = 0 then x + y else max x y
def bq_O (a b c : Nat) : Nat := bq_oo (fun j => if j = 0 then a else if j = 1 then b else c) 3
def bq_S (a b c : Nat) : Nat := bq_ss (fun j => if j = 0 then a else if j = 1 then b else c) 3
theorem bq_e_000 {V : Type} (one : V) (mul op : V → V → V) (e : Nat → V) : bq_sv one mul op e 0 0 = mul (mul (mul (one) (e 0)) (e 16)) (e 32) := rfl
theorem bq_k_000 (op : Nat → Nat → Nat) (asc : ∀ a b c, op (op a b) c = op a (op b c)) (cm : ∀ a b, op a b = op b a) (lc : ∀ a b c, op a (op b c) = op b (op a c)) (dl : ∀ a b c, a * op b c = op (a * b) (a * c)) (dr : ∀ a b c, op b c * a = op (b * a) (c * a)) (t : Nat → Nat) : bq_sv 1 (fun p q => p * q) op t 0 0 = bq_v3 op (bq_w t) 0 0 0 := by
  rw [bq_e_000]
  show (((1) * (t 0)) * (t 16)) * (t 32) = t 0 * t 16 * t 32
  simp only [Nat.one_mul, dl, dr, Nat.mul_assoc, Nat.mul_comm, Nat.mul_left_comm, asc, cm, lc]
theorem bq_e_001 {V : Type} (one : V) (mul op : V → V → V) (e : Nat → V) : bq_sv one mul op e 0 4 = mul (mul (mul (one) (e 0)) (e 16)) (e 33) := rfl
theorem bq_k_001 (op : Nat → Nat → Nat) (asc : ∀ a b c, op (op a b) c = op a (op b c)) (cm : ∀ a b, op a b = op b a) (lc : ∀ a b c, op a (op b c) = op b (op a c)) (dl : ∀ a b c, a * op b c = op (a * b) (a * c)) (dr : ∀ a b c, op b c * a = op (b * a) (c * a)) (t : Nat → Nat) : bq_sv 1 (fun p q => p * q) op t 0 4 = bq_v3 op (bq_w t) 0 0 1 := by
  rw [bq_e_001]
  show (((1) * (t 0)) * (t 16)) * (t 33) = t 0 * t 16 * t 33
  simp only [Nat.one_mul, dl, dr, Nat.mul_assoc, Nat.mul_comm, Nat.mul_left_comm, asc, cm, lc]
theorem bq_e_002 {V : Type} (one : V) (mul op : V → V → V) (e : Nat → V) : bq_sv one mul op e 4 0 = mul (mul (mul (one) (e 0)) (e 16)) (op (mul (one) (e 32)) (mul (one) (e 33))) := rfl
theorem bq_k_002 (op : Nat → Nat → Nat) (asc : ∀ a b c, op (op a b) c = op a (op b c)) (cm : ∀ a b, op a b = op b a) (lc : ∀ a b c, op a (op b c) = op b (op a c)) (dl : ∀ a b c, a * op b c = op (a * b) (a * c)) (dr : ∀ a b c, op b c * a = op (b * a) (c * a)) (t : Nat → Nat) : bq_sv 1 (fun p q => p * q) op t 4 0 = bq_v3 op (bq_w t) 0 0 2 := by
  rw [bq_e_002]
  show (((1) * (t 0)) * (t 16)) * (op ((1) * (t 32)) ((1) * (t 33))) = op (t 0 * t 16 * t 32) (t 0 * t 16 * t 33)
  simp only [Nat.one_mul, dl, dr, Nat.mul_assoc, Nat.mul_comm, Nat.mul_left_comm, asc, cm, lc]
theorem bq_e_010 {V : Type} (one : V) (mul op : V → V → V) (e : Nat → V) : bq_sv one mul op e 0 2 = mul (mul (mul (one) (e 0)) (e 17)) (e 36) := rfl
theorem bq_k_010 (op : Nat → Nat → Nat) (asc : ∀ a b c, op (op a b) c = op a (op b c)) (cm : ∀ a b, op a b = op b a) (lc : ∀ a b c, op a (op b c) = op b (op a c)) (dl : ∀ a b c, a * op b c = op (a * b) (a * c)) (dr : ∀ a b c, op b c * a = op (b * a) (c * a)) (t : Nat → Nat) : bq_sv 1 (fun p q => p * q) op t 0 2 = bq_v3 op (bq_w t) 0 1 0 := by
  rw [bq_e_010]
  show (((1) * (t 0)) * (t 17)) * (t 36) = t 0 * t 17 * t 36
  simp only [Nat.one_mul, dl, dr, Nat.mul_assoc, Nat.mul_comm, Nat.mul_left_comm, asc, cm, lc]
theorem bq_e_011 {V : Type} (one : V) (mul op : V → V → V) (e : Nat → V) : bq_sv one mul op e 0 6 = mul (mul (mul (one) (e 0)) (e 17)) (e 37) := rfl
theorem bq_k_011 (op : Nat → Nat → Nat) (asc : ∀ a b c, op (op a b) c = op a (op b c)) (cm : ∀ a b, op a b = op b a) (lc : ∀ a b c, op a (op b c) = op b (op a c)) (dl : ∀ a b c, a * op b c = op (a * b) (a * c)) (dr : ∀ a b c, op b c * a = op (b * a) (c * a)) (t : Nat → Nat) : bq_sv 1 (fun p q => p * q) op t 0 6 = bq_v3 op (bq_w t) 0 1 1 := by
  rw [bq_e_011]
  show (((1) * (t 0)) * (t 17)) * (t 37) = t 0 * t 17 * t 37
  simp only [Nat.one_mul, dl, dr, Nat.mul_assoc, Nat.mul_comm, Nat.mul_left_comm, asc, cm, lc]
theorem bq_e_012 {V : Type} (one : V) (mul op : V → V → V) (e : Nat → V) : bq_sv one mul op e 4 2 = mul (mul (mul (one) (e 0)) (e 17)) (op (mul (one) (e 36)) (mul (one) (e 37))) := rfl
theorem bq_k_012 (op : Nat → Nat → Nat) (asc : ∀ a b c, op (op a b) c = op a (op b c)) (cm : ∀ a b, op a b = op b a) (lc : ∀ a b c, op a (op b c) = op b (op a c)) (dl : ∀ a b c, a * op b c = op (a * b) (a * c)) (dr : ∀ a b c, op b c * a = op (b * a) (c * a)) (t : Nat → Nat) : bq_sv 1 (fun p q => p * q) op t 4 2 = bq_v3 op (bq_w t) 0 1 2 := by
  rw [bq_e_012]
  show (((1) * (t 0)) * (t 17)) * (op ((1) * (t 36)) ((1) * (t 37))) = op (t 0 * t 17 * t 36) (t 0 * t 17 * t 37)
  simp only [Nat.one_mul, dl, dr, Nat.mul_assoc, Nat.mul_comm, Nat.mul_left_comm, asc, cm, lc]
theorem bq_e_020 {V : Type} (one : V) (mul op : V → V → V) (e : Nat → V) : bq_sv one mul op e 2 0 = mul (mul (one) (e 0)) (op (mul (mul (one) (e 16)) (e 32)) (mul (mul (one) (e 17)) (e 36))) := rfl
theorem bq_k_020 (op : Nat → Nat → Nat) (asc : ∀ a b c, op (op a b) c = op a (op b c)) (cm : ∀ a b, op a b = op b a) (lc : ∀ a b c, op a (op b c) = op b (op a c)) (dl : ∀ a b c, a * op b c = op (a * b) (a * c)) (dr : ∀ a b c, op b c * a = op (b * a) (c * a)) (t : Nat → Nat) : bq_sv 1 (fun p q => p * q) op t 2 0 = bq_v3 op (bq_w t) 0 2 0 := by
  rw [bq_e_020]
  show ((1) * (t 0)) * (op (((1) * (t 16)) * (t 32)) (((1) * (t 17)) * (t 36))) = op (t 0 * t 16 * t 32) (t 0 * t 17 * t 36)
  simp only [Nat.one_mul, dl, dr, Nat.mul_assoc, Nat.mul_comm, Nat.mul_left_comm, asc, cm, lc]
theorem bq_e_021 {V : Type} (one : V) (mul op : V → V → V) (e : Nat → V) : bq_sv one mul op e 2 4 = mul (mul (one) (e 0)) (op (mul (mul (one) (e 16)) (e 33)) (mul (mul (one) (e 17)) (e 37))) := rfl
theorem bq_k_021 (op : Nat → Nat → Nat) (asc : ∀ a b c, op (op a b) c = op a (op b c)) (cm : ∀ a b, op a b = op b a) (lc : ∀ a b c, op a (op b c) = op b (op a c)) (dl : ∀ a b c, a * op b c = op (a * b) (a * c)) (dr : ∀ a b c, op b c * a = op (b * a) (c * a)) (t : Nat → Nat) : bq_sv 1 (fun p q => p * q) op t 2 4 = bq_v3 op (bq_w t) 0 2 1 := by
  rw [bq_e_021]
  show ((1) * (t 0)) * (op (((1) * (t 16)) * (t 33)) (((1) * (t 17)) * (t 37))) = op (t 0 * t 16 * t 33) (t 0 * t 17 * t 37)
  simp only [Nat.one_mul, dl, dr, Nat.mul_assoc, Nat.mul_comm, Nat.mul_left_comm, asc, cm, lc]
theorem bq_e_022 {V : Type} (one : V) (mul op : V → V → V) (e : Nat → V) : bq_sv one mul op e 6 0 = mul (mul (one) (e 0)) (op (mul (one) (op (mul (mul (one) (e 16)) (e 32)) (mul (mul (one) (e 17)) (e 36)))) (mul (one) (op (mul (mul (one) (e 16)) (e 33)) (mul (mul (one) (e 17)) (e 37))))) := rfl
theorem bq_k_022 (op : Nat → Nat → Nat) (asc : ∀ a b c, op (op a b) c = op a (op b c)) (cm : ∀ a b, op a b = op b a) (lc : ∀ a b c, op a (op b c) = op b (op a c)) (dl : ∀ a b c, a * op b c = op (a * b) (a * c)) (dr : ∀ a b c, op b c * a = op (b * a) (c * a)) (t : Nat → Nat) : bq_sv 1 (fun p q => p * q) op t 6 0 = bq_v3 op (bq_w t) 0 2 2 := by
  rw [bq_e_022]
  show ((1) * (t 0)) * (op ((1) * (op (((1) * (t 16)) * (t 32)) (((1) * (t 17)) * (t 36)))) ((1) * (op (((1) * (t 16)) * (t 33)) (((1) * (t 17)) * (t 37))))) = op (op (t 0 * t 16 * t 32) (t 0 * t 17 * t 36)) (op (t 0 * t 16 * t 33) (t 0 * t 17 * t 37))
  simp only [Nat.one_mul, dl, dr, Nat.mul_assoc, Nat.mul_comm, Nat.mul_left_comm, asc, cm, lc]
theorem bq_e_100 {V : Type} (one : V) (mul op : V → V → V) (e : Nat → V) : bq_sv one mul op e 0 1 = mul (mul (mul (one) (e 1)) (e 16)) (e 34) := rfl
theorem bq_k_100 (op : Nat → Nat → Nat) (asc : ∀ a b c, op (op a b) c = op a (op b c)) (cm : ∀ a b, op a b = op b a) (lc : ∀ a b c, op a (op b c) = op b (op a c)) (dl : ∀ a b c, a * op b c = op (a * b) (a * c)) (dr : ∀ a b c, op b c * a = op (b * a) (c * a)) (t : Nat → Nat) : bq_sv 1 (fun p q => p * q) op t 0 1 = bq_v3 op (bq_w t) 1 0 0 := by
  rw [bq_e_100]
  show (((1) * (t 1)) * (t 16)) * (t 34) = t 1 * t 16 * t 34
  simp only [Nat.one_mul, dl, dr, Nat.mul_assoc, Nat.mul_comm, Nat.mul_left_comm, asc, cm, lc]
theorem bq_e_101 {V : Type} (one : V) (mul op : V → V → V) (e : Nat → V) : bq_sv one mul op e 0 5 = mul (mul (mul (one) (e 1)) (e 16)) (e 35) := rfl
theorem bq_k_101 (op : Nat → Nat → Nat) (asc : ∀ a b c, op (op a b) c = op a (op b c)) (cm : ∀ a b, op a b = op b a) (lc : ∀ a b c, op a (op b c) = op b (op a c)) (dl : ∀ a b c, a * op b c = op (a * b) (a * c)) (dr : ∀ a b c, op b c * a = op (b * a) (c * a)) (t : Nat → Nat) : bq_sv 1 (fun p q => p * q) op t 0 5 = bq_v3 op (bq_w t) 1 0 1 := by
  rw [bq_e_101]
  show (((1) * (t 1)) * (t 16)) * (t 35) = t 1 * t 16 * t 35
  simp only [Nat.one_mul, dl, dr, Nat.mul_assoc, Nat.mul_comm, Nat.mul_left_comm, asc, cm, lc]
theorem bq_e_102 {V : Type} (one : V) (mul op : V → V → V) (e : Nat → V) : bq_sv one mul op e 4 1 = mul (mul (mul (one) (e 1)) (e 16)) (op (mul (one) (e 34)) (mul (one) (e 35))) := rfl
theorem bq_k_102 (op : Nat → Nat → Nat) (asc : ∀ a b c, op (op a b) c = op a (op b c)) (cm : ∀ a b, op a b = op b a) (lc : ∀ a b c, op a (op b c) = op b (op a c)) (dl : ∀ a b c, a * op b c = op (a * b) (a * c)) (dr : ∀ a b c, op b c * a = op (b * a) (c * a)) (t : Nat → Nat) : bq_sv 1 (fun p q => p * q) op t 4 1 = bq_v3 op (bq_w t) 1 0 2 := by
  rw [bq_e_102]
  show (((1) * (t 1)) * (t 16)) * (op ((1) * (t 34)) ((1) * (t 35))) = op (t 1 * t 16 * t 34) (t 1 * t 16 * t 35)
  simp only [Nat.one_mul, dl, dr, Nat.mul_assoc, Nat.mul_comm, Nat.mul_left_comm, asc, cm, lc]
theorem bq_e_110 {V : Type} (one : V) (mul op : V → V → V) (e : Nat → V) : bq_sv one mul op e 0 3 = mul (mul (mul (one) (e 1)) (e 17)) (e 38) := rfl
theorem bq_k_110 (op : Nat → Nat → Nat) (asc : ∀ a b c, op (op a b) c = op a (op b c)) (cm : ∀ a b, op a b = op b a) (lc : ∀ a b c, op a (op b c) = op b (op a c)) (dl : ∀ a b c, a * op b c = op (a * b) (a * c)) (dr : ∀ a b c, op b c * a = op (b * a) (c * a)) (t : Nat → Nat) : bq_sv 1 (fun p q => p * q) op t 0 3 = bq_v3 op (bq_w t) 1 1 0 := by
  rw [bq_e_110]
  show (((1) * (t 1)) * (t 17)) * (t 38) = t 1 * t 17 * t 38
  simp only [Nat.one_mul, dl, dr, Nat.mul_assoc, Nat.mul_comm, Nat.mul_left_comm, asc, cm, lc]
theorem bq_e_111 {V : Type} (one : V) (mul op : V → V → V) (e : Nat → V) : bq_sv one mul op e 0 7 = mul (mul (mul (one) (e 1)) (e 17)) (e 39) := rfl
theorem bq_k_111 (op : Nat → Nat → Nat) (asc : ∀ a b c, op (op a b) c = op a (op b c)) (cm : ∀ a b, op a b = op b a) (lc : ∀ a b c, op a (op b c) = op b (op a c)) (dl : ∀ a b c, a * op b c = op (a * b) (a * c)) (dr : ∀ a b c, op b c * a = op (b * a) (c * a)) (t : Nat → Nat) : bq_sv 1 (fun p q => p * q) op t 0 7 = bq_v3 op (bq_w t) 1 1 1 := by
  rw [bq_e_111]
  show (((1) * (t 1)) * (t 17)) * (t 39) = t 1 * t 17 * t 39
  simp only [Nat.one_mul, dl, dr, Nat.mul_assoc, Nat.mul_comm, Nat.mul_left_comm, asc, cm, lc]
theorem bq_e_112 {V : Type} (one : V) (mul op : V → V → V) (e : Nat → V) : bq_sv one mul op e 4 3 = mul (mul (mul (one) (e 1)) (e 17)) (op (mul (one) (e 38)) (mul (one) (e 39))) := rfl
theorem bq_k_112 (op : Nat → Nat → Nat) (asc : ∀ a b c, op (op a b) c = op a (op b c)) (cm : ∀ a b, op a b = op b a) (lc : ∀ a b c, op a (op b c) = op b (op a c)) (dl : ∀ a b c, a * op b c = op (a * b) (a * c)) (dr : ∀ a b c, op b c * a = op (b * a) (c * a)) (t : Nat → Nat) : bq_sv 1 (fun p q => p * q) op t 4 3 = bq_v3 op (bq_w t) 1 1 2 := by
  rw [bq_e_112]
  show (((1) * (t 1)) * (t 17)) * (op ((1) * (t 38)) ((1) * (t 39))) = op (t 1 * t 17 * t 38) (t 1 * t 17 * t 39)
  simp only [Nat.one_mul, dl, dr, Nat.mul_assoc, Nat.mul_comm, Nat.mul_left_comm, asc, cm, lc]
theorem bq_e_120 {V : Type} (one : V) (mul op : V → V → V) (e : Nat → V) : bq_sv one mul op e 2 1 = mul (mul (one) (e 1)) (op (mul (mul (one) (e 16)) (e 34)) (mul (mul (one) (e 17)) (e 38))) := rfl
theorem bq_k_120 (op : Nat → Nat → Nat) (asc : ∀ a b c, op (op a b) c = op a (op b c)) (cm : ∀ a b, op a b = op b a) (lc : ∀ a b c, op a (op b c) = op b (op a c)) (dl : ∀ a b c, a * op b c = op (a * b) (a * c)) (dr : ∀ a b c, op b c * a = op (b * a) (c * a)) (t : Nat → Nat) : bq_sv 1 (fun p q => p * q) op t 2 1 = bq_v3 op (bq_w t) 1 2 0 := by
  rw [bq_e_120]
  show ((1) * (t 1)) * (op (((1) * (t 16)) * (t 34)) (((1) * (t 17)) * (t 38))) = op (t 1 * t 16 * t 34) (t 1 * t 17 * t 38)
  simp only [Nat.one_mul, dl, dr, Nat.mul_assoc, Nat.mul_comm, Nat.mul_left_comm, asc, cm, lc]
theorem bq_e_121 {V : Type} (one : V) (mul op : V → V → V) (e : Nat → V) : bq_sv one mul op e 2 5 = mul (mul (one) (e 1)) (op (mul (mul (one) (e 16)) (e 35)) (mul (mul (one) (e 17)) (e 39))) := rfl
theorem bq_k_121 (op : Nat → Nat → Nat) (asc : ∀ a b c, op (op a b) c = op a (op b c)) (cm : ∀ a b, op a b = op b a) (lc : ∀ a b c, op a (op b c) = op b (op a c)) (dl : ∀ a b c, a * op b c = op (a * b) (a * c)) (dr : ∀ a b c, op b c * a = op (b * a) (c * a)) (t : Nat → Nat) : bq_sv 1 (fun p q => p * q) op t 2 5 = bq_v3 op (bq_w t) 1 2 1 := by
  rw [bq_e_121]
  show ((1) * (t 1)) * (op (((1) * (t 16)) * (t 35)) (((1) * (t 17)) * (t 39))) = op (t 1 * t 16 * t 35) (t 1 * t 17 * t 39)
  simp only [Nat.one_mul, dl, dr, Nat.mul_assoc, Nat.mul_comm, Nat.mul_left_comm, asc, cm, lc]
theorem bq_e_122 {V : Type} (one : V) (mul op : V → V → V) (e : Nat → V) : bq_sv one mul op e 6 1 = mul (mul (one) (e 1)) (op (mul (one) (op (mul (mul (one) (e 16)) (e 34)) (mul (mul (one) (e 17)) (e 38)))) (mul (one) (op (mul (mul (one) (e 16)) (e 35)) (mul (mul (one) (e 17)) (e 39))))) := rfl
theorem bq_k_122 (op : Nat → Nat → Nat) (asc : ∀ a b c, op (op a b) c = op a (op b c)) (cm : ∀ a b, op a b = op b a) (lc : ∀ a b c, op a (op b c) = op b (op a c)) (dl : ∀ a b c, a * op b c = op (a * b) (a * c)) (dr : ∀ a b c, op b c * a = op (b * a) (c * a)) (t : Nat → Nat) : bq_sv 1 (fun p q => p * q) op t 6 1 = bq_v3 op (bq_w t) 1 2 2 := by
  rw [bq_e_122]
  show ((1) * (t 1)) * (op ((1) * (op (((1) * (t 16)) * (t 34)) (((1) * (t 17)) * (t 38)))) ((1) * (op (((1) * (t 16)) * (t 35)) (((1) * (t 17)) * (t 39))))) = op (op (t 1 * t 16 * t 34) (t 1 * t 17 * t 38)) (op (t 1 * t 16 * t 35) (t 1 * t 17 * t 39))
  simp only [Nat.one_mul, dl, dr, Nat.mul_assoc, Nat.mul_comm, Nat.mul_left_comm, asc, cm, lc]
theorem bq_e_200 {V : Type} (one : V) (mul op : V → V → V) (e : Nat → V) : bq_sv one mul op e 1 0 = mul (mul (one) (e 16)) (op (mul (mul (one) (e 0)) (e 32)) (mul (mul (one) (e 1)) (e 34))) := rfl
theorem bq_k_200 (op : Nat → Nat → Nat) (asc : ∀ a b c, op (op a b) c = op a (op b c)) (cm : ∀ a b, op a b = op b a) (lc : ∀ a b c, op a (op b c) = op b (op a c)) (dl : ∀ a b c, a * op b c = op (a * b) (a * c)) (dr : ∀ a b c, op b c * a = op (b * a) (c * a)) (t : Nat → Nat) : bq_sv 1 (fun p q => p * q) op t 1 0 = bq_v3 op (bq_w t) 2 0 0 := by
  rw [bq_e_200]
  show ((1) * (t 16)) * (op (((1) * (t 0)) * (t 32)) (((1) * (t 1)) * (t 34))) = op (t 0 * t 16 * t 32) (t 1 * t 16 * t 34)
  simp only [Nat.one_mul, dl, dr, Nat.mul_assoc, Nat.mul_comm, Nat.mul_left_comm, asc, cm, lc]
theorem bq_e_201 {V : Type} (one : V) (mul op : V → V → V) (e : Nat → V) : bq_sv one mul op e 1 4 = mul (mul (one) (e 16)) (op (mul (mul (one) (e 0)) (e 33)) (mul (mul (one) (e 1)) (e 35))) := rfl
theorem bq_k_201 (op : Nat → Nat → Nat) (asc : ∀ a b c, op (op a b) c = op a (op b c)) (cm : ∀ a b, op a b = op b a) (lc : ∀ a b c, op a (op b c) = op b (op a c)) (dl : ∀ a b c, a * op b c = op (a * b) (a * c)) (dr : ∀ a b c, op b c * a = op (b * a) (c * a)) (t : Nat → Nat) : bq_sv 1 (fun p q => p * q) op t 1 4 = bq_v3 op (bq_w t) 2 0 1 := by
  rw [bq_e_201]
  show ((1) * (t 16)) * (op (((1) * (t 0)) * (t 33)) (((1) * (t 1)) * (t 35))) = op (t 0 * t 16 * t 33) (t 1 * t 16 * t 35)
  simp only [Nat.one_mul, dl, dr, Nat.mul_assoc, Nat.mul_comm, Nat.mul_left_comm, asc, cm, lc]
theorem bq_e_202 {V : Type} (one : V) (mul op : V → V → V) (e : Nat → V) : bq_sv one mul op e 5 0 = mul (mul (one) (e 16)) (op (mul (one) (op (mul (mul (one) (e 0)) (e 32)) (mul (mul (one) (e 1)) (e 34)))) (mul (one) (op (mul (mul (one) (e 0)) (e 33)) (mul (mul (one) (e 1)) (e 35))))) := rfl
theorem bq_k_202 (op : Nat → Nat → Nat) (asc : ∀ a b c, op (op a b) c = op a (op b c)) (cm : ∀ a b, op a b = op b a) (lc : ∀ a b c, op a (op b c) = op b (op a c)) (dl : ∀ a b c, a * op b c = op (a * b) (a * c)) (dr : ∀ a b c, op b c * a = op (b * a) (c * a)) (t : Nat → Nat) : bq_sv 1 (fun p q => p * q) op t 5 0 = bq_v3 op (bq_w t) 2 0 2 := by
  rw [bq_e_202]
  show ((1) * (t 16)) * (op ((1) * (op (((1) * (t 0)) * (t 32)) (((1) * (t 1)) * (t 34)))) ((1) * (op (((1) * (t 0)) * (t 33)) (((1) * (t 1)) * (t 35))))) = op (op (t 0 * t 16 * t 32) (t 1 * t 16 * t 34)) (op (t 0 * t 16 * t 33) (t 1 * t 16 * t 35))
  simp only [Nat.one_mul, dl, dr, Nat.mul_assoc, Nat.mul_comm, Nat.mul_left_comm, asc, cm, lc]
theorem bq_e_210 {V : Type} (one : V) (mul op : V → V → V) (e : Nat → V) : bq_sv one mul op e 1 2 = mul (mul (one) (e 17)) (op (mul (mul (one) (e 0)) (e 36)) (mul (mul (one) (e 1)) (e 38))) := rfl
theorem bq_k_210 (op : Nat → Nat → Nat) (asc : ∀ a b c, op (op a b) c = op a (op b c)) (cm : ∀ a b, op a b = op b a) (lc : ∀ a b c, op a (op b c) = op b (op a c)) (dl : ∀ a b c, a * op b c = op (a * b) (a * c)) (dr : ∀ a b c, op b c * a = op (b * a) (c * a)) (t : Nat → Nat) : bq_sv 1 (fun p q => p * q) op t 1 2 = bq_v3 op (bq_w t) 2 1 0 := by
  rw [bq_e_210]
  show ((1) * (t 17)) * (op (((1) * (t 0)) * (t 36)) (((1) * (t 1)) * (t 38))) = op (t 0 * t 17 * t 36) (t 1 * t 17 * t 38)
  simp only [Nat.one_mul, dl, dr, Nat.mul_assoc, Nat.mul_comm, Nat.mul_left_comm, asc, cm, lc]
theorem bq_e_211 {V : Type} (one : V) (mul op : V → V → V) (e : Nat → V) : bq_sv one mul op e 1 6 = mul (mul (one) (e 17)) (op (mul (mul (one) (e 0)) (e 37)) (mul (mul (one) (e 1)) (e 39))) := rfl
theorem bq_k_211 (op : Nat → Nat → Nat) (asc : ∀ a b c, op (op a b) c = op a (op b c)) (cm : ∀ a b, op a b = op b a) (lc : ∀ a b c, op a (op b c) = op b (op a c)) (dl : ∀ a b c, a * op b c = op (a * b) (a * c)) (dr : ∀ a b c, op b c * a = op (b * a) (c * a)) (t : Nat → Nat) : bq_sv 1 (fun p q => p * q) op t 1 6 = bq_v3 op (bq_w t) 2 1 1 := by
  rw [bq_e_211]
  show ((1) * (t 17)) * (op (((1) * (t 0)) * (t 37)) (((1) * (t 1)) * (t 39))) = op (t 0 * t 17 * t 37) (t 1 * t 17 * t 39)
  simp only [Nat.one_mul, dl, dr, Nat.mul_assoc, Nat.mul_comm, Nat.mul_left_comm, asc, cm, lc]
theorem bq_e_212 {V : Type} (one : V) (mul op : V → V → V) (e : Nat → V) : bq_sv one mul op e 5 2 = mul (mul (one) (e 17)) (op (mul (one) (op (mul (mul (one) (e 0)) (e 36)) (mul (mul (one) (e 1)) (e 38)))) (mul (one) (op (mul (mul (one) (e 0)) (e 37)) (mul (mul (one) (e 1)) (e 39))))) := rfl
theorem bq_k_212 (op : Nat → Nat → Nat) (asc : ∀ a b c, op (op a b) c = op a (op b c)) (cm : ∀ a b, op a b = op b a) (lc : ∀ a b c, op a (op b c) = op b (op a c)) (dl : ∀ a b c, a * op b c = op (a * b) (a * c)) (dr : ∀ a b c, op b c * a = op (b * a) (c * a)) (t : Nat → Nat) : bq_sv 1 (fun p q => p * q) op t 5 2 = bq_v3 op (bq_w t) 2 1 2 := by
  rw [bq_e_212]
  show ((1) * (t 17)) * (op ((1) * (op (((1) * (t 0)) * (t 36)) (((1) * (t 1)) * (t 38)))) ((1) * (op (((1) * (t 0)) * (t 37)) (((1) * (t 1)) * (t 39))))) = op (op (t 0 * t 17 * t 36) (t 1 * t 17 * t 38)) (op (t 0 * t 17 * t 37) (t 1 * t 17 * t 39))
  simp only [Nat.one_mul, dl, dr, Nat.mul_assoc, Nat.mul_comm, Nat.mul_left_comm, asc, cm, lc]
theorem bq_e_220 {V : Type} (one : V) (mul op : V → V → V) (e : Nat → V) : bq_sv one mul op e 3 0 = mul (one) (op (mul (mul (one) (e 16)) (op (mul (mul (one) (e 0)) (e 32)) (mul (mul (one) (e 1)) (e 34)))) (mul (mul (one) (e 17)) (op (mul (mul (one) (e 0)) (e 36)) (mul (mul (one) (e 1)) (e 38))))) := rfl
theorem bq_k_220 (op : Nat → Nat → Nat) (asc : ∀ a b c, op (op a b) c = op a (op b c)) (cm : ∀ a b, op a b = op b a) (lc : ∀ a b c, op a (op b c) = op b (op a c)) (dl : ∀ a b c, a * op b c = op (a * b) (a * c)) (dr : ∀ a b c, op b c * a = op (b * a) (c * a)) (t : Nat → Nat) : bq_sv 1 (fun p q => p * q) op t 3 0 = bq_v3 op (bq_w t) 2 2 0 := by
  rw [bq_e_220]
  show (1) * (op (((1) * (t 16)) * (op (((1) * (t 0)) * (t 32)) (((1) * (t 1)) * (t 34)))) (((1) * (t 17)) * (op (((1) * (t 0)) * (t 36)) (((1) * (t 1)) * (t 38))))) = op (op (t 0 * t 16 * t 32) (t 1 * t 16 * t 34)) (op (t 0 * t 17 * t 36) (t 1 * t 17 * t 38))
  simp only [Nat.one_mul, dl, dr, Nat.mul_assoc, Nat.mul_comm, Nat.mul_left_comm, asc, cm, lc]
theorem bq_e_221 {V : Type} (one : V) (mul op : V → V → V) (e : Nat → V) : bq_sv one mul op e 3 4 = mul (one) (op (mul (mul (one) (e 16)) (op (mul (mul (one) (e 0)) (e 33)) (mul (mul (one) (e 1)) (e 35)))) (mul (mul (one) (e 17)) (op (mul (mul (one) (e 0)) (e 37)) (mul (mul (one) (e 1)) (e 39))))) := rfl
theorem bq_k_221 (op : Nat → Nat → Nat) (asc : ∀ a b c, op (op a b) c = op a (op b c)) (cm : ∀ a b, op a b = op b a) (lc : ∀ a b c, op a (op b c) = op b (op a c)) (dl : ∀ a b c, a * op b c = op (a * b) (a * c)) (dr : ∀ a b c, op b c * a = op (b * a) (c * a)) (t : Nat → Nat) : bq_sv 1 (fun p q => p * q) op t 3 4 = bq_v3 op (bq_w t) 2 2 1 := by
  rw [bq_e_221]
  show (1) * (op (((1) * (t 16)) * (op (((1) * (t 0)) * (t 33)) (((1) * (t 1)) * (t 35)))) (((1) * (t 17)) * (op (((1) * (t 0)) * (t 37)) (((1) * (t 1)) * (t 39))))) = op (op (t 0 * t 16 * t 33) (t 1 * t 16 * t 35)) (op (t 0 * t 17 * t 37) (t 1 * t 17 * t 39))
  simp only [Nat.one_mul, dl, dr, Nat.mul_assoc, Nat.mul_comm, Nat.mul_left_comm, asc, cm, lc]
theorem bq_e_222 {V : Type} (one : V) (mul op : V → V → V) (e : Nat → V) : bq_sv one mul op e 7 0 = mul (one) (op (mul (one) (op (mul (mul (one) (e 16)) (op (mul (mul (one) (e 0)) (e 32)) (mul (mul (one) (e 1)) (e 34)))) (mul (mul (one) (e 17)) (op (mul (mul (one) (e 0)) (e 36)) (mul (mul (one) (e 1)) (e 38)))))) (mul (one) (op (mul (mul (one) (e 16)) (op (mul (mul (one) (e 0)) (e 33)) (mul (mul (one) (e 1)) (e 35)))) (mul (mul (one) (e 17)) (op (mul (mul (one) (e 0)) (e 37)) (mul (mul (one) (e 1)) (e 39))))))) := rfl
theorem bq_k_222 (op : Nat → Nat → Nat) (asc : ∀ a b c, op (op a b) c = op a (op b c)) (cm : ∀ a b, op a b = op b a) (lc : ∀ a b c, op a (op b c) = op b (op a c)) (dl : ∀ a b c, a * op b c = op (a * b) (a * c)) (dr : ∀ a b c, op b c * a = op (b * a) (c * a)) (t : Nat → Nat) : bq_sv 1 (fun p q => p * q) op t 7 0 = bq_v3 op (bq_w t) 2 2 2 := by
  rw [bq_e_222]
  show (1) * (op ((1) * (op (((1) * (t 16)) * (op (((1) * (t 0)) * (t 32)) (((1) * (t 1)) * (t 34)))) (((1) * (t 17)) * (op (((1) * (t 0)) * (t 36)) (((1) * (t 1)) * (t 38)))))) ((1) * (op (((1) * (t 16)) * (op (((1) * (t 0)) * (t 33)) (((1) * (t 1)) * (t 35)))) (((1) * (t 17)) * (op (((1) * (t 0)) * (t 37)) (((1) * (t 1)) * (t 39))))))) = op (op (op (t 0 * t 16 * t 32) (t 1 * t 16 * t 34)) (op (t 0 * t 17 * t 36) (t 1 * t 17 * t 38))) (op (op (t 0 * t 16 * t 33) (t 1 * t 16 * t 35)) (op (t 0 * t 17 * t 37) (t 1 * t 17 * t 39)))
  simp only [Nat.one_mul, dl, dr, Nat.mul_assoc, Nat.mul_comm, Nat.mul_left_comm, asc, cm, lc]
theorem bq_kk (op : Nat → Nat → Nat) (asc : ∀ a b c, op (op a b) c = op a (op b c)) (cm : ∀ a b, op a b = op b a) (lc : ∀ a b c, op a (op b c) = op b (op a c)) (dl : ∀ a b c, a * op b c = op (a * b) (a * c)) (dr : ∀ a b c, op b c * a = op (b * a) (c * a)) (t : Nat → Nat) (a b c : Nat) (ha : a < 3) (hb : b < 3) (hc : c < 3) : bq_sv 1 (fun p q => p * q) op t (bq_O a b c) (bq_S a b c) = bq_v3 op (bq_w t) a b c := by
  rcases (show a = 0 ∨ a = 1 ∨ a = 2 by omega) with rfl | rfl | rfl
  · rcases (show b = 0 ∨ b = 1 ∨ b = 2 by omega) with rfl | rfl | rfl
    · rcases (show c = 0 ∨ c = 1 ∨ c = 2 by omega) with rfl | rfl | rfl
      · exact bq_k_000 op asc cm lc dl dr t
      · exact bq_k_001 op asc cm lc dl dr t
      · exact bq_k_002 op asc cm lc dl dr t
    · rcases (show c = 0 ∨ c = 1 ∨ c = 2 by omega) with rfl | rfl | rfl
      · exact bq_k_010 op asc cm lc dl dr t
      · exact bq_k_011 op asc cm lc dl dr t
      · exact bq_k_012 op asc cm lc dl dr t
    · rcases (show c = 0 ∨ c = 1 ∨ c = 2 by omega) with rfl | rfl | rfl
      · exact bq_k_020 op asc cm lc dl dr t
      · exact bq_k_021 op asc cm lc dl dr t
      · exact bq_k_022 op asc cm lc dl dr t
  · rcases (show b = 0 ∨ b = 1 ∨ b = 2 by omega) with rfl | rfl | rfl
    · rcases (show c = 0 ∨ c = 1 ∨ c = 2 by omega) with rfl | rfl | rfl
      · exact bq_k_100 op asc cm lc dl dr t
      · exact bq_k_101 op asc cm lc dl dr t
      · exact bq_k_102 op asc cm lc dl dr t
    · rcases (show c = 0 ∨ c = 1 ∨ c = 2 by omega) with rfl | rfl | rfl
      · exact bq_k_110 op asc cm lc dl dr t
      · exact bq_k_111 op asc cm lc dl dr t
      · exact bq_k_112 op asc cm lc dl dr t
    · rcases (show c = 0 ∨ c = 1 ∨ c = 2 by omega) with rfl | rfl | rfl
      · exact bq_k_120 op asc cm lc dl dr t
      · exact bq_k_121 op asc cm lc dl dr t
      · exact bq_k_122 op asc cm lc dl dr t
  · rcases (show b = 0 ∨ b = 1 ∨ b = 2 by omega) with rfl | rfl | rfl
    · rcases (show c = 0 ∨ c = 1 ∨ c = 2 by omega) with rfl | rfl | rfl
      · exact bq_k_200 op asc cm lc dl dr t
      · exact bq_k_201 op asc cm lc dl dr t
      · exact bq_k_202 op asc cm lc dl dr t
    · rcases (show c = 0 ∨ c = 1 ∨ c = 2 by omega) with rfl | rfl | rfl
      · exact bq_k_210 op asc cm lc dl dr t
      · exact bq_k_211 op asc cm lc dl dr t
      · exact bq_k_212 op asc cm lc dl dr t
    · rcases (show c = 0 ∨ c = 1 ∨ c = 2 by omega) with rfl | rfl | rfl
      · exact bq_k_220 op asc cm lc dl dr t
      · exact bq_k_221 op asc cm lc dl dr t
      · exact bq_k_222 op asc cm lc dl dr t
theorem bq_oO (p : Nat → Nat) : bq_oo p 3 = bq_O (p 0) (p 1) (p 2) := by simp [bq_O, bq_oo]
theorem bq_sS (p : Nat → Nat) : bq_ss p 3 = bq_S (p 0) (p 1) (p 2) := by simp [bq_S, bq_ss]
theorem bq_opk (b : Nat) (t p : Nat → Nat) (hp : ∀ j, j < 3 → p j < 3) : bq_sv 1 (fun p q => p * q) (bq_opN b) t (bq_oo p 3) (bq_ss p 3) = bq_val (bq_opN b) (bq_w t) p := by
  rw [bq_oO, bq_sS]
  unfold bq_val
  by_cases hb : b = 0
  · have e : bq_opN b = fun x y => x + y := funext fun x => funext fun y => if_pos hb
    rw [e]
    exact bq_kk _ (fun a b c => Nat.add_assoc a b c) (fun a b => Nat.add_comm a b) (fun a b c => Nat.add_left_comm a b c) (fun a b c => Nat.mul_add a b c) (fun a b c => Nat.add_mul b c a) t _ _ _ (hp 0 (by omega)) (hp 1 (by omega)) (hp 2 (by omega))
  · have e : bq_opN b = fun x y => max x y := funext fun x => funext fun y => if_neg hb
    have dl : ∀ a b c : Nat, a * max b c = max (a * b) (a * c) := by
      intro a b c
      rcases Nat.le_total b c with h | h
      · rw [Nat.max_eq_right h, Nat.max_eq_right (Nat.mul_le_mul_left a h)]
      · rw [Nat.max_eq_left h, Nat.max_eq_left (Nat.mul_le_mul_left a h)]
    rw [e]
    exact bq_kk _ (fun a b c => Nat.max_assoc a b c) (fun a b => Nat.max_comm a b) (fun a b c => by show max a (max b c) = max b (max a c); omega) dl (fun a b c => by show max b c * a = max (b * a) (c * a); rw [Nat.mul_comm, dl, Nat.mul_comm a b, Nat.mul_comm a c]) t _ _ _ (hp 0 (by omega)) (hp 1 (by omega)) (hp 2 (by omega))
/-! parametricity: the same run over three kinds of value -/
section
variable {A B C : Type} {Q : A → B → C → Prop} {o1 : A} {o2 : B} {o3 : C} {m1 p1 : A → A → A} {m2 p2 : B → B → B} {m3 p3 : C → C → C}
theorem bq_pa_jn (h1 : Q o1 o2 o3) (hm : ∀ x y a b c d, Q x a c → Q y b d → Q (m1 x y) (m2 a b) (m3 c d)) {sc us : Nat → Nat} {v1 : Nat → Nat → A} {v2 : Nat → Nat → B} {v3 : Nat → Nat → C} (hv : ∀ j k, Q (v1 j k) (v2 j k) (v3 j k)) (v x : Nat) :
    ∀ F, Q (bq_jn o1 m1 sc us v1 v x F) (bq_jn o2 m2 sc us v2 v x F) (bq_jn o3 m3 sc us v3 v x F) := by
  intro F
  induction F with
  | zero => exact h1
  | succ F ih =>
    simp only [bq_jn]
    by_cases c : us F = 0
    · rw [if_pos c, if_pos c, if_pos c]
      exact ih
    · rw [if_neg c, if_neg c, if_neg c]
      by_cases d : sc F / 2 ^ v % 2 = 1
      · rw [if_pos d, if_pos d, if_pos d]
        exact hm _ _ _ _ _ _ ih (hv _ _)
      · rw [if_neg d, if_neg d, if_neg d]
        exact ih
theorem bq_pa_pr (h1 : Q o1 o2 o3) (hm : ∀ x y a b c d, Q x a c → Q y b d → Q (m1 x y) (m2 a b) (m3 c d)) {us : Nat → Nat} {v1 : Nat → Nat → A} {v2 : Nat → Nat → B} {v3 : Nat → Nat → C} (hv : ∀ j k, Q (v1 j k) (v2 j k) (v3 j k)) :
    ∀ F, Q (bq_pr o1 m1 us v1 F) (bq_pr o2 m2 us v2 F) (bq_pr o3 m3 us v3 F) := by
  intro F
  induction F with
  | zero => exact h1
  | succ F ih =>
    simp only [bq_pr]
    by_cases c : us F = 0
    · rw [if_pos c, if_pos c, if_pos c]
      exact ih
    · rw [if_neg c, if_neg c, if_neg c]
      exact hm _ _ _ _ _ _ ih (hv _ _)
theorem bq_pa_lp (h1 : Q o1 o2 o3) (hm : ∀ x y a b c d, Q x a c → Q y b d → Q (m1 x y) (m2 a b) (m3 c d)) (hp : ∀ x y a b c d, Q x a c → Q y b d → Q (p1 x y) (p2 a b) (p3 c d)) :
    ∀ (k o F : Nat) (sc us : Nat → Nat) (v1 : Nat → Nat → A) (v2 : Nat → Nat → B) (v3 : Nat → Nat → C), (∀ j k, Q (v1 j k) (v2 j k) (v3 j k)) → Q (bq_lp o1 m1 p1 k o F sc us v1) (bq_lp o2 m2 p2 k o F sc us v2) (bq_lp o3 m3 p3 k o F sc us v3) := by
  intro k
  induction k with
  | zero =>
    intro o F sc us v1 v2 v3 hv
    exact bq_pa_pr h1 hm hv F
  | succ k ih =>
    intro o F sc us v1 v2 v3 hv
    by_cases c : o = 0
    · subst c
      rw [bq_lp_0, bq_lp_0, bq_lp_0]
      exact bq_pa_pr h1 hm hv F
    · rw [bq_lp_s _ _ c rfl rfl, bq_lp_s _ _ c rfl rfl, bq_lp_s _ _ c rfl rfl]
      refine ih _ _ _ _ _ _ _ (fun j k => ?_)
      by_cases e : j = F
      · subst e
        rw [bq_x_s, bq_x_s, bq_x_s]
        exact hp _ _ _ _ _ _ (bq_pa_jn h1 hm hv _ _ _) (bq_pa_jn h1 hm hv _ _ _)
      · rw [bq_x_n e, bq_x_n e, bq_x_n e]
        exact hv j k
end
def bq_Q (x : Int64) (a b : Nat) : Prop := 1 ≤ b ∧ a ≤ b ∧ (b < 2 ^ 63 → x = lN a)
theorem bq_Q_mul (x y : Int64) (a b c d : Nat) (h : bq_Q x a c) (k : bq_Q y b d) : bq_Q (x * y) (a * b) (c * d) := by
  obtain ⟨h1, h2, h3⟩ := h
  obtain ⟨k1, k2, k3⟩ := k
  refine ⟨Nat.mul_pos h1 k1, Nat.mul_le_mul h2 k2, fun z => ?_⟩
  rw [h3 (Nat.lt_of_le_of_lt (Nat.le_mul_of_pos_right c k1) z), k3 (Nat.lt_of_le_of_lt (Nat.le_mul_of_pos_left d h1) z), lN_mul]
theorem bq_Q_op (g : Nat) (hg : g < 2) (x y : Int64) (a b c d : Nat) (h : bq_Q x a c) (k : bq_Q y b d) : bq_Q (bq_op (nI g) x y) (bq_opN g a b) (c + d) := by
  obtain ⟨h1, h2, h3⟩ := h
  obtain ⟨k1, k2, k3⟩ := k
  unfold bq_op bq_opN
  rcases (show g = 0 ∨ g = 1 by omega) with rfl | rfl
  · rw [if_pos (show nI 0 = 0 from rfl), if_pos rfl]
    refine ⟨by omega, by omega, fun z => ?_⟩
    rw [h3 (by omega), k3 (by omega), lN_add]
  · rw [if_neg (show ¬ nI 1 = 0 by decide), if_neg (show ¬ (1 : Nat) = 0 by decide)]
    refine ⟨by omega, by omega, fun z => ?_⟩
    rw [h3 (by omega), k3 (by omega)]
    by_cases e : a ≤ b
    · rw [if_pos ((pk_lLE (by omega) (by omega)).mpr e), Nat.max_eq_right e]
    · rw [if_neg (fun q => e ((pk_lLE (by omega) (by omega)).mp q)), Nat.max_eq_left (by omega)]
theorem bq_bnd : ∀ o, o < 8 → ∀ st, st < 8 → bq_sv 1 (fun p q => p * q) (fun p q => p + q) (fun _ => 9) o st < 2 ^ 63 := by decide +kernel
/-- the object's entries are t, digits where they matter -/
def bq_T (t : Nat → Nat) (a2 : Nat → Int32) : Prop := ∀ v, v < 3 → ∀ x, x < 8 → a2 (bq_ix v x) = nI (t (bq_ix v x)) ∧ t (bq_ix v x) ≤ 9
theorem bq_sub8 (s k : Nat) : bq_sub s k < 8 := by
  have a1 : s % 2 ≤ 1 := by omega
  have a2 : s / 2 % 2 ≤ 1 := by omega
  have a3 : s / 4 % 2 ≤ 1 := by omega
  have b1 : k % 2 ≤ 1 := by omega
  have b2 : k / 2 ^ (s % 2) % 2 ≤ 1 := Nat.le_of_lt_succ (Nat.mod_lt _ (by decide))
  have b3 : k / 2 ^ (s % 2 + s / 2 % 2) % 2 ≤ 1 := Nat.le_of_lt_succ (Nat.mod_lt _ (by decide))
  have h1 := Nat.mul_le_mul a1 b1
  have h2 := Nat.mul_le_mul (Nat.mul_le_mul_right 2 a2) b2
  have h3 := Nat.mul_le_mul (Nat.mul_le_mul_right 4 a3) b3
  exact Nat.lt_of_le_of_lt (Nat.add_le_add (Nat.add_le_add h1 h2) h3) (by decide)
theorem bq_svN {t : Nat → Nat} {a2 : Nat → Int32} (ht : bq_T t a2) (b o st : Nat) (hb : b < 2) (ho : o < 8) (hst : st < 8) :
    bq_sv 1 (fun p q => p * q) (bq_op (nI b)) (fun i => (a2 i).toInt64) o st = lN (bq_sv 1 (fun p q => p * q) (bq_opN b) t o st) := by
  have h1 : bq_Q 1 1 1 := ⟨Nat.le_refl 1, Nat.le_refl 1, fun _ => rfl⟩
  have hv : ∀ i, i ≤ 3 → ∀ j k, bq_Q (bq_va3 1 (fun i => (a2 i).toInt64) o st i j k) (bq_va3 1 t o st i j k) (bq_va3 1 (fun _ => 9) o st i j k) := by
    intro i
    induction i with
    | zero => intro _ j k; exact h1
    | succ i ih =>
      intro hi j k
      simp only [bq_va3]
      by_cases e : j = i
      · subst e
        rw [bq_x_s, bq_x_s, bq_x_s]
        have x8 := (bq_or _ (bq_sub8 (bq_scp j &&& o) k) st hst).2
        obtain ⟨q1, q2⟩ := ht j (by omega) _ x8
        exact ⟨by decide, q2, fun _ => by rw [q1]; exact nI_l (by omega)⟩
      · rw [bq_x_n e, bq_x_n e, bq_x_n e]
        exact ih (by omega) j k
  have q := bq_pa_lp (Q := bq_Q) h1 bq_Q_mul (bq_Q_op b hb) 7 o 3 (bq_sc3 o 3) (bq_us3 3) _ _ _ (hv 3 (Nat.le_refl 3))
  exact q.2.2 (bq_bnd o ho st hst)
theorem bq_solve {post : Int64 → St2 → Prop} {f g : Int32} {a2 a3 a4 a5 : Nat → Int32} {a6 : Nat → Int64} {a7 : Nat → Int32} {t : Nat → Nat} (ht : bq_T t a2) (b : Nat) (p : Nat → Nat) (hb : b < 2) (hp : ∀ j, j < 3 → p j < 3) (h4 : ∀ j, j < 3 → a4 j = nI (p j))
    (H : ∀ (f g : Int32) (b5 : Nat → Int32) (b6 : Nat → Int64) (b7 : Nat → Int32), post (lN (bq_val (bq_opN b) (bq_w t) p)) (3, f, g, bq_P, a2, a3, a4, b5, b6, b7)) :
    wpX_solve post (3, f, g, bq_P, a2, a3, a4, a5, a6, a7) (nI b) := by
  refine bq_solveW b p hb hp h4 (fun f b5 b6 b7 => ?_)
  rw [bq_svN ht b _ _ hb (bq_os8 hp 3 (Nat.le_refl 3)).1 (bq_os8 hp 3 (Nat.le_refl 3)).2, bq_opk b t p hp]
  exact H f (nI b) b5 b6 b7
end
section
/-! ===== 05: the methods that the law calls ===== -/
/-- what is seen: 2 (nothing) of variables 0 and 1, L of variable 2 -/
def bq_sn (L : Nat) : Nat → Nat := fun j => if j = 2 then L else 2
theorem bq_sn3 {L : Nat} (hL : L < 3) : ∀ j, j < 3 → bq_sn L j < 3 := by
  intro j _
  unfold bq_sn
  split
  · exact hL
  · omega
theorem bq_x3 {p : Nat → Nat} {v x : Nat} (hp : ∀ j, j < 3 → p j < 3) (hx : x < 3) : ∀ j, j < 3 → bq_x p v x j < 3 := by
  intro j hj
  unfold bq_x
  split
  · exact hx
  · exact hp j hj
theorem bq_upd4 {a4 : Nat → Int32} {p : Nat → Nat} {v x : Nat} (h4 : ∀ j, j < 3 → a4 j = nI (p j)) : ∀ j, j < 3 → upd a4 v (nI x) j = nI (bq_x p v x j) := by
  intro j hj
  by_cases e : j = v
  · subst e
    rw [pk_us, bq_x_s]
  · rw [pk_un e, bq_x_n e]
    exact h4 j hj
theorem bq_o_le {b m q : Nat} {f : Nat → Nat} (hq : q < 3) (hf : ∀ i, i < 2 → f i ≤ m) : bq_o (bq_opN b) q f ≤ 2 * m := by
  have h0 := hf 0 (by omega)
  have h1 := hf 1 (by omega)
  unfold bq_o bq_opN
  by_cases c : q = 2
  · rw [if_pos c]
    by_cases d : b = 0
    · rw [if_pos d]
      omega
    · rw [if_neg d]
      omega
  · rw [if_neg c]
    have := hf q (by omega)
    omega
theorem bq_val_le {b : Nat} {w p : Nat → Nat} (hp : ∀ j, j < 3 → p j < 3) (hw : ∀ x, x < 8 → w x ≤ 729) : bq_val (bq_opN b) w p ≤ 5832 := by
  unfold bq_val bq_v3
  refine bq_o_le (m := 2916) (hp 2 (by omega)) (fun z hz => ?_)
  refine bq_o_le (m := 1458) (hp 1 (by omega)) (fun y hy => ?_)
  refine bq_o_le (m := 729) (hp 0 (by omega)) (fun x hx => ?_)
  exact hw _ (by omega)
theorem bq_w_le {t : Nat → Nat} {a2 : Nat → Int32} (ht : bq_T t a2) : ∀ x, x < 8 → bq_w t x ≤ 729 := by
  intro x hx
  exact Nat.mul_le_mul (Nat.mul_le_mul (ht 0 (by omega) x hx).2 (ht 1 (by omega) x hx).2) (ht 2 (by omega) x hx).2
theorem bq_takeSeen {post : St2 → Prop} {f g : Int32} {a1 a2 a3 a4 a5 : Nat → Int32} {a6 : Nat → Int64} {a7 : Nat → Int32} (H : ∀ b4 : Nat → Int32, (∀ j, j < 3 → b4 j = a3 j) → post (3, f, g, a1, a2, a3, b4, a5, a6, a7)) :
    wpX_takeSeen post (3, f, g, a1, a2, a3, a4, a5, a6, a7) := by
  unfold wpX_takeSeen
  try dsimp only
  refine pk_loop (fun n i s => wX_takeSeen_2 post 3 f g n (nI i) a1 a2 a3 s a5 a6 a7) (fun i s => ∀ j, j < i → s j = a3 j) 3 0 a4 (by omega) (fun j hj => absurd hj (by omega)) ?_ ?_
  · intro n s h
    exact pk_le 3 3 (fun _ => H s h) (fun z => absurd z (by omega))
  · intro n i s hi h hw
    refine pk_le 3 i (fun z => absurd z (by omega)) (fun _ => ?_)
    rw [nI_clamp (show i < 2 ^ 31 by omega)]
    refine ⟨pk_in i 7 (by omega), pk_in i 7 (by omega), nm_e (nm_r (nI_1 i) (hw _ (fun j hj => ?_)))⟩
    by_cases e : j = i
    · subst e
      rw [pk_us]
    · rw [pk_un e]
      exact h j (by omega)
theorem bq_nf : ∀ x, x < 2 → ¬ nI 2 = 1 - nI x := by decide +kernel
theorem bq_fix {post : Int32 → St2 → Prop} {f g : Int32} {a1 a2 a3 a4 a5 : Nat → Int32} {a6 : Nat → Int64} {a7 : Nat → Int32} (v x : Nat) (hv : v < 3) (hx : x < 2) (h : a4 v = nI 2) (H : post 1 (3, f, g, a1, a2, a3, upd a4 v (nI x), a5, a6, a7)) :
    wpX_fix post (3, f, g, a1, a2, a3, a4, a5, a6, a7) (nI v) (nI x) := by
  unfold wpX_fix
  try dsimp only
  rw [nI_clamp (show v < 2 ^ 31 by omega), h]
  exact ⟨pk_in v 7 (by omega), br_f (bq_nf x hx) ⟨pk_in v 7 (by omega), nm_e H⟩⟩
section
variable {f g : Int32} {a2 a3 a4 a5 : Nat → Int32} {a6 : Nat → Int64} {a7 : Nat → Int32} {t : Nat → Nat} {L : Nat}
theorem bq_total {post : Int64 → St2 → Prop} (ht : bq_T t a2) (hL : L < 3) (h3 : ∀ j, j < 3 → a3 j = nI (bq_sn L j))
    (H : ∀ (f g : Int32) (b4 b5 : Nat → Int32) (b6 : Nat → Int64) (b7 : Nat → Int32), post (lN (bq_val (bq_opN 0) (bq_w t) (bq_sn L))) (3, f, g, bq_P, a2, a3, b4, b5, b6, b7)) :
    wpX_total post (3, f, g, bq_P, a2, a3, a4, a5, a6, a7) := by
  unfold wpX_total
  try dsimp only
  refine bq_takeSeen (fun b4 h4 => ?_)
  try dsimp only
  refine bq_solve ht 0 (bq_sn L) (by decide) (bq_sn3 hL) (fun j hj => (h4 j hj).trans (h3 j hj)) (fun f g b5 b6 b7 => ?_)
  try dsimp only
  exact H _ _ _ _ _ _
theorem bq_totalWith {post : Int64 → St2 → Prop} (ht : bq_T t a2) (hL : L < 3) (h3 : ∀ j, j < 3 → a3 j = nI (bq_sn L j)) (v x : Nat) (hv : v < 2) (hx : x < 2)
    (H : ∀ (f g : Int32) (b4 b5 : Nat → Int32) (b6 : Nat → Int64) (b7 : Nat → Int32), post (lN (bq_val (bq_opN 0) (bq_w t) (bq_x (bq_sn L) v x))) (3, f, g, bq_P, a2, a3, b4, b5, b6, b7)) :
    wpX_totalWith post (3, f, g, bq_P, a2, a3, a4, a5, a6, a7) (nI v) (nI x) := by
  have K : wX_totalWith_25 post (nI v) (nI x) 3 f g bq_P a2 a3 a4 a5 a6 a7 := by
    unfold wX_totalWith_25
    refine bq_takeSeen (fun b4 h4 => ?_)
    try dsimp only
    have h4' : ∀ j, j < 3 → b4 j = nI (bq_sn L j) := fun j hj => (h4 j hj).trans (h3 j hj)
    have e2 : bq_sn L v = 2 := if_neg (by omega)
    refine bq_fix v x (by omega) hx (by rw [h4' v (by omega), e2]) ?_
    try dsimp only
    refine br_f (by decide) ?_
    refine bq_solve ht 0 (bq_x (bq_sn L) v x) (by decide) (bq_x3 (bq_sn3 hL) (by omega)) (bq_upd4 h4') (fun f g b5 b6 b7 => ?_)
    try dsimp only
    exact H _ _ _ _ _ _
  unfold wpX_totalWith
  try dsimp only
  refine bq_good v (by omega) ?_
  try dsimp only
  exact br_f (by decide) (pk_eq x 0 (fun _ => K) (fun _ => pk_eq x 1 (fun _ => K) (fun z => absurd z (by omega))))
theorem bq_pairSum {post : Int64 → St2 → Prop} (ht : bq_T t a2) (hL : L < 3) (h3 : ∀ j, j < 3 → a3 j = nI (bq_sn L j)) (x y : Nat) (hx : x < 2) (hy : y < 2)
    (H : ∀ (f g : Int32) (b4 b5 : Nat → Int32) (b6 : Nat → Int64) (b7 : Nat → Int32), post (lN (bq_val (bq_opN 0) (bq_w t) (bq_x (bq_x (bq_sn L) 0 x) 1 y))) (3, f, g, bq_P, a2, a3, b4, b5, b6, b7)) :
    wpX_pairSum post (3, f, g, bq_P, a2, a3, a4, a5, a6, a7) (nI 0) (nI x) (nI 1) (nI y) := by
  unfold wpX_pairSum
  try dsimp only
  refine bq_takeSeen (fun b4 h4 => ?_)
  try dsimp only
  have h4' : ∀ j, j < 3 → b4 j = nI (bq_sn L j) := fun j hj => (h4 j hj).trans (h3 j hj)
  refine bq_fix 0 x (by omega) hx (h4' 0 (by omega)) ?_
  try dsimp only
  refine br_f (by decide) ?_
  have h5 := bq_upd4 (v := 0) (x := x) h4'
  refine bq_fix 1 y (by omega) hy (h5 1 (by omega)) ?_
  try dsimp only
  refine br_f (by decide) ?_
  unfold wX_pairSum_32
  refine br_f (by decide) ?_
  refine bq_solve ht 0 (bq_x (bq_x (bq_sn L) 0 x) 1 y) (by decide) (bq_x3 (bq_x3 (bq_sn3 hL) (by omega)) (by omega)) (bq_upd4 h5) (fun f g b5 b6 b7 => ?_)
  try dsimp only
  exact H _ _ _ _ _ _
theorem bq_totalPair {post : Int64 → St2 → Prop} (ht : bq_T t a2) (hL : L < 3) (h3 : ∀ j, j < 3 → a3 j = nI (bq_sn L j)) (x y : Nat) (hx : x < 2) (hy : y < 2)
    (H : ∀ (f g : Int32) (b4 b5 : Nat → Int32) (b6 : Nat → Int64) (b7 : Nat → Int32), post (lN (bq_val (bq_opN 0) (bq_w t) (bq_x (bq_x (bq_sn L) 0 x) 1 y))) (3, f, g, bq_P, a2, a3, b4, b5, b6, b7)) :
    wpX_totalPair post (3, f, g, bq_P, a2, a3, a4, a5, a6, a7) (nI 0) (nI x) (nI 1) (nI y) := by
  unfold wpX_totalPair
  try dsimp only
  refine bq_good 0 (by omega) ?_
  refine br_f (by decide) ?_
  refine bq_good 1 (by omega) ?_
  refine br_f (by decide) ?_
  refine pk_lt x 0 (fun z => absurd z (by omega)) (fun _ => pk_lt 1 x (fun z => absurd z (by omega)) (fun _ => pk_lt y 0 (fun z => absurd z (by omega)) (fun _ => pk_le y 1 (fun _ => ?_) (fun z => absurd z (by omega)))))
  refine bq_pairSum ht hL h3 x y hx hy (fun f g b4 b5 b6 b7 => ?_)
  try dsimp only
  exact H _ _ _ _ _ _
theorem bq_best {post : Int32 → St2 → Prop} (ht : bq_T t a2) (hL : L < 3) (h3 : ∀ j, j < 3 → a3 j = nI (bq_sn L j))
    (H : ∀ (f g : Int32) (b4 b5 : Nat → Int32) (b6 : Nat → Int64) (b7 : Nat → Int32), post (nI (bq_val (bq_opN 1) (bq_w t) (bq_sn L))) (3, f, g, bq_P, a2, a3, b4, b5, b6, b7)) :
    wpX_best post (3, f, g, bq_P, a2, a3, a4, a5, a6, a7) := by
  unfold wpX_best
  try dsimp only
  refine bq_takeSeen (fun b4 h4 => ?_)
  try dsimp only
  refine bq_solve ht 1 (bq_sn L) (by decide) (bq_sn3 hL) (fun j hj => (h4 j hj).trans (h3 j hj)) (fun f g b5 b6 b7 => ?_)
  try dsimp only
  rw [lN_i]
  exact H _ _ _ _ _ _
theorem bq_bestWith {post : Int32 → St2 → Prop} (ht : bq_T t a2) (hL : L < 3) (h3 : ∀ j, j < 3 → a3 j = nI (bq_sn L j))
    (H : ∀ (f g : Int32) (b4 b5 : Nat → Int32) (b6 : Nat → Int64) (b7 : Nat → Int32), post (nI (bq_val (bq_opN 1) (bq_w t) (bq_x (bq_sn L) 1 1))) (3, f, g, bq_P, a2, a3, b4, b5, b6, b7)) :
    wpX_bestWith post (3, f, g, bq_P, a2, a3, a4, a5, a6, a7) (nI 1) (nI 1) := by
  have K : wX_bestWith_22 post (nI 1) (nI 1) 3 f g bq_P a2 a3 a4 a5 a6 a7 := by
    unfold wX_bestWith_22
    refine bq_takeSeen (fun b4 h4 => ?_)
    try dsimp only
    have h4' : ∀ j, j < 3 → b4 j = nI (bq_sn L j) := fun j hj => (h4 j hj).trans (h3 j hj)
    refine bq_fix 1 1 (by omega) (by omega) (h4' 1 (by omega)) ?_
    try dsimp only
    refine br_f (by decide) ?_
    refine bq_solve ht 1 (bq_x (bq_sn L) 1 1) (by decide) (bq_x3 (bq_sn3 hL) (by omega)) (bq_upd4 h4') (fun f g b5 b6 b7 => ?_)
    try dsimp only
    rw [lN_i]
    exact H _ _ _ _ _ _
  unfold wpX_bestWith
  try dsimp only
  refine bq_good 1 (by omega) ?_
  try dsimp only
  exact br_f (by decide) (br_f (by decide) (br_t (by decide) K))
/-! bestNumber: one bit after the other, from the top -/
def bq_gr (w : Nat → Nat) (M : Nat) (p : Nat → Nat) (v : Nat) : Nat := if p v = 2 then (if bq_val (bq_opN 1) w (bq_x p v 0) = M then 0 else 1) else p v
theorem bq_gr2 {w : Nat → Nat} {M : Nat} {p : Nat → Nat} {v : Nat} (h : p v < 3) : bq_gr w M p v < 2 := by
  unfold bq_gr
  split
  · split
    · omega
    · omega
  · omega
theorem bq_bn70 {post : Int32 → St2 → Prop} {J : Int32 → Int32 → Int32 → Int32 → Int32 → (Nat → Int32) → (Nat → Int32) → (Nat → Int32) → (Nat → Int32) → (Nat → Int32) → (Nat → Int64) → (Nat → Int32) → Prop} {G : Int64} (v x3 q : Nat) (hv : v < 3) (hq : q < 2) (h : a4 v = nI q)
    (K : J (nI (x3 + q * 2 ^ v)) (nI v + (-1)) 3 f g bq_P a2 a3 a4 a5 a6 a7) : wX_bestNumber_70 post J G (nI x3) (nI v) 3 f g bq_P a2 a3 a4 a5 a6 a7 := by
  unfold wX_bestNumber_70
  rw [nI_clamp (show v < 2 ^ 31 by omega), h, (bq_shlp v hv q hq).1, nI_add]
  exact ⟨pk_in v 7 (by omega), nm_e (nm_e K)⟩
theorem bq_bn20 {post : Int32 → St2 → Prop} (ht : bq_T t a2) (n M v x3 : Nat) (p : Nat → Nat) (hM : M < 2 ^ 63) (hv : v < 3) (hp : ∀ j, j < 3 → p j < 3) (h4 : ∀ j, j < 3 → a4 j = nI (p j))
    (K : ∀ (f g : Int32) (b4 b5 : Nat → Int32) (b6 : Nat → Int64) (b7 : Nat → Int32), (∀ j, j < 3 → b4 j = nI (bq_x p v (bq_gr (bq_w t) M p v) j)) → wX_bestNumber_20 post (lN M) n (nI (x3 + bq_gr (bq_w t) M p v * 2 ^ v)) (nI v + (-1)) 3 f g bq_P a2 a3 b4 b5 b6 b7) :
    wX_bestNumber_20 post (lN M) (n + 1) (nI x3) (nI v) 3 f g bq_P a2 a3 a4 a5 a6 a7 := by
  refine pk_lt v 0 (fun z => absurd z (by omega)) (fun _ => ⟨pk_in v 7 (by omega), ?_⟩)
  rw [nI_clamp (show v < 2 ^ 31 by omega), h4 v hv]
  refine pk_eq (p v) 2 (fun z => ⟨pk_in v 7 (by omega), nm_e ?_⟩) (fun z => ?_) rfl rfl (by have := hp v hv; omega)
  · have h5 : ∀ j, j < 3 → upd a4 v (nI 0) j = nI (bq_x p v 0 j) := bq_upd4 h4
    have p5 : ∀ j, j < 3 → bq_x p v 0 j < 3 := bq_x3 hp (by omega)
    refine bq_solve ht 1 (bq_x p v 0) (by decide) p5 h5 (fun f g b5 b6 b7 => ?_)
    try dsimp only
    have hV := bq_val_le (b := 1) p5 (bq_w_le ht)
    have step : ∀ q, q < 2 → bq_gr (bq_w t) M p v = q → wX_bestNumber_69 post (wX_bestNumber_20 post (lN M) n) (lN M) (nI x3) (nI v) (nI q) (nI v) 3 f g bq_P a2 a3 (upd a4 v 0) b5 b6 b7 := by
      intro q hq eq
      unfold wX_bestNumber_69
      rw [nI_clamp (show v < 2 ^ 31 by omega)]
      refine ⟨pk_in v 7 (by omega), nm_e ?_⟩
      refine bq_bn70 v x3 q hv hq pk_us ?_
      have k := K f g (upd (upd a4 v 0) v (nI q)) b5 b6 b7
      rw [eq] at k
      refine k (fun j hj => ?_)
      by_cases e : j = v
      · subst e
        rw [pk_us, bq_x_s]
      · rw [pk_un e, pk_un e, bq_x_n e]
        exact h4 j hj
    refine ek_if (pk_lEQ (by omega) hM) (fun y => ?_) (fun y => ?_)
    · exact step 0 (by omega) ((if_pos z).trans (if_pos y))
    · exact step 1 (by omega) ((if_pos z).trans (if_neg y))
  · have eq : bq_gr (bq_w t) M p v = p v := if_neg z
    have := hp v hv
    refine bq_bn70 v x3 (p v) hv (by omega) (h4 v hv) ?_
    have k := K f g a4 a5 a6 a7
    rw [eq] at k
    refine k (fun j hj => ?_)
    by_cases e : j = v
    · subst e
      rw [bq_x_s]
      exact h4 j hj
    · rw [bq_x_n e]
      exact h4 j hj
/-- the number that bestNumber answers -/
def bq_bc (w : Nat → Nat) (L : Nat) : Nat := bq_gr w (bq_val (bq_opN 1) w (bq_sn L)) (bq_sn L) 2
def bq_bb (w : Nat → Nat) (L : Nat) : Nat := bq_gr w (bq_val (bq_opN 1) w (bq_sn L)) (bq_x (bq_sn L) 2 (bq_bc w L)) 1
def bq_ba (w : Nat → Nat) (L : Nat) : Nat := bq_gr w (bq_val (bq_opN 1) w (bq_sn L)) (bq_x (bq_x (bq_sn L) 2 (bq_bc w L)) 1 (bq_bb w L)) 0
def bq_bn (w : Nat → Nat) (L : Nat) : Nat := 0 + bq_bc w L * 2 ^ 2 + bq_bb w L * 2 ^ 1 + bq_ba w L * 2 ^ 0
theorem bq_bestNumber {post : Int32 → St2 → Prop} (ht : bq_T t a2) (hL : L < 3) (h3 : ∀ j, j < 3 → a3 j = nI (bq_sn L j))
    (H : ∀ (f g : Int32) (b4 b5 : Nat → Int32) (b6 : Nat → Int64) (b7 : Nat → Int32), post (nI (bq_bn (bq_w t) L)) (3, f, g, bq_P, a2, a3, b4, b5, b6, b7)) :
    wpX_bestNumber post (3, f, g, bq_P, a2, a3, a4, a5, a6, a7) := by
  have hM : bq_val (bq_opN 1) (bq_w t) (bq_sn L) < 2 ^ 63 := Nat.lt_of_le_of_lt (bq_val_le (bq_sn3 hL) (bq_w_le ht)) (by decide)
  have p0 := bq_sn3 hL
  have q0 : bq_bc (bq_w t) L < 2 := bq_gr2 (p0 2 (by omega))
  have p1 : ∀ j, j < 3 → bq_x (bq_sn L) 2 (bq_bc (bq_w t) L) j < 3 := bq_x3 p0 (by omega)
  have q1 : bq_bb (bq_w t) L < 2 := bq_gr2 (p1 1 (by omega))
  have p2 : ∀ j, j < 3 → bq_x (bq_x (bq_sn L) 2 (bq_bc (bq_w t) L)) 1 (bq_bb (bq_w t) L) j < 3 := bq_x3 p1 (by omega)
  unfold wpX_bestNumber
  try dsimp only
  refine bq_takeSeen (fun b4 h4 => ?_)
  try dsimp only
  have h4' : ∀ j, j < 3 → b4 j = nI (bq_sn L j) := fun j hj => (h4 j hj).trans (h3 j hj)
  refine bq_solve ht 1 (bq_sn L) (by decide) p0 h4' (fun f g b5 b6 b7 => ?_)
  try dsimp only
  refine nm_r (show (3 : Int32) - 1 = nI 2 from rfl) ⟨4, ?_⟩
  refine bq_bn20 ht 3 _ 2 0 (bq_sn L) hM (by omega) p0 h4' (fun f g b4 b5 b6 b7 h4 => ?_)
  rw [pk_m1]
  refine bq_bn20 ht 2 _ 1 _ (bq_x (bq_sn L) 2 (bq_bc (bq_w t) L)) hM (by omega) p1 h4 (fun f g b4 b5 b6 b7 h4 => ?_)
  rw [pk_m1]
  refine bq_bn20 ht 1 _ 0 _ (bq_x (bq_x (bq_sn L) 2 (bq_bc (bq_w t) L)) 1 (bq_bb (bq_w t) L)) hM (by omega) p2 h4 (fun f g b4 b5 b6 b7 h4 => ?_)
  exact br_t (by decide) (H f g b4 b5 b6 b7)
/-! weight -/
def bq_wp (t : Nat → Nat) (x : Nat) : Nat → Nat
  | 0 => 1
  | v + 1 => bq_wp t x v * t (bq_ix v x)
theorem bq_weight {post : Int32 → Prop} (ht : bq_T t a2) (x : Nat) (hx : x < 8) (H : post (nI (bq_w t x))) : wpX_weight post (3, f, g, bq_P, a2, a3, a4, a5, a6, a7) (nI x) := by
  unfold wpX_weight
  try dsimp only
  refine pk_lt x 0 (fun z => absurd z (by omega)) (fun _ => pk_lt x 8 (fun _ => ?_) (fun z => absurd z (by omega)))
  unfold wpX_weightOf
  try dsimp only
  refine pk_loop (σ := Unit) (fun n i _ => wX_weightOf_4 (fun r_3 => post r_3) (nI x) 3 f g bq_P a2 a3 a4 a5 a6 a7 n (nI (bq_wp t x i)) (nI i)) (fun _ _ => True) 3 0 () (by omega) trivial ?_ ?_
  · intro n _ _
    refine pk_le 3 3 (fun _ => ?_) (fun z => absurd z (by omega))
    have e : bq_wp t x 3 = bq_w t x := by
      simp only [bq_wp, bq_w, Nat.one_mul]
    rw [e]
    exact H
  · intro n i _ hi _ hw
    refine pk_le 3 i (fun z => absurd z (by omega)) (fun _ => ?_)
    refine bq_entryFor i x hi hx ?_
    try dsimp only
    rw [(ht i hi x hx).1, pk_mul]
    exact nm_e (nm_r (nI_1 i) (hw () trivial))
theorem bq_weight8 {post : Int32 → Prop} (H : post (-1)) : wpX_weight post (3, f, g, bq_P, a2, a3, a4, a5, a6, a7) 8 := by
  unfold wpX_weight
  try dsimp only
  exact br_f (by decide) (br_f (by decide) H)
end
end
section
/-! ===== 06: enter, parents, observe, init, blanket, separated, independent ===== -/
section
variable {f g : Int32} {a1 a2 a3 a4 a5 : Nat → Int32} {a6 : Nat → Int64} {a7 : Nat → Int32}
theorem bq_cp : ∀ v, v < 3 → bq_cnt (bq_par v) < 3 := by decide +kernel
theorem bq_eix (v r o : Nat) : ((16 * nI v) + (2 * nI r)) + nI o = nI (16 * v + 2 * r + o) := by
  rw [show (16 : Int32) = nI 16 from rfl, show (2 : Int32) = nI 2 from rfl, pk_mul, pk_mul, nI_add, nI_add]
theorem bq_enter {post : Int32 → St2 → Prop} (v r o e : Nat) (hv : v < 3) (hr : r < 2 ^ bq_cnt (bq_par v)) (ho : o < 2) (he : e ≤ 9)
    (H : post (a2 (16 * v + 2 * r + o)) (3, f, g, bq_P, upd a2 (16 * v + 2 * r + o) (nI e), a3, a4, a5, a6, a7)) :
    wpX_enter post (3, f, g, bq_P, a2, a3, a4, a5, a6, a7) (nI v) (nI r) (nI o) (nI e) := by
  have c3 := bq_cp v hv
  have s1 := bq_shl1 _ c3
  have r8 : r < 8 := by omega
  have K : wX_enter_48 post (nI v) (nI r) (nI o) (nI e) 3 f g bq_P a2 a3 a4 a5 a6 a7 := by
    unfold wX_enter_48
    rw [bq_eix, nI_clamp (show 16 * v + 2 * r + o < 2 ^ 31 by omega)]
    exact pk_lt e 0 (fun z => absurd z (by omega)) (fun _ => pk_le e 9 (fun _ => ⟨pk_in (16 * v + 2 * r + o) 112 (by omega), nm_e ⟨pk_in (16 * v + 2 * r + o) 112 (by omega), nm_e H⟩⟩) (fun z => absurd z (by omega)))
  unfold wpX_enter
  try dsimp only
  refine bq_good v hv ?_
  try dsimp only
  refine br_f (by decide) ⟨pk_in v 7 (by omega), ?_⟩
  rw [nI_clamp (show v < 2 ^ 31 by omega), bq_P_at v hv]
  refine bq_ones _ (bq_par8 v hv) ?_
  try dsimp only
  rw [s1.1]
  exact nm_e (pk_lt r 0 (fun z => absurd z (by omega)) (fun _ => pk_lt r (2 ^ bq_cnt (bq_par v)) (fun _ => pk_eq o 0 (fun _ => K) (fun _ => pk_eq o 1 (fun _ => K) (fun z => absurd z (by omega)))) (fun z => absurd z (by omega))))
theorem bq_enterX {post : Int32 → St2 → Prop} (H : post (-2) (3, f, g, bq_P, a2, a3, a4, a5, a6, a7)) :
    wpX_enter post (3, f, g, bq_P, a2, a3, a4, a5, a6, a7) 2 4 0 1 := by
  unfold wpX_enter
  try dsimp only
  refine bq_good 2 (by omega) ?_
  try dsimp only
  refine br_f (by decide) ⟨pk_in 2 7 (by omega), ?_⟩
  refine bq_ones 3 (by decide) ?_
  try dsimp only
  refine nm_e (br_f (by decide) (br_f (by decide) H))
theorem bq_parentsX {post : Int32 → St2 → Prop} (H : post (-2) (3, f, g, a1, a2, a3, a4, a5, a6, a7)) :
    wpX_parents post (3, f, g, a1, a2, a3, a4, a5, a6, a7) 2 4 := by
  unfold wpX_parents
  try dsimp only
  refine bq_good 2 (by omega) ?_
  try dsimp only
  exact br_f (by decide) (br_f (by decide) (br_t (by decide) H))
theorem bq_pix (i : Nat) : (16 * (2 : Int32)) + nI i = nI (32 + i) := by
  rw [show 16 * (2 : Int32) = nI 32 from rfl, nI_add]
theorem bq_parents {post : Int32 → St2 → Prop} (h2 : ∀ j, j < 112 → a2 j = 1)
    (H : ∀ b2 : Nat → Int32, (∀ j, j < 112 → b2 j = 1) → post 0 (3, f, g, bq_P, b2, a3, a4, a5, a6, a7)) :
    wpX_parents post (3, f, g, (fun _ => 0), a2, a3, a4, a5, a6, a7) 2 3 := by
  unfold wpX_parents
  try dsimp only
  refine bq_good 2 (by omega) ?_
  try dsimp only
  refine br_f (by decide) (br_f (by decide) (br_f (by decide) ?_))
  refine bq_ones 3 (by decide) ?_
  try dsimp only
  refine br_t (by decide) ⟨pk_in 2 7 (by omega), nm_r (e' := 0) rfl ⟨pk_in 2 7 (by omega), nm_r (e' := bq_P) rfl ?_⟩⟩
  refine pk_loop (fun n i s => wX_parents_49 post 2 0 3 f g n (nI i) bq_P s a3 a4 a5 a6 a7) (fun _ s => ∀ j, j < 112 → s j = 1) 16 0 a2 (by omega) h2 ?_ ?_
  · intro n s h
    exact pk_le 16 16 (fun _ => H s h) (fun z => absurd z (by omega))
  · intro n i s hi h hw
    refine pk_le 16 i (fun z => absurd z (by omega)) (fun _ => ?_)
    rw [bq_pix, nI_clamp (show 32 + i < 2 ^ 31 by omega)]
    refine ⟨pk_in (32 + i) 112 (by omega), nm_e (nm_r (nI_1 i) (hw _ (fun j hj => ?_)))⟩
    by_cases e : j = 32 + i
    · rw [e, pk_us]
    · rw [pk_un e]
      exact h j hj
theorem bq_observe {post : Int32 → St2 → Prop} (L : Nat) (hL : L < 3) (H : post (a3 2) (3, f, g, a1, a2, upd a3 2 (nI L), a4, a5, a6, a7)) :
    wpX_observe post (3, f, g, a1, a2, a3, a4, a5, a6, a7) 2 (nI L) := by
  unfold wpX_observe
  try dsimp only
  refine bq_good 2 (by omega) ?_
  try dsimp only
  exact br_f (by decide) (pk_lt L 0 (fun z => absurd z (by omega)) (fun _ => pk_le L 2 (fun _ => ⟨pk_in 2 7 (by omega), nm_e ⟨pk_in 2 7 (by omega), nm_e H⟩⟩) (fun z => absurd z (by omega))))
theorem bq_init {post : St2 → Prop} (H : ∀ b2 b3 : Nat → Int32, (∀ j, j < 112 → b2 j = 1) → (∀ j, j < 7 → b3 j = 2) → post (3, 0, 0, (fun _ => 0), b2, b3, (fun _ => 0), (fun _ => 0), (fun _ => 0), (fun _ => 0))) :
    wpX_init post 7 2083 (0, 0, 0) 3 := by
  unfold wpX_init
  try dsimp only
  refine ⟨by omega, by omega, by omega, by omega, by omega, by omega, by omega, by omega, by omega, by omega, by omega, by omega, by omega, by omega, br_t (by decide) ?_⟩
  unfold wX_init_72
  refine br_t (by decide) ?_
  refine pk_loop (fun n i s => wX_init_92 post 7 2083 7 2083 3 0 0 n (nI i) (fun _ => 0) (fun _ => 0) s (fun _ => 0) (fun _ => 0) (fun _ => 0) (fun _ => 0)) (fun i s => ∀ j, j < i → s j = 2) 7 0 (fun _ => 0) (by omega) (fun j hj => absurd hj (by omega)) ?_ ?_
  · intro n b3 h3
    refine pk_le 7 7 (fun _ => ?_) (fun z => absurd z (by omega))
    refine pk_loop (fun n i s => wX_init_113 post 7 2083 7 2083 3 0 0 n (nI i) (fun _ => 0) s b3 (fun _ => 0) (fun _ => 0) (fun _ => 0) (fun _ => 0)) (fun i s => ∀ j, j < i → s j = 1) 112 0 (fun _ => 0) (by omega) (fun j hj => absurd hj (by omega)) ?_ ?_
    · intro n b2 h2
      exact pk_le 112 112 (fun _ => H b2 b3 h2 h3) (fun z => absurd z (by omega))
    · intro n i s hi h hw
      refine pk_le 112 i (fun z => absurd z (by omega)) (fun _ => ?_)
      rw [nI_clamp (show i < 2 ^ 31 by omega)]
      refine ⟨pk_in i 112 (by omega), nm_e (nm_r (nI_1 i) (hw _ (fun j hj => ?_)))⟩
      by_cases e : j = i
      · rw [e, pk_us]
      · rw [pk_un e]
        exact h j (by omega)
  · intro n i s hi h hw
    refine pk_le 7 i (fun z => absurd z (by omega)) (fun _ => ?_)
    rw [nI_clamp (show i < 2 ^ 31 by omega)]
    refine ⟨pk_in i 7 (by omega), nm_e (nm_r (nI_1 i) (hw _ (fun j hj => ?_)))⟩
    by_cases e : j = i
    · rw [e, pk_us]
    · rw [pk_un e]
      exact h j (by omega)
/-! blanket -/
def bq_bl (v : Nat) : Nat → Nat
  | 0 => bq_par v
  | w + 1 => if bq_par w / 2 ^ v % 2 = 1 then (bq_bl v w ||| 2 ^ w) ||| bq_par w else bq_bl v w
theorem bq_bl_f : ∀ v, v < 3 → ∀ w, w < 3 → nI (bq_bl v w) ||| nI (2 ^ w) ||| nI (bq_par w) = nI ((bq_bl v w ||| 2 ^ w) ||| bq_par w) := by decide +kernel
theorem bq_bl8 : ∀ v, v < 3 → bq_bl v 3 < 8 := by decide +kernel
theorem bq_blanket {post : Int32 → Prop} (v : Nat) (hv : v < 3) (H : post (nI (bq_cl (bq_bl v 3) v))) : wpX_blanket post (3, f, g, bq_P, a2, a3, a4, a5, a6, a7) (nI v) := by
  unfold wpX_blanket
  try dsimp only
  refine bq_good v hv ?_
  try dsimp only
  refine br_f (by decide) ⟨pk_in v 7 (by omega), ?_⟩
  rw [nI_clamp (show v < 2 ^ 31 by omega)]
  refine nm_r (bq_P_at v hv) ?_
  refine pk_loop (σ := Unit) (fun n i _ => wX_blanket_19 post (nI v) 3 f g bq_P a2 a3 a4 a5 a6 a7 n (nI (bq_bl v i)) (nI i)) (fun _ _ => True) 3 0 () (by omega) trivial ?_ ?_
  · intro n _ _
    refine pk_le 3 3 (fun _ => ?_) (fun z => absurd z (by omega))
    rw [(bq_shl1 v hv).1, (bq_clr v hv _ (bq_bl8 v hv)).1]
    exact H
  · intro n i _ hi _ hw
    have hw' := hw () trivial
    refine pk_le 3 i (fun z => absurd z (by omega)) (fun _ => ⟨pk_in i 7 (by omega), ?_⟩)
    rw [nI_clamp (show i < 2 ^ 31 by omega), bq_P_at i hi, bq_bit v hv _ (bq_par8 i hi), (bq_shl1 i hi).1]
    simp only [bq_bl] at hw'
    refine pk_eq (bq_par i / 2 ^ v % 2) 1 (fun z => ⟨pk_in i 7 (by omega), ?_⟩) (fun z => ?_)
    · rw [if_pos z] at hw'
      exact nm_r (bq_bl_f v hv i hi) (nm_r (nI_1 i) hw')
    · rw [if_neg z] at hw'
      exact nm_r (nI_1 i) hw'
/-! childrenOf, bounce, separated -/
def bq_cn (v : Nat) : Nat → Nat
  | 0 => 0
  | w + 1 => if bq_par w / 2 ^ v % 2 = 1 then bq_cn v w ||| 2 ^ w else bq_cn v w
theorem bq_cn_f : ∀ v, v < 3 → ∀ w, w < 3 → nI (bq_cn v w) ||| nI (2 ^ w) = nI (bq_cn v w ||| 2 ^ w) := by decide +kernel
theorem bq_cn8 : ∀ v, v < 3 → bq_cn v 3 < 8 := by decide +kernel
theorem bq_children {post : Int32 → Prop} (v : Nat) (hv : v < 3) (H : post (nI (bq_cn v 3))) : wpX_childrenOf post (3, f, g, bq_P, a2, a3, a4, a5, a6, a7) (nI v) := by
  unfold wpX_childrenOf
  try dsimp only
  refine pk_loop (σ := Unit) (fun n i _ => wX_childrenOf_4 post (nI v) 3 f g bq_P a2 a3 a4 a5 a6 a7 n (nI (bq_cn v i)) (nI i)) (fun _ _ => True) 3 0 () (by omega) trivial ?_ ?_
  · intro n _ _
    exact pk_le 3 3 (fun _ => H) (fun z => absurd z (by omega))
  · intro n i _ hi _ hw
    have hw' := hw () trivial
    refine pk_le 3 i (fun z => absurd z (by omega)) (fun _ => ⟨pk_in i 7 (by omega), ?_⟩)
    rw [nI_clamp (show i < 2 ^ 31 by omega), bq_P_at i hi, bq_bit v hv _ (bq_par8 i hi), (bq_shl1 i hi).1]
    simp only [bq_cn] at hw'
    refine pk_eq (bq_par i / 2 ^ v % 2) 1 (fun z => ?_) (fun z => ?_)
    · rw [if_pos z] at hw'
      exact nm_r (bq_cn_f v hv i hi) (nm_r (nI_1 i) hw')
    · rw [if_neg z] at hw'
      exact nm_r (nI_1 i) hw'
def bq_nb (ob fb fa v x2 : Nat) : Nat := if (fb = 1 ∧ ob = 0) ∨ (fa = 1 ∧ ob = 1) then x2 ||| bq_par v else x2
def bq_na (ob fb fa v x3 : Nat) : Nat := if (fb = 1 ∨ fa = 1) ∧ ob = 0 then x3 ||| bq_cn v 3 else x3
section
variable {post : Int32 → Prop} {J9 J19 : Int32 → Int32 → Int32 → Prop} {x4 : Int32}
theorem bq_b120 (ob v x2 x3 : Nat) (hob : ob < 2) (hv : v < 3) (h3 : x3 < 8) (K0 : ob = 0 → J19 (nI x2) (nI (x3 ||| bq_cn v 3)) (nI (v + 1))) (K1 : ob = 1 → J19 (nI x2) (nI x3) (nI (v + 1))) :
    wX_bounce_120 post J9 J19 (nI x2) (nI x3) x4 (nI v) (nI ob) 3 f g bq_P a2 a3 a4 a5 a6 a7 := by
  unfold wX_bounce_120
  refine pk_eq ob 0 (fun z => ?_) (fun z => nm_r (nI_1 v) (K1 (by omega)))
  refine bq_children v hv ?_
  try dsimp only
  exact nm_r (bq_or _ h3 _ (bq_cn8 v hv)).1 (nm_r (nI_1 v) (K0 z))
theorem bq_b110 (ob fb fa v x2 x3 : Nat) (hob : ob < 2) (hfb : fb < 2) (hfa : fa < 2) (hv : v < 3) (h3 : x3 < 8) (K : J19 (nI x2) (nI (bq_na ob fb fa v x3)) (nI (v + 1))) :
    wX_bounce_110 post J9 J19 (nI x2) (nI x3) x4 (nI v) (nI ob) (nI fb) (nI fa) 3 f g bq_P a2 a3 a4 a5 a6 a7 := by
  unfold bq_na at K
  unfold wX_bounce_110
  refine pk_eq fb 0 (fun z => pk_eq fa 0 (fun y => nm_r (nI_1 v) ?_) (fun y => ?_)) (fun z => ?_)
  · rw [if_neg (by omega)] at K
    exact K
  · refine bq_b120 ob v x2 x3 hob hv h3 (fun q => ?_) (fun q => ?_)
    · rw [if_pos (by omega)] at K
      exact K
    · rw [if_neg (by omega)] at K
      exact K
  · refine bq_b120 ob v x2 x3 hob hv h3 (fun q => ?_) (fun q => ?_)
    · rw [if_pos (by omega)] at K
      exact K
    · rw [if_neg (by omega)] at K
      exact K
theorem bq_b100 (ob fb fa v x2 x3 : Nat) (hob : ob < 2) (hfb : fb < 2) (hfa : fa < 2) (hv : v < 3) (h2 : x2 < 8) (h3 : x3 < 8) (K : J19 (nI (x2 ||| bq_par v)) (nI (bq_na ob fb fa v x3)) (nI (v + 1))) :
    wX_bounce_100 post J9 J19 (nI x2) (nI x3) x4 (nI v) (nI ob) (nI fb) (nI fa) 3 f g bq_P a2 a3 a4 a5 a6 a7 := by
  unfold wX_bounce_100
  rw [nI_clamp (show v < 2 ^ 31 by omega), bq_P_at v hv]
  exact ⟨pk_in v 7 (by omega), nm_r (bq_or _ h2 _ (bq_par8 v hv)).1 (bq_b110 ob fb fa v _ x3 hob hfb hfa hv h3 K)⟩
theorem bq_b90 (ob fb fa v x2 x3 : Nat) (hob : ob < 2) (hfb : fb < 2) (hfa : fa < 2) (hv : v < 3) (h2 : x2 < 8) (h3 : x3 < 8) (hx : ¬ (fb = 1 ∧ ob = 0)) (K : J19 (nI (bq_nb ob fb fa v x2)) (nI (bq_na ob fb fa v x3)) (nI (v + 1))) :
    wX_bounce_90 post J9 J19 (nI x2) (nI x3) x4 (nI v) (nI ob) (nI fb) (nI fa) 3 f g bq_P a2 a3 a4 a5 a6 a7 := by
  unfold bq_nb at K
  unfold wX_bounce_90
  refine pk_eq fa 0 (fun z => ?_) (fun z => pk_eq ob 0 (fun y => ?_) (fun y => ?_))
  · rw [if_neg (by omega)] at K
    exact bq_b110 ob fb fa v x2 x3 hob hfb hfa hv h3 K
  · rw [if_neg (by omega)] at K
    exact bq_b110 ob fb fa v x2 x3 hob hfb hfa hv h3 K
  · rw [if_pos (by omega)] at K
    exact bq_b100 ob fb fa v x2 x3 hob hfb hfa hv h2 h3 K
theorem bq_b44 (ob v x2 x3 : Nat) (hob : ob < 2) (hv : v < 3) (h2 : x2 < 8) (h3 : x3 < 8) (K : J19 (nI (bq_nb ob (x2 / 2 ^ v % 2) (x3 / 2 ^ v % 2) v x2)) (nI (bq_na ob (x2 / 2 ^ v % 2) (x3 / 2 ^ v % 2) v x3)) (nI (v + 1))) :
    wX_bounce_44 post J9 J19 (nI x2) (nI x3) x4 (nI v) (nI ob) 3 f g bq_P a2 a3 a4 a5 a6 a7 := by
  have m : ∀ y : Nat, y % 2 < 2 := fun y => Nat.mod_lt y (by decide)
  have K78 : ∀ fb fa, fb = x2 / 2 ^ v % 2 → fa = x3 / 2 ^ v % 2 → wX_bounce_78 post J9 J19 (nI x2) (nI x3) x4 (nI v) (nI ob) (nI fb) (nI fa) 3 f g bq_P a2 a3 a4 a5 a6 a7 := by
    intro fb fa e1 e2
    have hfb : fb < 2 := e1 ▸ m _
    have hfa : fa < 2 := e2 ▸ m _
    rw [← e1, ← e2] at K
    unfold wX_bounce_78
    refine pk_eq fb 0 (fun z => ?_) (fun z => pk_eq ob 0 (fun y => ?_) (fun y => ?_))
    · exact bq_b90 ob fb fa v x2 x3 hob hfb hfa hv h2 h3 (by omega) K
    · unfold bq_nb at K
      rw [if_pos (by omega)] at K
      exact bq_b100 ob fb fa v x2 x3 hob hfb hfa hv h2 h3 K
    · exact bq_b90 ob fb fa v x2 x3 hob hfb hfa hv h2 h3 (by omega) K
  have K61 : ∀ fb, fb = x2 / 2 ^ v % 2 → wX_bounce_61 post J9 J19 (nI x2) (nI x3) x4 (nI v) (nI ob) (nI fb) 3 f g bq_P a2 a3 a4 a5 a6 a7 := by
    intro fb e1
    unfold wX_bounce_61
    rw [bq_bit v hv x3 h3]
    refine pk_eq (x3 / 2 ^ v % 2) 1 (fun z => K78 fb 1 e1 z.symm) (fun z => K78 fb 0 e1 ?_) rfl rfl (by have := m (x3 / 2 ^ v); omega)
    have := m (x3 / 2 ^ v)
    omega
  unfold wX_bounce_44
  rw [bq_bit v hv x2 h2]
  refine pk_eq (x2 / 2 ^ v % 2) 1 (fun z => K61 1 z.symm) (fun z => K61 0 ?_) rfl rfl (by have := m (x2 / 2 ^ v); omega)
  have := m (x2 / 2 ^ v)
  omega
end
/-- one round of the ball, variable by variable; the rounds -/
def bq_bf (ob : Nat → Nat) (s : Nat × Nat) : Nat → Nat × Nat
  | 0 => s
  | v + 1 => (bq_nb (ob v) ((bq_bf ob s v).1 / 2 ^ v % 2) ((bq_bf ob s v).2 / 2 ^ v % 2) v (bq_bf ob s v).1, bq_na (ob v) ((bq_bf ob s v).1 / 2 ^ v % 2) ((bq_bf ob s v).2 / 2 ^ v % 2) v (bq_bf ob s v).2)
def bq_br (ob : Nat → Nat) : Nat → Nat × Nat
  | 0 => (1, 0)
  | r + 1 => bq_bf ob (bq_br ob r) 3
theorem bq_nb8 {ob fb fa v x2 : Nat} (hv : v < 3) (h : x2 < 8) : bq_nb ob fb fa v x2 < 8 := by
  unfold bq_nb
  split
  · exact (bq_or _ h _ (bq_par8 v hv)).2
  · exact h
theorem bq_na8 {ob fb fa v x3 : Nat} (hv : v < 3) (h : x3 < 8) : bq_na ob fb fa v x3 < 8 := by
  unfold bq_na
  split
  · exact (bq_or _ h _ (bq_cn8 v hv)).2
  · exact h
theorem bq_bf8 {ob : Nat → Nat} {s : Nat × Nat} (h : s.1 < 8 ∧ s.2 < 8) : ∀ v, v ≤ 3 → (bq_bf ob s v).1 < 8 ∧ (bq_bf ob s v).2 < 8 := by
  intro v
  induction v with
  | zero => intro _; exact h
  | succ v ih =>
    intro hv
    have i := ih (by omega)
    exact ⟨bq_nb8 (by omega) i.1, bq_na8 (by omega) i.2⟩
theorem bq_br8 {ob : Nat → Nat} : ∀ r, (bq_br ob r).1 < 8 ∧ (bq_br ob r).2 < 8 := by
  intro r
  induction r with
  | zero => exact ⟨(by decide : (1 : Nat) < 8), (by decide : (0 : Nat) < 8)⟩
  | succ r ih => exact bq_bf8 ih 3 (Nat.le_refl 3)
theorem bq_bounce {post : Int32 → Prop} (p : Nat → Nat) (hp : ∀ j, j < 3 → p j < 3) (h3 : ∀ j, j < 3 → a3 j = nI (p j)) (H : post (nI ((bq_br (fun v => if p v = 2 then 0 else 1) 14).1 ||| (bq_br (fun v => if p v = 2 then 0 else 1) 14).2))) :
    wpX_bounce post (3, f, g, bq_P, a2, a3, a4, a5, a6, a7) 0 := by
  unfold wpX_bounce
  try dsimp only
  refine nm_r (e' := nI 1) rfl ?_
  refine pk_loop (σ := Unit) (fun n r _ => wX_bounce_9 post 3 f g bq_P a2 a3 a4 a5 a6 a7 n (nI (bq_br (fun v => if p v = 2 then 0 else 1) r).1) (nI (bq_br (fun v => if p v = 2 then 0 else 1) r).2) (nI r)) (fun _ _ => True) 14 0 () (by omega) trivial ?_ ?_
  · intro n _ _
    refine pk_le 14 14 (fun _ => ?_) (fun z => absurd z (by omega))
    have b := bq_br8 (ob := fun v => if p v = 2 then 0 else 1) 14
    rw [(bq_or _ b.1 _ b.2).1]
    exact H
  · intro n r _ hr _ hw
    have b := bq_br8 (ob := fun v => if p v = 2 then 0 else 1) r
    have B := bq_bf8 (ob := fun v => if p v = 2 then 0 else 1) b
    refine pk_le 14 r (fun z => absurd z (by omega)) (fun _ => ?_)
    refine pk_loop (σ := Unit) (fun m v _ => wX_bounce_19 post (wX_bounce_9 post 3 f g bq_P a2 a3 a4 a5 a6 a7 n) (nI r) 3 f g bq_P a2 a3 a4 a5 a6 a7 m (nI (bq_bf (fun v => if p v = 2 then 0 else 1) (bq_br (fun v => if p v = 2 then 0 else 1) r) v).1) (nI (bq_bf (fun v => if p v = 2 then 0 else 1) (bq_br (fun v => if p v = 2 then 0 else 1) r) v).2) (nI v)) (fun _ _ => True) 3 0 () (by omega) trivial ?_ ?_
    · intro m _ _
      exact pk_le 3 3 (fun _ => nm_r (nI_1 r) (hw () trivial)) (fun z => absurd z (by omega))
    · intro m v _ hv _ hw2
      have b2 := B v (by omega)
      have k := hw2 () trivial
      have pv := hp v hv
      refine pk_le 3 v (fun z => absurd z (by omega)) (fun _ => ⟨pk_in v 7 (by omega), ?_⟩)
      rw [nI_clamp (show v < 2 ^ 31 by omega), h3 v hv]
      simp only [bq_bf] at k
      refine pk_eq (p v) 2 (fun z => ?_) (fun z => ?_)
      · rw [if_pos z] at k
        exact bq_b44 0 v _ _ (by omega) hv b2.1 b2.2 k
      · rw [if_neg z] at k
        exact bq_b44 1 v _ _ (by omega) hv b2.1 b2.2 k
theorem bq_separated {post : Int32 → Prop} (L : Nat) (hL : L < 3) (h3 : ∀ j, j < 3 → a3 j = nI (bq_sn L j)) (H : post (nI (if L = 2 then 1 else 0))) :
    wpX_separated post (3, f, g, bq_P, a2, a3, a4, a5, a6, a7) 0 1 := by
  unfold wpX_separated
  try dsimp only
  refine bq_good 0 (by omega) ?_
  refine br_f (by decide) ?_
  refine bq_good 1 (by omega) ?_
  refine br_f (by decide) (br_f (by decide) ⟨pk_in 0 7 (by omega), ?_⟩)
  refine br_t (h3 0 (by omega)) ⟨pk_in 1 7 (by omega), br_t (h3 1 (by omega)) ?_⟩
  refine bq_bounce (bq_sn L) (bq_sn3 hL) h3 ?_
  rcases (show L = 0 ∨ L = 1 ∨ L = 2 by omega) with rfl | rfl | rfl
  · exact br_t (by decide +kernel) H
  · exact br_t (by decide +kernel) H
  · exact br_f (by decide +kernel) H
/-! independent -/
def bq_E (w : Nat → Nat) (L k : Nat) : Prop := lN (bq_val (bq_opN 0) w (bq_sn L)) * lN (bq_val (bq_opN 0) w (bq_x (bq_x (bq_sn L) 0 (k / 2)) 1 (k % 2))) = lN (bq_val (bq_opN 0) w (bq_x (bq_sn L) 0 (k / 2))) * lN (bq_val (bq_opN 0) w (bq_x (bq_sn L) 1 (k % 2)))
theorem bq_half : ∀ i, i < 8 → nI i >>> ((1 : Int32) &&& 31) = nI (i / 2) ∧ nI i &&& 1 = nI (i % 2) := by decide +kernel
theorem bq_indep {post : Int32 → St2 → Prop} {t : Nat → Nat} {L : Nat} (ht : bq_T t a2) (hL : L < 3) (h3 : ∀ j, j < 3 → a3 j = nI (bq_sn L j))
    (H : ∀ (r f g : Int32) (b4 b5 : Nat → Int32) (b6 : Nat → Int64) (b7 : Nat → Int32), (r = 1 ∧ ∀ k, k < 4 → bq_E (bq_w t) L k) ∨ (r = 0 ∧ ∃ k, k < 4 ∧ ¬ bq_E (bq_w t) L k) → post r (3, f, g, bq_P, a2, a3, b4, b5, b6, b7)) :
    wpX_independent post (3, f, g, bq_P, a2, a3, a4, a5, a6, a7) 0 1 := by
  unfold wpX_independent
  try dsimp only
  refine bq_good 0 (by omega) ?_
  refine br_f (by decide) ?_
  refine bq_good 1 (by omega) ?_
  refine br_f (by decide) ?_
  refine bq_total ht hL h3 (fun f g b4 b5 b6 b7 => ?_)
  try dsimp only
  refine pk_loop (σ := Int32 × Int32 × (Nat → Int32) × (Nat → Int32) × (Nat → Int64) × (Nat → Int32)) (fun n i s => wX_independent_26 post 0 1 (lN (bq_val (bq_opN 0) (bq_w t) (bq_sn L))) n (nI i) 3 s.1 s.2.1 bq_P a2 a3 s.2.2.1 s.2.2.2.1 s.2.2.2.2.1 s.2.2.2.2.2) (fun i _ => ∀ k, k < i → bq_E (bq_w t) L k) 4 0 (f, g, b4, b5, b6, b7) (by omega) (fun j hj => absurd hj (by omega)) ?_ ?_
  · intro n s h
    exact pk_le 4 4 (fun _ => H _ _ _ _ _ _ _ (Or.inl ⟨rfl, h⟩)) (fun z => absurd z (by omega))
  · intro n i s hi h hw
    have e := bq_half i (by omega)
    refine pk_le 4 i (fun z => absurd z (by omega)) (fun _ => ?_)
    refine nm_r e.1 (nm_r e.2 ?_)
    refine bq_pairSum ht hL h3 (i / 2) (i % 2) (by omega) (by omega) (fun f g b4 b5 b6 b7 => ?_)
    try dsimp only
    refine bq_totalWith ht hL h3 0 (i / 2) (by omega) (by omega) (fun f g b4 b5 b6 b7 => ?_)
    try dsimp only
    refine bq_totalWith ht hL h3 1 (i % 2) (by omega) (by omega) (fun f g b4 b5 b6 b7 => ?_)
    try dsimp only
    refine br_c (fun c => ?_) (fun c => H _ _ _ _ _ _ _ (Or.inr ⟨rfl, i, hi, c⟩))
    refine nm_r (nI_1 i) (hw (f, g, b4, b5, b6, b7) (fun k hk => ?_))
    by_cases q : k = i
    · subst q
      exact c
    · exact h k (by omega)
end
end
section
/-! ===== 07: what the law's loop adds up, against bq_val (printed by gen07.py) ===== -/
def bq_fT (L : Nat) (w : Nat → Nat) : Nat → Nat
  | 0 => 0
  | x + 1 => if L = 2 ∨ x / 4 = L then bq_fT L w x + w x else bq_fT L w x
def bq_fW (L : Nat) (w : Nat → Nat) : Nat → Nat
  | 0 => 0
  | x + 1 => if L = 2 ∨ x / 4 = L then (if x % 2 = 1 then bq_fW L w x + w x else bq_fW L w x) else bq_fW L w x
def bq_fP (L : Nat) (w : Nat → Nat) : Nat → Nat
  | 0 => 0
  | x + 1 => if L = 2 ∨ x / 4 = L then (if x % 4 = 1 then bq_fP L w x + w x else bq_fP L w x) else bq_fP L w x
def bq_fB (L : Nat) (w : Nat → Nat) : Nat → Nat
  | 0 => 0
  | x + 1 => if L = 2 ∨ x / 4 = L then max (bq_fB L w x) (w x) else bq_fB L w x
/-- the number and one; 0 where there is none -/
def bq_fN (L : Nat) (w : Nat → Nat) : Nat → Nat
  | 0 => 0
  | x + 1 => if L = 2 ∨ x / 4 = L then (if bq_fB L w x < w x ∨ bq_fN L w x = 0 then x + 1 else bq_fN L w x) else bq_fN L w x
def bq_fC (L : Nat) (w : Nat → Nat) : Nat → Nat
  | 0 => 0
  | x + 1 => if L = 2 ∨ x / 4 = L then (if x / 2 % 2 = 1 then max (bq_fC L w x) (w x) else bq_fC L w x) else bq_fC L w x
theorem bq_qT (w : Nat → Nat) (L : Nat) (hL : L < 3) : bq_fT L w 8 = bq_val (bq_opN 0) w (bq_sn L) := by
  rcases (show L = 0 ∨ L = 1 ∨ L = 2 by omega) with rfl | rfl | rfl
  · show ((((0 + w 0) + w 1) + w 2) + w 3) = (((w 0) + (w 1)) + ((w 2) + (w 3)))
    omega
  · show ((((0 + w 4) + w 5) + w 6) + w 7) = (((w 4) + (w 5)) + ((w 6) + (w 7)))
    omega
  · show ((((((((0 + w 0) + w 1) + w 2) + w 3) + w 4) + w 5) + w 6) + w 7) = ((((w 0) + (w 1)) + ((w 2) + (w 3))) + (((w 4) + (w 5)) + ((w 6) + (w 7))))
    omega
theorem bq_qW (w : Nat → Nat) (L : Nat) (hL : L < 3) : bq_fW L w 8 = bq_val (bq_opN 0) w (bq_x (bq_sn L) 0 1) := by
  rcases (show L = 0 ∨ L = 1 ∨ L = 2 by omega) with rfl | rfl | rfl
  · show ((0 + w 1) + w 3) = ((w 1) + (w 3))
    omega
  · show ((0 + w 5) + w 7) = ((w 5) + (w 7))
    omega
  · show ((((0 + w 1) + w 3) + w 5) + w 7) = (((w 1) + (w 3)) + ((w 5) + (w 7)))
    omega
theorem bq_qP (w : Nat → Nat) (L : Nat) (hL : L < 3) : bq_fP L w 8 = bq_val (bq_opN 0) w (bq_x (bq_x (bq_sn L) 0 1) 1 0) := by
  rcases (show L = 0 ∨ L = 1 ∨ L = 2 by omega) with rfl | rfl | rfl
  · show (0 + w 1) = (w 1)
    omega
  · show (0 + w 5) = (w 5)
    omega
  · show ((0 + w 1) + w 5) = ((w 1) + (w 5))
    omega
theorem bq_qB (w : Nat → Nat) (L : Nat) (hL : L < 3) : bq_fB L w 8 = bq_val (bq_opN 1) w (bq_sn L) := by
  rcases (show L = 0 ∨ L = 1 ∨ L = 2 by omega) with rfl | rfl | rfl
  · show (max (max (max (max 0 (w 0)) (w 1)) (w 2)) (w 3)) = (max (max (w 0) (w 1)) (max (w 2) (w 3)))
    omega
  · show (max (max (max (max 0 (w 4)) (w 5)) (w 6)) (w 7)) = (max (max (w 4) (w 5)) (max (w 6) (w 7)))
    omega
  · show (max (max (max (max (max (max (max (max 0 (w 0)) (w 1)) (w 2)) (w 3)) (w 4)) (w 5)) (w 6)) (w 7)) = (max (max (max (w 0) (w 1)) (max (w 2) (w 3))) (max (max (w 4) (w 5)) (max (w 6) (w 7))))
    omega
theorem bq_qC (w : Nat → Nat) (L : Nat) (hL : L < 3) : bq_fC L w 8 = bq_val (bq_opN 1) w (bq_x (bq_sn L) 1 1) := by
  rcases (show L = 0 ∨ L = 1 ∨ L = 2 by omega) with rfl | rfl | rfl
  · show (max (max 0 (w 2)) (w 3)) = (max (w 2) (w 3))
    omega
  · show (max (max 0 (w 6)) (w 7)) = (max (w 6) (w 7))
    omega
  · show (max (max (max (max 0 (w 2)) (w 3)) (w 6)) (w 7)) = (max (max (w 2) (w 3)) (max (w 6) (w 7)))
    omega
/-- the law's number: the first that has the greatest weight -/
theorem bq_fN_i (L : Nat) (w : Nat → Nat) : ∀ x, (∀ y, y < x → (L = 2 ∨ y / 4 = L) → w y ≤ bq_fB L w x) ∧
    (((∀ y, y < x → ¬ (L = 2 ∨ y / 4 = L)) ∧ bq_fN L w x = 0 ∧ bq_fB L w x = 0) ∨
     (∃ n, n < x ∧ bq_fN L w x = n + 1 ∧ (L = 2 ∨ n / 4 = L) ∧ w n = bq_fB L w x ∧ ∀ y, y < n → (L = 2 ∨ y / 4 = L) → w y < bq_fB L w x)) := by
  intro x
  induction x with
  | zero => exact ⟨fun y h => absurd h (by omega), Or.inl ⟨fun y h => absurd h (by omega), rfl, rfl⟩⟩
  | succ x ih =>
    obtain ⟨h1, h2⟩ := ih
    simp only [bq_fB, bq_fN]
    by_cases c : L = 2 ∨ x / 4 = L
    · rw [if_pos c, if_pos c]
      refine ⟨fun y hy ha => ?_, Or.inr ?_⟩
      · by_cases e : y = x
        · rw [e]
          exact Nat.le_max_right _ _
        · exact Nat.le_trans (h1 y (by omega) ha) (Nat.le_max_left _ _)
      · by_cases d : bq_fB L w x < w x ∨ bq_fN L w x = 0
        · rw [if_pos d]
          refine ⟨x, by omega, rfl, c, ?_, fun y hy ha => ?_⟩
          · rcases d with d | d
            · omega
            · rcases h2 with ⟨_, _, h2⟩ | ⟨n, _, q, _⟩
              · omega
              · omega
          · rcases d with d | d
            · have := h1 y hy ha
              omega
            · rcases h2 with ⟨q, _, _⟩ | ⟨n, _, q, _⟩
              · exact absurd ha (q y hy)
              · omega
        · rw [if_neg d]
          rcases h2 with ⟨_, q, _⟩ | ⟨n, q1, q2, q3, q4, q5⟩
          · exact absurd (Or.inr q) d
          · refine ⟨n, by omega, q2, q3, by omega, fun y hy ha => ?_⟩
            have := q5 y hy ha
            omega
    · rw [if_neg c, if_neg c]
      refine ⟨fun y hy ha => ?_, ?_⟩
      · by_cases e : y = x
        · rw [e] at ha
          exact absurd ha c
        · exact h1 y (by omega) ha
      · rcases h2 with ⟨q1, q2, q3⟩ | ⟨n, q1, q2⟩
        · refine Or.inl ⟨fun y hy => ?_, q2, q3⟩
          by_cases e : y = x
          · rw [e]
            exact c
          · exact q1 y (by omega)
        · exact Or.inr ⟨n, by omega, q2⟩
theorem bq_bn_0 (w : Nat → Nat) (L M : Nat) (hM : bq_val (bq_opN 1) w (bq_sn L) = M) (hc : bq_bc w L = 0) (hm : max (max (w 0) (w 1)) (max (w 2) (w 3)) = M) : 0 ≤ bq_bn w L ∧ bq_bn w L < 4 ∧ w (bq_bn w L) = M ∧ ∀ y, 0 ≤ y → y < bq_bn w L → w y < M := by
  have hb : bq_bb w L = if max (w 0) (w 1) = M then 0 else 1 := by
    unfold bq_bb
    rw [hc, hM]
    rfl
  by_cases d : max (w 0) (w 1) = M
  · rw [if_pos d] at hb
    have ha : bq_ba w L = if w 0 = M then 0 else 1 := by
      unfold bq_ba
      rw [hb, hc, hM]
      rfl
    by_cases e : w 0 = M
    · rw [if_pos e] at ha
      have hn : bq_bn w L = 0 := by
        unfold bq_bn
        rw [hc, hb, ha]
      rw [hn]
      refine ⟨by omega, by omega, by omega, fun y h1 h2 => ?_⟩
      omega
    · rw [if_neg e] at ha
      have hn : bq_bn w L = 1 := by
        unfold bq_bn
        rw [hc, hb, ha]
      rw [hn]
      refine ⟨by omega, by omega, by omega, fun y h1 h2 => ?_⟩
      have hy : y = 0 := by omega
      rw [hy]
      omega
  · rw [if_neg d] at hb
    have ha : bq_ba w L = if w 2 = M then 0 else 1 := by
      unfold bq_ba
      rw [hb, hc, hM]
      rfl
    by_cases e : w 2 = M
    · rw [if_pos e] at ha
      have hn : bq_bn w L = 2 := by
        unfold bq_bn
        rw [hc, hb, ha]
      rw [hn]
      refine ⟨by omega, by omega, by omega, fun y h1 h2 => ?_⟩
      rcases (show y = 0 ∨ y = 1 by omega) with rfl | rfl
      · omega
      · omega
    · rw [if_neg e] at ha
      have hn : bq_bn w L = 3 := by
        unfold bq_bn
        rw [hc, hb, ha]
      rw [hn]
      refine ⟨by omega, by omega, by omega, fun y h1 h2 => ?_⟩
      rcases (show y = 0 ∨ y = 1 ∨ y = 2 by omega) with rfl | rfl | rfl
      · omega
      · omega
      · omega
theorem bq_bn_1 (w : Nat → Nat) (L M : Nat) (hM : bq_val (bq_opN 1) w (bq_sn L) = M) (hc : bq_bc w L = 1) (hm : max (max (w 4) (w 5)) (max (w 6) (w 7)) = M) : 4 ≤ bq_bn w L ∧ bq_bn w L < 8 ∧ w (bq_bn w L) = M ∧ ∀ y, 4 ≤ y → y < bq_bn w L → w y < M := by
  have hb : bq_bb w L = if max (w 4) (w 5) = M then 0 else 1 := by
    unfold bq_bb
    rw [hc, hM]
    rfl
  by_cases d : max (w 4) (w 5) = M
  · rw [if_pos d] at hb
    have ha : bq_ba w L = if w 4 = M then 0 else 1 := by
      unfold bq_ba
      rw [hb, hc, hM]
      rfl
    by_cases e : w 4 = M
    · rw [if_pos e] at ha
      have hn : bq_bn w L = 4 := by
        unfold bq_bn
        rw [hc, hb, ha]
      rw [hn]
      refine ⟨by omega, by omega, by omega, fun y h1 h2 => ?_⟩
      omega
    · rw [if_neg e] at ha
      have hn : bq_bn w L = 5 := by
        unfold bq_bn
        rw [hc, hb, ha]
      rw [hn]
      refine ⟨by omega, by omega, by omega, fun y h1 h2 => ?_⟩
      have hy : y = 4 := by omega
      rw [hy]
      omega
  · rw [if_neg d] at hb
    have ha : bq_ba w L = if w 6 = M then 0 else 1 := by
      unfold bq_ba
      rw [hb, hc, hM]
      rfl
    by_cases e : w 6 = M
    · rw [if_pos e] at ha
      have hn : bq_bn w L = 6 := by
        unfold bq_bn
        rw [hc, hb, ha]
      rw [hn]
      refine ⟨by omega, by omega, by omega, fun y h1 h2 => ?_⟩
      rcases (show y = 4 ∨ y = 5 by omega) with rfl | rfl
      · omega
      · omega
    · rw [if_neg e] at ha
      have hn : bq_bn w L = 7 := by
        unfold bq_bn
        rw [hc, hb, ha]
      rw [hn]
      refine ⟨by omega, by omega, by omega, fun y h1 h2 => ?_⟩
      rcases (show y = 4 ∨ y = 5 ∨ y = 6 by omega) with rfl | rfl | rfl
      · omega
      · omega
      · omega
theorem bq_bn_f (w : Nat → Nat) (L : Nat) (hL : L < 3) : bq_bn w L < 8 ∧ (L = 2 ∨ bq_bn w L / 4 = L) ∧ w (bq_bn w L) = bq_val (bq_opN 1) w (bq_sn L) ∧ ∀ y, y < bq_bn w L → (L = 2 ∨ y / 4 = L) → w y < bq_val (bq_opN 1) w (bq_sn L) := by
  rcases (show L = 0 ∨ L = 1 ∨ L = 2 by omega) with rfl | rfl | rfl
  · obtain ⟨h1, h2, h3, h4⟩ := bq_bn_0 w 0 _ rfl rfl rfl
    exact ⟨by omega, by omega, h3, fun y hy ha => h4 y (by omega) hy⟩
  · obtain ⟨h1, h2, h3, h4⟩ := bq_bn_1 w 1 _ rfl rfl rfl
    exact ⟨by omega, by omega, h3, fun y hy ha => h4 y (by omega) hy⟩
  · have hM : bq_val (bq_opN 1) w (bq_sn 2) = max (max (max (w 0) (w 1)) (max (w 2) (w 3))) (max (max (w 4) (w 5)) (max (w 6) (w 7))) := rfl
    have hc : bq_bc w 2 = if max (max (w 0) (w 1)) (max (w 2) (w 3)) = max (max (max (w 0) (w 1)) (max (w 2) (w 3))) (max (max (w 4) (w 5)) (max (w 6) (w 7))) then 0 else 1 := rfl
    rw [hM]
    by_cases d : max (max (w 0) (w 1)) (max (w 2) (w 3)) = max (max (max (w 0) (w 1)) (max (w 2) (w 3))) (max (max (w 4) (w 5)) (max (w 6) (w 7)))
    · rw [if_pos d] at hc
      obtain ⟨h1, h2, h3, h4⟩ := bq_bn_0 w 2 _ hM hc d
      exact ⟨by omega, Or.inl rfl, h3, fun y hy ha => h4 y (by omega) hy⟩
    · rw [if_neg d] at hc
      obtain ⟨h1, h2, h3, h4⟩ := bq_bn_1 w 2 _ hM hc (by omega)
      refine ⟨by omega, Or.inl rfl, h3, fun y hy ha => ?_⟩
      by_cases e : 4 ≤ y
      · exact h4 y e hy
      · rcases (show y = 0 ∨ y = 1 ∨ y = 2 ∨ y = 3 by omega) with rfl | rfl | rfl | rfl
        · omega
        · omega
        · omega
        · omega
theorem bq_qN (w : Nat → Nat) (L : Nat) (hL : L < 3) : bq_fN L w 8 = bq_bn w L + 1 := by
  obtain ⟨b1, b2, b3, b4⟩ := bq_bn_f w L hL
  obtain ⟨h1, h2⟩ := bq_fN_i L w 8
  rw [bq_qB w L hL] at h1 h2
  rcases h2 with ⟨q, _, _⟩ | ⟨n, q1, q2, q3, q4, q5⟩
  · exact absurd b2 (q _ b1)
  · rw [q2]
    rcases Nat.lt_trichotomy n (bq_bn w L) with e | e | e
    · have := b4 n e q3
      omega
    · rw [e]
    · have := q5 _ e b2
      omega
end
section
/-! ===== 08: the law's entries and weights ===== -/
def bq_d (x : Int32) (k : Nat) : Nat := (x >>> ((4 * nI k) &&& 31)).toBitVec.toNat % 2 ^ 4 % 10
/-- what the law enters at place i of the entries -/
def bq_t (code other : Int32) (i : Nat) : Nat := if i < 16 then bq_d code i else if i < 32 then bq_d code (2 + (i - 16)) else bq_d other (i - 32)
theorem bq_d9 (x : Int32) (k : Nat) : bq_d x k ≤ 9 := Nat.le_of_lt_succ (Nat.mod_lt _ (by decide))
theorem bq_t9 (code other : Int32) (i : Nat) : bq_t code other i ≤ 9 := by
  unfold bq_t
  split
  · exact bq_d9 _ _
  · split
    · exact bq_d9 _ _
    · exact bq_d9 _ _
theorem bq_dg (x : Int32) (k : Nat) : ((x >>> ((4 * nI k) &&& 31)) &&& 15) - ((x >>> ((4 * nI k) &&& 31)) &&& 15) / 10 * 10 = nI (bq_d x k) := by
  rw [pk_and (x >>> ((4 * nI k) &&& 31)) (m := 15) 4 (by decide)]
  exact pk_rem (d := 10) (Nat.lt_trans (Nat.mod_lt _ (by decide)) (by decide)) (by decide) (by decide)
theorem bq_z (a b : Nat) : (2 * nI a) + nI b = nI (2 * a + b) := by
  rw [show (2 : Int32) = nI 2 from rfl, pk_mul, nI_add]
theorem bq_entry {post : Int32 → Prop} {code other : Int32} (v r o : Nat) (hv : v < 3) (hr : v = 2 ∨ r = 0) (hr4 : r < 4) (ho : o < 2) (H : post (nI (bq_t code other (16 * v + 2 * r + o)))) :
    wpL_entry post () code other (nI v) (nI r) (nI o) := by
  unfold wpL_entry wL_entry_20
  rw [bq_z, bq_z, bq_dg, bq_dg, bq_dg, bq_dg]
  refine pk_le 2 v (fun z => pk_le 2 v (fun _ => ⟨by decide, ?_⟩) (fun y => absurd y (by omega))) (fun z => pk_le 2 v (fun y => absurd y (by omega)) (fun _ => ⟨by decide, ?_⟩))
  · have e : bq_t code other (16 * v + 2 * r + o) = bq_d other (2 * r + o) := by
      unfold bq_t
      rw [if_neg (by omega), if_neg (by omega), show 16 * v + 2 * r + o - 32 = 2 * r + o by omega]
    rw [e] at H
    exact H
  · have e : bq_t code other (16 * v + 2 * r + o) = bq_d code (2 * v + o) := by
      unfold bq_t
      by_cases c : v = 0
      · rw [if_pos (by omega), show 16 * v + 2 * r + o = 2 * v + o by omega]
      · rw [if_neg (by omega), if_pos (by omega), show 2 + (16 * v + 2 * r + o - 16) = 2 * v + o by omega]
    rw [e] at H
    exact H
theorem bq_xb : ∀ x, x < 8 → nI x &&& 1 = nI (x % 2) ∧ (nI x >>> ((1 : Int32) &&& 31)) &&& 1 = nI (x / 2 % 2) ∧ nI x &&& 3 = nI (x % 4) ∧ nI x >>> ((2 : Int32) &&& 31) = nI (x / 4) ∧ nI x &&& 2 = nI (2 * (x / 2 % 2)) := by decide +kernel
theorem bq_xi : ∀ x, x < 8 → 16 * 0 + 2 * 0 + x % 2 = bq_ix 0 x ∧ 16 * 1 + 2 * 0 + x / 2 % 2 = bq_ix 1 x ∧ 16 * 2 + 2 * (x % 4) + x / 4 = bq_ix 2 x := by decide +kernel
theorem bq_lweight {post : Int32 → Prop} {code other : Int32} (x : Nat) (hx : x < 8) (H : post (nI (bq_w (bq_t code other) x))) : wpL_weight post () code other (nI x) := by
  obtain ⟨e1, e2, e3, e4, _⟩ := bq_xb x hx
  obtain ⟨i0, i1, i2⟩ := bq_xi x hx
  unfold wpL_weight
  rw [e1, e2, e3, e4]
  refine nm_e (nm_e ?_)
  refine bq_entry 0 0 (x % 2) (by omega) (Or.inr rfl) (by omega) (by omega) ?_
  refine bq_entry 1 0 (x / 2 % 2) (by omega) (Or.inr rfl) (by omega) (by omega) ?_
  refine bq_entry 2 (x % 4) (x / 4) (by omega) (Or.inl rfl) (by omega) (by omega) ?_
  rw [i0, i1, i2, pk_mul, pk_mul]
  exact H
/-! the law enters its digits -/
def bq_e (j : Nat) : Bool := decide (j < 2) || (decide (16 ≤ j) && decide (j < 18)) || (decide (32 ≤ j) && decide (j < 40))
def bq_I (code other : Int32) (m : Nat) (a2 : Nat → Int32) : Prop := ∀ j, j < 112 → a2 j = if bq_e j = true ∧ j < m then nI (bq_t code other j) else 1
theorem bq_e_in : ∀ v, v < 3 → ∀ k, k < 8 → (v = 2 ∨ k / 2 = 0) → bq_e (16 * v + k) = true := by decide +kernel
theorem bq_e_out : ∀ v, v < 3 → ∀ k, k < 8 → ¬ v = 2 → ¬ k / 2 = 0 → bq_e (16 * v + k) = false := by decide +kernel
theorem bq_e_gap : ∀ v, v < 3 → ∀ k, k < 16 → 8 ≤ k → bq_e (16 * v + k) = false := by decide +kernel
theorem bq_e_ix : ∀ v, v < 3 → ∀ x, x < 8 → bq_e (bq_ix v x) = true ∧ bq_ix v x < 48 := by decide +kernel
theorem bq_I_T {code other : Int32} {a2 : Nat → Int32} (h : bq_I code other 48 a2) : bq_T (bq_t code other) a2 := by
  intro v hv x hx
  have e := bq_e_ix v hv x hx
  have k := h (bq_ix v x) (by omega)
  rw [if_pos e] at k
  exact ⟨k, bq_t9 _ _ _⟩
theorem bq_r2 : ∀ v, v < 3 → ∀ k, k < 8 → (v = 2 ∨ k / 2 = 0) → k / 2 < 2 ^ bq_cnt (bq_par v) := by decide +kernel
section
variable {post : Int32 → St0 → Prop} {mc ms kc ks : Nat} {code other x2 : Int32} {f g : Int32} {a2 a3 a4 a5 : Nat → Int32} {a6 : Nat → Int64} {a7 : Nat → Int32}
theorem bq_L62 {J23 J32 : Int32 → Int32 → Int32 → Int32 → (Nat → Int32) → (Nat → Int32) → (Nat → Int32) → (Nat → Int32) → (Nat → Int32) → (Nat → Int64) → (Nat → Int32) → Prop} (v k : Nat) (hv : v < 3) (hk : k < 8) (hvk : v = 2 ∨ k / 2 = 0) (h : bq_I code other (16 * v + k) a2)
    (K : ∀ b2 : Nat → Int32, bq_I code other (16 * v + (k + 1)) b2 → J32 (nI (k + 1)) 3 f g bq_P b2 a3 a4 a5 a6 a7) :
    wL_lawOf_62 post mc ms J23 J32 code other x2 (nI v) (nI k) (nI (k / 2)) (nI (k % 2)) kc ks 3 f g bq_P a2 a3 a4 a5 a6 a7 := by
  have ei : 16 * v + 2 * (k / 2) + k % 2 = 16 * v + k := by omega
  unfold wL_lawOf_62
  refine bq_entry v (k / 2) (k % 2) hv hvk (by omega) (by omega) ?_
  rw [ei]
  refine bq_enter v (k / 2) (k % 2) _ hv (bq_r2 v hv k hk hvk) (by omega) (bq_t9 _ _ _) ?_
  rw [ei]
  try dsimp only
  have h1 := h (16 * v + k) (by omega)
  rw [if_neg (by omega)] at h1
  refine br_t h1 (nm_r (nI_1 k) (K _ (fun j hj => ?_)))
  by_cases e : j = 16 * v + k
  · rw [e, pk_us, if_pos ⟨bq_e_in v hv k hk hvk, by omega⟩]
  · rw [pk_un e, h j hj]
    by_cases c : bq_e j = true ∧ j < 16 * v + k
    · rw [if_pos c, if_pos ⟨c.1, by omega⟩]
    · rw [if_neg c, if_neg (fun z => c ⟨z.1, by omega⟩)]
theorem bq_L32 {J23 : Int32 → Int32 → Int32 → Int32 → (Nat → Int32) → (Nat → Int32) → (Nat → Int32) → (Nat → Int32) → (Nat → Int32) → (Nat → Int64) → (Nat → Int32) → Prop} (v : Nat) (hv : v < 3) (h : bq_I code other (16 * v) a2)
    (K : ∀ b2 : Nat → Int32, bq_I code other (16 * (v + 1)) b2 → J23 (nI (v + 1)) 3 f g bq_P b2 a3 a4 a5 a6 a7) :
    ∃ n, wL_lawOf_32 post mc ms J23 code other x2 (nI v) kc ks n 0 3 f g bq_P a2 a3 a4 a5 a6 a7 := by
  refine pk_loop (fun n k s => wL_lawOf_32 post mc ms J23 code other x2 (nI v) kc ks n (nI k) 3 f g bq_P s a3 a4 a5 a6 a7) (fun k s => bq_I code other (16 * v + k) s) 8 0 a2 (by omega) h ?_ ?_
  · intro n s hs
    refine pk_le 8 8 (fun _ => nm_r (nI_1 v) (K s (fun j hj => ?_))) (fun z => absurd z (by omega))
    rw [hs j hj]
    by_cases c : bq_e j = true ∧ j < 16 * v + 8
    · rw [if_pos c, if_pos ⟨c.1, by omega⟩]
    · rw [if_neg c, if_neg]
      intro z
      have q := bq_e_gap v hv (j - 16 * v) (by omega) (by
        have := z.2
        rcases Nat.lt_or_ge j (16 * v + 8) with y | y
        · exact absurd ⟨z.1, y⟩ c
        · omega)
      have ej : 16 * v + (j - 16 * v) = j := by
        rcases Nat.lt_or_ge j (16 * v + 8) with y | y
        · exact absurd ⟨z.1, y⟩ c
        · omega
      rw [ej, z.1] at q
      exact absurd q (by decide)
  · intro n k s hk hs hw
    have e := bq_half k hk
    refine pk_le 8 k (fun z => absurd z (by omega)) (fun _ => nm_r e.1 (nm_r e.2 ?_))
    refine pk_eq v 2 (fun z => bq_L62 v k hv hk (Or.inl z) hs hw) (fun z => pk_eq (k / 2) 0 (fun y => bq_L62 v k hv hk (Or.inr y) hs hw) (fun y => nm_r (nI_1 k) (hw s (fun j hj => ?_))))
    rw [hs j hj]
    by_cases c : bq_e j = true ∧ j < 16 * v + k
    · rw [if_pos c, if_pos ⟨c.1, by omega⟩]
    · rw [if_neg c, if_neg]
      intro q
      by_cases ej : j = 16 * v + k
      · have o := bq_e_out v hv k hk z y
        rw [← ej, q.1] at o
        exact absurd o (by decide)
      · exact c ⟨q.1, by omega⟩
end
end
section
/-! ===== 09: the law's loops and the law ===== -/
theorem bq_fB_le {L : Nat} {w : Nat → Nat} (hw : ∀ x, x < 8 → w x ≤ 729) : ∀ x, x ≤ 8 → bq_fB L w x ≤ 729 ∧ bq_fC L w x ≤ 729 ∧ bq_fN L w x ≤ x := by
  intro x
  induction x with
  | zero => intro _; exact ⟨Nat.zero_le _, Nat.zero_le _, Nat.le_refl _⟩
  | succ x ih =>
    intro hx
    obtain ⟨h1, h2, h3⟩ := ih (by omega)
    have hwx := hw x (by omega)
    simp only [bq_fB, bq_fC, bq_fN]
    by_cases c : L = 2 ∨ x / 4 = L
    · rw [if_pos c, if_pos c, if_pos c]
      refine ⟨by omega, ?_, ?_⟩
      · split
        · omega
        · omega
      · split
        · omega
        · omega
    · rw [if_neg c, if_neg c, if_neg c]
      exact ⟨h1, h2, by omega⟩
theorem bq_N0 : ∀ N, N < 10 → (0 ≤ nI N - 1 ↔ ¬ N = 0) := by decide +kernel
section
variable {post : Int32 → St0 → Prop} {mc ms kc ks : Nat} {code other x2 x4 : Int32} {f g : Int32} {a2 a3 a4 a5 : Nat → Int32} {a6 : Nat → Int64} {a7 : Nat → Int32}
section
variable {J : Int64 → Int64 → Int64 → Int32 → Int32 → Int32 → Int32 → Prop} {T W P : Int64} {X11 X12 : Int32}
theorem bq_L257 (C x wx : Nat) (hC : C ≤ 729) (hx : x < 8) (hw : wx ≤ 729) (K : J T W P X11 X12 (nI (if x / 2 % 2 = 1 then max C wx else C)) (nI (x + 1))) :
    wL_lawOf_257 post mc ms J code other x4 T W P X11 X12 (nI C) (nI x) (nI wx) kc ks 3 f g bq_P a2 a3 a4 a5 a6 a7 := by
  unfold wL_lawOf_257
  rw [(bq_xb x hx).2.2.2.2]
  refine pk_eq (2 * (x / 2 % 2)) 2 (fun z => ?_) (fun z => nm_r (nI_1 x) ?_)
  · rw [if_pos (by omega)] at K
    refine pk_le wx C (fun y => nm_r (nI_1 x) ?_) (fun y => nm_r (nI_1 x) ?_)
    · rw [Nat.max_eq_left y] at K
      exact K
    · rw [Nat.max_eq_right (by omega)] at K
      exact K
  · rw [if_neg (by omega)] at K
    exact K
theorem bq_L246 (B C x wx : Nat) (hB : B ≤ 729) (hC : C ≤ 729) (hx : x < 8) (hw : wx ≤ 729) (K : J T W P (nI (max B wx)) X12 (nI (if x / 2 % 2 = 1 then max C wx else C)) (nI (x + 1))) :
    wL_lawOf_246 post mc ms J code other x4 T W P (nI B) X12 (nI C) (nI x) (nI wx) kc ks 3 f g bq_P a2 a3 a4 a5 a6 a7 := by
  unfold wL_lawOf_246
  refine pk_le wx B (fun y => bq_L257 C x wx hC hx hw ?_) (fun y => bq_L257 C x wx hC hx hw ?_)
  · rw [Nat.max_eq_left y] at K
    exact K
  · rw [Nat.max_eq_right (show B ≤ wx by omega)] at K
    exact K
theorem bq_L230 (B N C x wx : Nat) (hB : B ≤ 729) (hN : N < 10) (hC : C ≤ 729) (hx : x < 8) (hw : wx ≤ 729) (K : J T W P (nI (max B wx)) (nI (if B < wx ∨ N = 0 then x + 1 else N) - 1) (nI (if x / 2 % 2 = 1 then max C wx else C)) (nI (x + 1))) :
    wL_lawOf_230 post mc ms J code other x4 T W P (nI B) (nI N - 1) (nI C) (nI x) (nI wx) kc ks 3 f g bq_P a2 a3 a4 a5 a6 a7 := by
  unfold wL_lawOf_230
  refine pk_lt B wx (fun y => ?_) (fun y => ek_if (bq_N0 N hN) (fun z => ?_) (fun z => ?_))
  · rw [if_pos (Or.inl y), nI_pred] at K
    unfold wL_lawOf_242
    exact bq_L246 B C x wx hB hC hx hw K
  · rw [if_neg (by omega)] at K
    exact bq_L246 B C x wx hB hC hx hw K
  · rw [if_pos (Or.inr (by omega)), nI_pred] at K
    unfold wL_lawOf_242
    exact bq_L246 B C x wx hB hC hx hw K
end
section
variable {J : Int64 → Int64 → Int64 → Int32 → Int32 → Int32 → Int32 → Prop}
theorem bq_L190 (T W P B N C x wx : Nat) (hB : B ≤ 729) (hN : N < 10) (hC : C ≤ 729) (hx : x < 8) (hw : wx ≤ 729) (K : J (lN (T + wx)) (lN (if x % 2 = 1 then W + wx else W)) (lN (if x % 4 = 1 then P + wx else P)) (nI (max B wx)) (nI (if B < wx ∨ N = 0 then x + 1 else N) - 1) (nI (if x / 2 % 2 = 1 then max C wx else C)) (nI (x + 1))) :
    wL_lawOf_190 post mc ms J code other x4 (lN T) (lN W) (lN P) (nI B) (nI N - 1) (nI C) (nI x) (nI wx) kc ks 3 f g bq_P a2 a3 a4 a5 a6 a7 := by
  have K214 : ∀ T' W' : Int64, T' = lN (T + wx) → W' = lN (if x % 2 = 1 then W + wx else W) → wL_lawOf_214 post mc ms J code other x4 T' W' (lN P) (nI B) (nI N - 1) (nI C) (nI x) (nI wx) kc ks 3 f g bq_P a2 a3 a4 a5 a6 a7 := by
    intro T' W' e1 e2
    rw [← e1, ← e2] at K
    unfold wL_lawOf_214
    rw [(bq_xb x hx).2.2.1, nI_l (show wx < 2 ^ 31 by omega), lN_add]
    refine pk_eq (x % 4) 1 (fun z => nm_e ?_) (fun z => ?_)
    · rw [if_pos z] at K
      exact bq_L230 B N C x wx hB hN hC hx hw K
    · rw [if_neg z] at K
      exact bq_L230 B N C x wx hB hN hC hx hw K
  unfold wL_lawOf_190
  rw [(bq_xb x hx).1, nI_l (show wx < 2 ^ 31 by omega), lN_add, lN_add]
  refine nm_e (pk_eq (x % 2) 1 (fun z => nm_e (K214 _ _ rfl ?_)) (fun z => K214 _ _ rfl ?_))
  · rw [if_pos z]
  · rw [if_neg z]
end
theorem bq_L477 (z : Int32) (hpost : post 1 ()) : wL_lawOf_477 post mc ms z z kc ks 3 f g bq_P a2 a3 a4 a5 a6 a7 := by
  unfold wL_lawOf_477
  refine br_t rfl (bq_weight8 ?_)
  refine br_t rfl (bq_enterX ?_)
  try dsimp only
  refine br_t rfl (bq_parentsX ?_)
  try dsimp only
  exact br_t rfl hpost
theorem bq_L398 {t : Nat → Nat} {L : Nat} (ht : bq_T t a2) (hL : L < 3) (h3 : ∀ j, j < 3 → a3 j = nI (bq_sn L j)) (hpost : post 1 ()) :
    ∃ n, wL_lawOf_398 post mc ms (lN (bq_val (bq_opN 0) (bq_w t) (bq_sn L))) kc ks n 1 0 3 f g bq_P a2 a3 a4 a5 a6 a7 := by
  refine pk_loop (σ := Int32 × Int32 × Int32 × (Nat → Int32) × (Nat → Int32) × (Nat → Int64) × (Nat → Int32)) (fun n i s => wL_lawOf_398 post mc ms (lN (bq_val (bq_opN 0) (bq_w t) (bq_sn L))) kc ks n s.1 (nI i) 3 s.2.1 s.2.2.1 bq_P a2 a3 s.2.2.2.1 s.2.2.2.2.1 s.2.2.2.2.2.1 s.2.2.2.2.2.2)
    (fun i s => (s.1 = 1 ∧ ∀ k, k < i → bq_E (bq_w t) L k) ∨ (s.1 = 0 ∧ ∃ k, k < i ∧ ¬ bq_E (bq_w t) L k)) 4 0 (1, f, g, a4, a5, a6, a7) (by omega) (Or.inl ⟨rfl, fun j hj => absurd hj (by omega)⟩) ?_ ?_
  · intro n s h
    obtain ⟨y, f, g, b4, b5, b6, b7⟩ := s
    refine pk_le 4 4 (fun _ => ?_) (fun z => absurd z (by omega))
    refine bq_indep ht hL h3 (fun r f g b4 b5 b6 b7 hr => ?_)
    try dsimp only
    rcases h with ⟨e1, e2⟩ | ⟨e1, k, e2, e3⟩
    · rcases hr with ⟨r1, r2⟩ | ⟨r1, j, r2, r3⟩
      · refine br_f (by rw [show y = 1 from e1]; decide) ?_
        rw [r1]
        exact bq_L477 1 hpost
      · exact absurd (e2 j r2) r3
    · rcases hr with ⟨r1, r2⟩ | ⟨r1, j, r2, r3⟩
      · exact absurd (r2 k e2) e3
      · refine br_t e1 ?_
        rw [r1]
        exact bq_L477 0 hpost
  · intro n i s hi h hw
    obtain ⟨y, f, g, b4, b5, b6, b7⟩ := s
    have e := bq_half i (by omega)
    refine pk_le 4 i (fun z => absurd z (by omega)) (fun _ => nm_r e.1 (nm_r e.2 ?_))
    refine bq_totalPair ht hL h3 (i / 2) (i % 2) (by omega) (by omega) (fun f g b4 b5 b6 b7 => ?_)
    try dsimp only
    refine bq_totalWith ht hL h3 0 (i / 2) (by omega) (by omega) (fun f g b4 b5 b6 b7 => ?_)
    try dsimp only
    refine bq_totalWith ht hL h3 1 (i % 2) (by omega) (by omega) (fun f g b4 b5 b6 b7 => ?_)
    try dsimp only
    refine br_c (fun c => nm_r (nI_1 i) (hw (y, f, g, b4, b5, b6, b7) ?_)) (fun c => nm_r (nI_1 i) (hw (0, f, g, b4, b5, b6, b7) (Or.inr ⟨rfl, i, by omega, c⟩)))
    rcases h with ⟨e1, e2⟩ | ⟨e1, k, e2, e3⟩
    · refine Or.inl ⟨e1, fun k hk => ?_⟩
      by_cases q : k = i
      · rw [q]
        exact c
      · exact e2 k (by omega)
    · exact Or.inr ⟨e1, k, by omega, e3⟩
theorem bq_L368 {t : Nat → Nat} {L : Nat} (ht : bq_T t a2) (hL : L < 3) (h3 : ∀ j, j < 3 → a3 j = nI (bq_sn L j)) (hpost : post 1 ()) (z : Int32) :
    wL_lawOf_368 post mc ms (lN (bq_val (bq_opN 0) (bq_w t) (bq_sn L))) z z kc ks 3 f g bq_P a2 a3 a4 a5 a6 a7 := by
  unfold wL_lawOf_368
  refine br_t rfl (bq_blanket 0 (by omega) ?_)
  refine br_t (by decide +kernel) (bq_blanket 2 (by omega) ?_)
  refine br_t (by decide +kernel) ?_
  exact bq_L398 ht hL h3 hpost
theorem bq_L146 {L : Nat} (ht : bq_T (bq_t code other) a2) (hL : L < 3) (h3 : ∀ j, j < 3 → a3 j = nI (bq_sn L j)) (hpost : post 1 ()) :
    ∃ n, wL_lawOf_146 post mc ms code other (nI L) kc ks 3 f g bq_P a2 a3 a4 a5 a6 a7 n 0 0 0 0 (-1) 0 0 := by
  have hw := bq_w_le ht
  have F := bq_fB_le (L := L) hw
  refine pk_loop (σ := Unit) (fun n x _ => wL_lawOf_146 post mc ms code other (nI L) kc ks 3 f g bq_P a2 a3 a4 a5 a6 a7 n (lN (bq_fT L (bq_w (bq_t code other)) x)) (lN (bq_fW L (bq_w (bq_t code other)) x)) (lN (bq_fP L (bq_w (bq_t code other)) x)) (nI (bq_fB L (bq_w (bq_t code other)) x)) (nI (bq_fN L (bq_w (bq_t code other)) x) - 1) (nI (bq_fC L (bq_w (bq_t code other)) x)) (nI x)) (fun _ _ => True) 8 0 () (by omega) trivial ?_ ?_
  · intro n _ _
    show wL_lawOf_146 post mc ms code other (nI L) kc ks 3 f g bq_P a2 a3 a4 a5 a6 a7 (n + 1) (lN (bq_fT L (bq_w (bq_t code other)) 8)) (lN (bq_fW L (bq_w (bq_t code other)) 8)) (lN (bq_fP L (bq_w (bq_t code other)) 8)) (nI (bq_fB L (bq_w (bq_t code other)) 8)) (nI (bq_fN L (bq_w (bq_t code other)) 8) - 1) (nI (bq_fC L (bq_w (bq_t code other)) 8)) (nI 8)
    rw [bq_qT _ L hL, bq_qW _ L hL, bq_qP _ L hL, bq_qB _ L hL, bq_qN _ L hL, bq_qC _ L hL, nI_pred]
    refine pk_le 8 8 (fun _ => ?_) (fun z => absurd z (by omega))
    refine bq_total ht hL h3 (fun f g b4 b5 b6 b7 => ?_)
    try dsimp only
    refine br_t rfl (bq_totalWith ht hL h3 0 1 (by omega) (by omega) (fun f g b4 b5 b6 b7 => ?_))
    try dsimp only
    refine br_t rfl (bq_totalPair ht hL h3 1 0 (by omega) (by omega) (fun f g b4 b5 b6 b7 => ?_))
    try dsimp only
    refine br_t rfl (bq_best ht hL h3 (fun f g b4 b5 b6 b7 => ?_))
    try dsimp only
    refine br_t rfl (bq_bestNumber ht hL h3 (fun f g b4 b5 b6 b7 => ?_))
    try dsimp only
    refine br_t rfl (bq_bestWith ht hL h3 (fun f g b4 b5 b6 b7 => ?_))
    try dsimp only
    refine br_t rfl (bq_separated L hL h3 ?_)
    refine pk_eq L 2 (fun z => ?_) (fun z => ?_)
    · rw [if_pos z]
      exact bq_L368 ht hL h3 hpost 1
    · rw [if_neg z]
      exact bq_L368 ht hL h3 hpost 0
  · intro n x _ hx _ hk
    have k := hk () trivial
    obtain ⟨f1, f2, f3⟩ := F x (by omega)
    refine pk_le 8 x (fun z => absurd z (by omega)) (fun _ => ?_)
    refine bq_lweight x hx ?_
    refine bq_weight ht x hx ?_
    refine br_t rfl ?_
    rw [(bq_xb x hx).2.2.2.1]
    simp only [bq_fT, bq_fW, bq_fP, bq_fB, bq_fN, bq_fC] at k
    refine pk_eq L 2 (fun z => ?_) (fun z => pk_eq (x / 4) L (fun y => ?_) (fun y => ?_))
    · have c : L = 2 ∨ x / 4 = L := Or.inl z
      rw [if_pos c, if_pos c, if_pos c, if_pos c, if_pos c, if_pos c] at k
      exact bq_L190 _ _ _ _ _ _ x _ f1 (by omega) f2 hx (hw x hx) k
    · have c : L = 2 ∨ x / 4 = L := Or.inr y
      rw [if_pos c, if_pos c, if_pos c, if_pos c, if_pos c, if_pos c] at k
      exact bq_L190 _ _ _ _ _ _ x _ f1 (by omega) f2 hx (hw x hx) k
    · have c : ¬ (L = 2 ∨ x / 4 = L) := by omega
      rw [if_neg c, if_neg c, if_neg c, if_neg c, if_neg c, if_neg c] at k
      exact nm_r (nI_1 x) k
theorem bq_look (x : Int32) : ∃ L, L < 3 ∧ (x &&& 3) - (x &&& 3) / 3 * 3 = nI L := by
  refine ⟨x.toBitVec.toNat % 2 ^ 2 % 3, Nat.mod_lt _ (by decide), ?_⟩
  rw [pk_and x (m := 3) 2 (by decide)]
  exact pk_rem (d := 3) (Nat.lt_trans (Nat.mod_lt _ (by decide)) (by decide)) (by decide) (by decide)
theorem bq_L23 (h2 : ∀ j, j < 112 → a2 j = 1) (h3 : ∀ j, j < 7 → a3 j = 2) (hpost : post 1 ()) :
    ∃ n, wL_lawOf_23 post mc ms code other x2 kc ks n 0 3 f g bq_P a2 a3 a4 a5 a6 a7 := by
  refine pk_loop (fun n v s => wL_lawOf_23 post mc ms code other x2 kc ks n (nI v) 3 f g bq_P s a3 a4 a5 a6 a7) (fun v s => bq_I code other (16 * v) s) 3 0 a2 (by omega) (fun j hj => ?_) ?_ ?_
  · rw [if_neg (by omega)]
    exact h2 j hj
  · intro n s hs
    obtain ⟨L, hL, e⟩ := bq_look x2
    refine pk_le 3 3 (fun _ => ⟨by decide, nm_r e ?_⟩) (fun z => absurd z (by omega))
    refine bq_observe L hL ?_
    try dsimp only
    refine br_t (h3 2 (by omega)) ?_
    refine bq_L146 (bq_I_T hs) hL (fun j hj => ?_) hpost
    by_cases q : j = 2
    · rw [q, pk_us]
      rfl
    · rw [pk_un q, h3 j (by omega)]
      exact congrArg nI (if_neg q).symm
  · intro n v s hv hs hw
    refine pk_le 3 v (fun z => absurd z (by omega)) (fun _ => ?_)
    exact bq_L32 v hv hs hw
end
theorem bq_lawOf {post : Int32 → St0 → Prop} (code other x2 : Int32) (hpost : post 1 ()) : wpL_lawOf post 8 2093 () code other x2 := by
  unfold wpL_lawOf
  refine ⟨by omega, by omega, 7, 2083, by omega, by omega, ?_⟩
  refine bq_init (fun b2 b3 h2 h3 => ?_)
  try dsimp only
  refine bq_parents h2 (fun b2 h2 => ?_)
  try dsimp only
  exact br_t rfl (bq_L23 h2 h3 hpost)
theorem bq_cell {post : Int32 → Prop} {L : Nat} {xs : Nat → Int32} (hL : L ≤ 3) (p : Nat) (hp : p < 8) (H : ∀ r, post r) : wpL_cellAt post L xs () (nI p) := by
  unfold wpL_cellAt
  exact pk_le L p (fun _ => H _) (fun z => ⟨pk_in p L z, H _⟩)
theorem i_vc (xs : Nat → Int32) (L : Nat) (hL : L ≤ 3) : wpL_law (fun r => r = 1) L xs := by
  unfold wpL_law
  refine bq_cell hL 0 (by omega) (fun r1 => ?_)
  refine bq_cell hL 1 (by omega) (fun r2 => ?_)
  refine bq_cell hL 2 (by omega) (fun r3 => ?_)
  exact ⟨8, 2093, by omega, by omega, bq_lawOf r1 r2 r3 rfl⟩
end
