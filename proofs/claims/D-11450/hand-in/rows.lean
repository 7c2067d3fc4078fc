section
/-! ===== small facts, and the straight-line methods ===== -/
theorem lk_ix (m s : Nat) : nI m * 10 + nI s = nI (m * 10 + s) := by
  rw [show (10 : Int32) = nI 10 from rfl, pk_mul, nI_add]
theorem lk_fil {s : Nat → Int32} {i : Nat} {x : Int32} (hi : i < 2 ^ 31) (h : ∀ j, j < i → s j = x) : ∀ j, j < i + 1 → upd s (nI i).toNatClampNeg x j = x := by
  intro j hj
  rw [nI_clamp hi]
  by_cases e : j = i
  · rw [e, pk_us]
  · rw [pk_un e]
    exact h j (by omega)
/-- a row over the names: x at the name n, NONE elsewhere -/
def lk_R (n : Nat) (x : Int32) (a : Nat → Int32) : Prop := ∀ s, s < 10 → a s = if s = n then x else -4
/-- the table of definitions: d m at the name n, NONE elsewhere -/
def lk_D (n : Nat) (d : Nat → Int32) (a : Nat → Int32) : Prop := ∀ m s, m < 6 → s < 10 → a (m * 10 + s) = if s = n then d m else -4
/-- the addresses: c words in module 1, e words in module 4 -/
def lk_A (c e : Nat) (a : Nat → Int32) : Prop := ∀ j, j < 7 → a j = nI (if 5 ≤ j then c + e else if 2 ≤ j then c else 0)
/-- the names of the places: n at P, NONE elsewhere -/
def lk_N (n P : Nat) (a : Nat → Int32) : Prop := ∀ j, j < 48 → a j = if j = P then nI n else -4
theorem lk_R_at {n : Nat} {x : Int32} {a : Nat → Int32} (h : lk_R n x a) (hn : n < 10) : a n = x := by
  rw [h n hn, if_pos rfl]
theorem lk_R_ne {n s : Nat} {x : Int32} {a : Nat → Int32} (h : lk_R n x a) (hs : s < 10) (e : s ≠ n) : a s = -4 := by
  rw [h s hs, if_neg e]
theorem lk_R_put {n : Nat} {x y : Int32} {a : Nat → Int32} (h : lk_R n x a) : lk_R n y (upd a n y) := by
  intro s hs
  by_cases e : s = n
  · rw [if_pos e, e, pk_us]
  · rw [if_neg e, pk_un e, h s hs, if_neg e]
theorem lk_R_keep {n s : Nat} {x : Int32} {a : Nat → Int32} (h : lk_R n x a) (e : s ≠ n) : lk_R n x (upd a s (-4)) := by
  intro t ht
  by_cases z : t = s
  · rw [z, pk_us, if_neg e]
  · rw [pk_un z, h t ht]
theorem lk_D_put {n m : Nat} {x : Int32} {d a : Nat → Int32} (h : lk_D n d a) (hn : n < 10) : lk_D n (fun j => if j = m then x else d j) (upd a (m * 10 + n) x) := by
  intro q s hq hs
  by_cases e : s = n
  · rw [if_pos e]
    by_cases z : q = m
    · rw [z, e, pk_us]
      exact (if_pos rfl).symm
    · rw [pk_un (by omega), h q s hq hs, if_pos e]
      exact (if_neg z).symm
  · rw [if_neg e, pk_un (by omega), h q s hq hs, if_neg e]
theorem lk_A_1 {c e : Nat} {a b : Nat → Int32} (h : lk_A c e a) (hb : ∀ j, j < 7 → b j = if 2 ≤ j then a j + 1 else a j) : lk_A (c + 1) e b := by
  intro j hj
  rw [hb j hj, h j hj]
  by_cases z : 2 ≤ j
  · rw [if_pos z, if_pos z, if_pos z, nI_1]
    by_cases y : 5 ≤ j
    · rw [if_pos y, if_pos y, show c + e + 1 = c + 1 + e by omega]
    · rw [if_neg y, if_neg y]
  · rw [if_neg z, if_neg z, if_neg z, if_neg (by omega), if_neg (by omega)]
theorem lk_A_4 {c e : Nat} {a b : Nat → Int32} (h : lk_A c e a) (hb : ∀ j, j < 7 → b j = if 5 ≤ j then a j + 1 else a j) : lk_A c (e + 1) b := by
  intro j hj
  rw [hb j hj, h j hj]
  by_cases z : 5 ≤ j
  · rw [if_pos z, if_pos z, if_pos z, nI_1, Nat.add_assoc]
  · rw [if_neg z, if_neg z, if_neg z]
section
variable {post : St2 → Prop} {a1 a2 a3 a4 a5 a6 a7 a8 a9 a10 : Nat → Int32} {p q n : Nat}
theorem lk_bindP (hp : p < 48) (hn : n < 10) (h3 : a3 p = nI n) (h6 : 0 ≤ a6 n) (H : post (a1, upd a2 p (a6 n + a4 p), a3, a4, a5, a6, a7, a8, a9, a10)) : wpX_bind post (a1, a2, a3, a4, a5, a6, a7, a8, a9, a10) (nI p) := by
  unfold wpX_bind
  dsimp only
  rw [nI_clamp (show p < 2 ^ 31 by omega), h3]
  refine ⟨pk_in p 48 hp, nm_e ?_⟩
  rw [nI_clamp (show n < 2 ^ 31 by omega)]
  exact ⟨pk_in n 10 hn, br_t h6 ⟨pk_in n 10 hn, pk_in p 48 hp, pk_in p 48 hp, nm_e H⟩⟩
theorem lk_bindN (hp : p < 48) (hn : n < 10) (h3 : a3 p = nI n) (h6 : ¬ 0 ≤ a6 n) (H : post (a1, upd a2 p (-1), a3, a4, a5, a6, a7, a8, a9, a10)) : wpX_bind post (a1, a2, a3, a4, a5, a6, a7, a8, a9, a10) (nI p) := by
  unfold wpX_bind
  dsimp only
  rw [nI_clamp (show p < 2 ^ 31 by omega), h3]
  refine ⟨pk_in p 48 hp, nm_e ?_⟩
  rw [nI_clamp (show n < 2 ^ 31 by omega)]
  exact ⟨pk_in n 10 hn, br_f h6 ⟨pk_in p 48 hp, nm_e H⟩⟩
theorem lk_link (hp : p < 48) (hn : n < 10) (h8 : a8 n = -4) (H : post (a1, a2, a3, a4, a5, a6, a7, upd a8 n (nI p), upd a9 p (-4), upd a10 p (-4))) : wpX_link post (a1, a2, a3, a4, a5, a6, a7, a8, a9, a10) (nI p) (nI n) := by
  unfold wpX_link
  dsimp only
  rw [nI_clamp (show p < 2 ^ 31 by omega), nI_clamp (show n < 2 ^ 31 by omega), h8]
  exact ⟨pk_in n 10 hn, nm_e ⟨pk_in p 48 hp, nm_e ⟨pk_in p 48 hp, nm_e (br_t (by decide) ⟨pk_in n 10 hn, nm_e H⟩)⟩⟩⟩
theorem lk_putC {v b : Int32} (hp : p < 48) (H : post (a1, upd a2 p v, upd a3 p (-4), upd a4 p b, a5, a6, a7, a8, a9, a10)) : wpX_put post (a1, a2, a3, a4, a5, a6, a7, a8, a9, a10) (nI p) v (-4) b := by
  unfold wpX_put
  dsimp only
  rw [nI_clamp (show p < 2 ^ 31 by omega)]
  exact ⟨pk_in p 48 hp, nm_e ⟨pk_in p 48 hp, nm_e ⟨pk_in p 48 hp, nm_e (br_t (by decide) H)⟩⟩⟩
theorem lk_putR {v b : Int32} (hp : p < 48) (hn : n < 10) (h8 : a8 n = -4)
    (H : ∀ y, (0 ≤ a6 n → y = a6 n + b) → post (a1, upd (upd a2 p v) p y, upd a3 p (nI n), upd a4 p b, a5, a6, a7, upd a8 n (nI p), upd a9 p (-4), upd a10 p (-4))) :
    wpX_put post (a1, a2, a3, a4, a5, a6, a7, a8, a9, a10) (nI p) v (nI n) b := by
  unfold wpX_put
  dsimp only
  rw [nI_clamp (show p < 2 ^ 31 by omega)]
  refine ⟨pk_in p 48 hp, nm_e ⟨pk_in p 48 hp, nm_e ⟨pk_in p 48 hp, nm_e (br_f (nI_pos (by omega)) (lk_link hp hn h8 ?_))⟩⟩⟩
  dsimp only
  by_cases h6 : 0 ≤ a6 n
  · exact lk_bindP hp hn pk_us h6 (H _ (fun _ => by rw [pk_us]))
  · exact lk_bindN hp hn pk_us h6 (H _ (fun z => absurd z h6))
theorem lk_unlink (hp : p < 48) (hn : n < 10) (h9 : a9 p = -4) (h10 : a10 p = -4) (H : post (a1, a2, a3, a4, a5, a6, a7, upd a8 n (-4), a9, a10)) : wpX_unlink post (a1, a2, a3, a4, a5, a6, a7, a8, a9, a10) (nI p) (nI n) := by
  unfold wpX_unlink
  dsimp only
  rw [nI_clamp (show p < 2 ^ 31 by omega), nI_clamp (show n < 2 ^ 31 by omega), h10, h9]
  refine ⟨pk_in p 48 hp, br_t (by decide) ⟨pk_in p 48 hp, pk_in n 10 hn, nm_e ?_⟩⟩
  unfold wX_unlink_41
  rw [nI_clamp (show p < 2 ^ 31 by omega), h9]
  exact ⟨pk_in p 48 hp, br_t (by decide) H⟩
theorem lk_moveC (hp : p < 48) (hq : q < 48) (h3 : a3 p = -4) (H : post (a1, upd a2 q (a2 p), upd (upd a3 q (-4)) p (-4), upd a4 q (a4 p), a5, a6, a7, a8, a9, a10)) : wpX_moveWord post (a1, a2, a3, a4, a5, a6, a7, a8, a9, a10) (nI p) (nI q) := by
  unfold wpX_moveWord
  dsimp only
  rw [nI_clamp (show p < 2 ^ 31 by omega), h3]
  refine ⟨pk_in p 48 hp, nm_e (br_t (by decide) ?_)⟩
  unfold wX_moveWord_17
  rw [nI_clamp (show p < 2 ^ 31 by omega)]
  exact ⟨pk_in p 48 hp, pk_in p 48 hp, lk_putC hq ⟨pk_in p 48 hp, nm_e H⟩⟩
theorem lk_moveR (hp : p < 48) (hq : q < 48) (hn : n < 10) (h3 : a3 p = nI n) (h9 : a9 p = -4) (h10 : a10 p = -4)
    (H : ∀ y, (0 ≤ a6 n → y = a6 n + a4 p) → post (a1, upd (upd a2 q (a2 p)) q y, upd (upd a3 q (nI n)) p (-4), upd a4 q (a4 p), a5, a6, a7, upd (upd a8 n (-4)) n (nI q), upd a9 q (-4), upd a10 q (-4))) :
    wpX_moveWord post (a1, a2, a3, a4, a5, a6, a7, a8, a9, a10) (nI p) (nI q) := by
  unfold wpX_moveWord
  dsimp only
  rw [nI_clamp (show p < 2 ^ 31 by omega), h3]
  refine ⟨pk_in p 48 hp, nm_e (br_f (nI_pos (by omega)) (lk_unlink hp hn h9 h10 ?_))⟩
  dsimp only
  unfold wX_moveWord_17
  rw [nI_clamp (show p < 2 ^ 31 by omega)]
  exact ⟨pk_in p 48 hp, pk_in p 48 hp, lk_putR hq hn pk_us (fun y hy => ⟨pk_in p 48 hp, nm_e (H y hy)⟩)⟩
theorem lk_33 {k : Nat} (hk : k ≤ 7) (H : ∀ a, (∀ j, j < 7 → a j = if k ≤ j then a1 j + 1 else a1 j) → post (a, a2, a3, a4, a5, a6, a7, a8, a9, a10)) : ∃ f, wX_open_33 post f (nI k) a1 a2 a3 a4 a5 a6 a7 a8 a9 a10 := by
  refine pk_loop (fun f i s => wX_open_33 post f (nI i) s a2 a3 a4 a5 a6 a7 a8 a9 a10) (fun i s => k ≤ i ∧ ∀ j, j < 7 → s j = if k ≤ j ∧ j < i then a1 j + 1 else a1 j) 7 k a1 hk ⟨Nat.le_refl k, fun j hj => by rw [if_neg (by omega)]⟩ ?_ ?_
  · intro f s h
    refine pk_lt 6 7 (fun _ => H s (fun j hj => ?_)) (fun z => absurd z (by omega))
    rw [h.2 j hj]
    by_cases z : k ≤ j
    · rw [if_pos z, if_pos ⟨z, hj⟩]
    · rw [if_neg z, if_neg (fun w => z w.1)]
  · intro f i s hi h hw
    obtain ⟨hki, h⟩ := h
    refine pk_lt 6 i (fun z => absurd z (by omega)) (fun _ => ⟨pk_in i 7 hi, pk_in i 7 hi, nm_e (nm_r (nI_1 i) (hw _ ⟨by omega, fun j hj => ?_⟩))⟩)
    rw [nI_clamp (show i < 2 ^ 31 by omega)]
    by_cases z : j = i
    · rw [z, pk_us, h i hi, if_neg (by omega), if_pos ⟨hki, by omega⟩]
    · rw [pk_un z, h j hj]
      by_cases y : k ≤ j ∧ j < i
      · rw [if_pos y, if_pos ⟨y.1, by omega⟩]
      · rw [if_neg y, if_neg (by omega)]
end
end
section
/-! ===== refresh: which module counts, the address of every name, the places that refer to it ===== -/
/-- the inner loop of refresh: the lowest module with a definition -/
def lk_who (e : Nat → Int32) : Nat → Int32 → Int32
  | 0, x => x
  | m + 1, x => lk_who e m (if e m < 0 then x else nI m)
theorem lk_who_no {e : Nat → Int32} (h : ∀ m, m < 6 → e m = -4) : ∀ m, m ≤ 6 → ∀ x, lk_who e m x = x
  | 0, _, x => rfl
  | m + 1, hm, x => by
    rw [lk_who, h m (by omega), if_pos (by decide)]
    exact lk_who_no h m (by omega) x
theorem lk_who_eq {e e' : Nat → Int32} (h : ∀ m, m < 6 → e m = e' m) : ∀ m, m ≤ 6 → ∀ x, lk_who e m x = lk_who e' m x
  | 0, _, x => rfl
  | m + 1, hm, x => by
    rw [lk_who, lk_who, h m (by omega)]
    exact lk_who_eq h m (by omega) _
section
variable {post : St2 → Prop} {a1 a2 a3 a4 a5 a6 a7 a8 a9 a10 : Nat → Int32} {p q n s : Nat}
variable {J : Int32 → (Nat → Int32) → (Nat → Int32) → (Nat → Int32) → (Nat → Int32) → (Nat → Int32) → (Nat → Int32) → (Nat → Int32) → (Nat → Int32) → (Nat → Int32) → (Nat → Int32) → Prop}
theorem lk_13 (hs : s < 10) {e : Nat → Int32} (he : ∀ m, m < 6 → a5 (m * 10 + s) = e m) : ∀ m, m ≤ 6 → ∀ x,
    ((0 ≤ lk_who e m x → (vp_in (lk_who e m x) 7 ∧ (vp_in ((lk_who e m x * 10) + nI s) 60 ∧ (wX_refresh_70 post J (nI s) (lk_who e m x) ((a1 (lk_who e m x).toNatClampNeg) + (a5 ((lk_who e m x * 10) + nI s).toNatClampNeg)) a1 a2 a3 a4 a5 a6 a7 a8 a9 a10)))) ∧ (¬ 0 ≤ lk_who e m x → (wX_refresh_70 post J (nI s) (lk_who e m x) (-4) a1 a2 a3 a4 a5 a6 a7 a8 a9 a10))) →
    wX_refresh_13 post J (nI s) a1 a2 a3 a4 a5 a6 a7 a8 a9 a10 (m + 1) x (nI m + (-1))
  | 0, _, x, H => br_t (by decide) H
  | m + 1, hm, x, H => by
    have ih := lk_13 hs he m (by omega) (if e m < 0 then x else nI m) H
    rw [pk_m1]
    refine br_f (nI_pos (by omega)) ⟨pk_in (m * 10 + s) 60 (by omega) (lk_ix m s), ?_⟩
    rw [lk_ix, nI_clamp (show m * 10 + s < 2 ^ 31 by omega), he m (by omega)]
    by_cases z : e m < 0
    · rw [if_pos z] at ih
      exact br_t z (nm_e ih)
    · rw [if_neg z] at ih
      exact br_f z (nm_e ih)
/-- a name that no module defines -/
theorem lk_13no (hs : s < 10) (he : ∀ m, m < 6 → a5 (m * 10 + s) = -4) (H : wX_refresh_70 post J (nI s) (-4) (-4) a1 a2 a3 a4 a5 a6 a7 a8 a9 a10) : wX_refresh_13 post J (nI s) a1 a2 a3 a4 a5 a6 a7 a8 a9 a10 7 (-4) 5 := by
  refine lk_13 hs (e := fun _ => -4) he 6 (by omega) (-4) ?_
  rw [lk_who_no (fun _ _ => rfl) 6 (by omega)]
  exact br_f (by decide) H
/-- a name that module w defines first -/
theorem lk_13at (hs : s < 10) {e : Nat → Int32} (he : ∀ m, m < 6 → a5 (m * 10 + s) = e m) {w : Nat} (hw : w < 6) (hW : lk_who e 6 (-4) = nI w) (H : wX_refresh_70 post J (nI s) (nI w) (a1 w + e w) a1 a2 a3 a4 a5 a6 a7 a8 a9 a10) : wX_refresh_13 post J (nI s) a1 a2 a3 a4 a5 a6 a7 a8 a9 a10 7 (-4) 5 := by
  refine lk_13 hs he 6 (by omega) (-4) ?_
  rw [hW, lk_ix, nI_clamp (show w < 2 ^ 31 by omega), nI_clamp (show w * 10 + s < 2 ^ 31 by omega), he w hw]
  exact br_t (nI_pos' (by omega)) ⟨pk_in w 7 (by omega), pk_in (w * 10 + s) 60 (by omega), H⟩
theorem lk_rebind (hp : p < 48) (hn : n < 10) (h3 : a3 p = nI n) (h6 : 0 ≤ a6 n) (h8 : a8 n = nI p) (h9 : a9 p = -4) (H : post (a1, upd a2 p (a6 n + a4 p), a3, a4, a5, a6, a7, a8, a9, a10)) : wpX_rebind post (a1, a2, a3, a4, a5, a6, a7, a8, a9, a10) (nI n) := by
  unfold wpX_rebind
  dsimp only
  rw [nI_clamp (show n < 2 ^ 31 by omega), h8]
  refine ⟨pk_in n 10 hn, nm_e ⟨0 + 1 + 1, br_f (by decide) (br_f (nI_pos (by omega)) (lk_bindP hp hn h3 h6 ?_))⟩⟩
  dsimp only
  rw [nI_clamp (show p < 2 ^ 31 by omega), h9]
  exact ⟨pk_in p 48 hp, nm_e (nm_e (br_f (by decide) (br_t (by decide) H)))⟩
theorem lk_70eq {x z : Int32} (hs : s < 10) (h : z = a6 s) (H : J (nI (s + 1)) a1 a2 a3 a4 a5 a6 (upd a7 s x) a8 a9 a10) : wX_refresh_70 post J (nI s) x z a1 a2 a3 a4 a5 a6 a7 a8 a9 a10 := by
  unfold wX_refresh_70
  rw [nI_clamp (show s < 2 ^ 31 by omega)]
  exact ⟨pk_in s 10 hs, nm_e ⟨pk_in s 10 hs, br_t h (nm_r (nI_1 s) H)⟩⟩
theorem lk_70ne {x z : Int32} (hs : s < 10) (h : ¬ z = a6 s) (hz : 0 ≤ z) (hp : p < 48) (h3 : a3 p = nI s) (h8 : a8 s = nI p) (h9 : a9 p = -4) (H : J (nI (s + 1)) a1 (upd a2 p (z + a4 p)) a3 a4 a5 (upd a6 s z) (upd a7 s x) a8 a9 a10) : wX_refresh_70 post J (nI s) x z a1 a2 a3 a4 a5 a6 a7 a8 a9 a10 := by
  unfold wX_refresh_70
  rw [nI_clamp (show s < 2 ^ 31 by omega)]
  refine ⟨pk_in s 10 hs, nm_e ⟨pk_in s 10 hs, br_f h ⟨pk_in s 10 hs, nm_e (lk_rebind hp hs h3 (by rw [pk_us]; exact hz) h8 h9 ?_)⟩⟩⟩
  dsimp only
  rw [pk_us]
  exact nm_r (nI_1 s) H
/-- refresh, the general row: t is the new address of the name n, W the module that counts -/
theorem lk_refresh {t K W C b : Int32} {d : Nat → Int32} (hn : n < 10) (hp : p < 48) (h3 : a3 p = nI n) (h4 : a4 p = b) (h5 : lk_D n d a5) (h6 : lk_R n K a6) (h7 : lk_R n C a7) (h8 : a8 n = nI p) (h9 : a9 p = -4)
    (hW : lk_who d 6 (-4) = W) (ht : (W = -4 ∧ t = -4) ∨ ∃ w, w < 6 ∧ W = nI w ∧ t = a1 w + d w) (hk : ¬ t = K → 0 ≤ t)
    (H : ∀ c2 c6 c7, c2 = (if t = K then a2 else upd a2 p (t + b)) → lk_R n t c6 → lk_R n W c7 → post (a1, c2, a3, a4, a5, c6, c7, a8, a9, a10)) :
    wpX_refresh post (a1, a2, a3, a4, a5, a6, a7, a8, a9, a10) := by
  unfold wpX_refresh
  dsimp only
  refine pk_loop (σ := (Nat → Int32) × (Nat → Int32) × (Nat → Int32)) (fun f i s => wX_refresh_2 post f (nI i) a1 s.1 a3 a4 a5 s.2.1 s.2.2 a8 a9 a10)
    (fun i s => s.1 = (if n < i then (if t = K then a2 else upd a2 p (t + b)) else a2) ∧ lk_R n (if n < i then t else K) s.2.1 ∧ lk_R n (if n < i then W else C) s.2.2) 10 0 (a2, a6, a7) (by omega) ⟨by rw [if_neg (Nat.not_lt_zero n)], by rw [if_neg (Nat.not_lt_zero n)]; exact h6, by rw [if_neg (Nat.not_lt_zero n)]; exact h7⟩ ?_ ?_
  · intro f s h
    rw [if_pos hn, if_pos hn, if_pos hn] at h
    exact pk_le 10 10 (fun _ => H _ _ _ h.1 h.2.1 h.2.2) (fun z => absurd z (by omega))
  · intro f i s hi h hw
    obtain ⟨c2, c6, c7⟩ := s
    obtain ⟨k2, k6, k7⟩ := h
    dsimp only at k2 k6 k7
    refine pk_le 10 i (fun z => absurd z (by omega)) (fun _ => ⟨7, ?_⟩)
    by_cases e : i = n
    · subst e
      rw [if_neg (Nat.lt_irrefl i)] at k2 k6 k7
      have key : wX_refresh_70 post (wX_refresh_2 post f) (nI i) W t a1 c2 a3 a4 a5 c6 c7 a8 a9 a10 := by
        by_cases g : t = K
        · refine lk_70eq hi (by rw [g, lk_R_at k6 hi]) (hw (c2, c6, upd c7 i W) ⟨?_, ?_, ?_⟩)
          · show c2 = _
            rw [if_pos (by omega), if_pos g, k2]
          · show lk_R i _ c6
            rw [if_pos (by omega), g]
            exact k6
          · show lk_R i _ (upd c7 i W)
            rw [if_pos (by omega)]
            exact lk_R_put k7
        · refine lk_70ne hi (by rw [lk_R_at k6 hi]; exact g) (hk g) hp h3 h8 h9 (hw (upd c2 p (t + a4 p), upd c6 i t, upd c7 i W) ⟨?_, ?_, ?_⟩)
          · show upd c2 p (t + a4 p) = _
            rw [if_pos (by omega), if_neg g, k2, h4]
          · show lk_R i _ (upd c6 i t)
            rw [if_pos (by omega)]
            exact lk_R_put k6
          · show lk_R i _ (upd c7 i W)
            rw [if_pos (by omega)]
            exact lk_R_put k7
      have he : ∀ m, m < 6 → a5 (m * 10 + i) = d m := fun m hm => by rw [h5 m i hm hi, if_pos rfl]
      rcases ht with ⟨w1, w2⟩ | ⟨w, w1, w2, w3⟩
      · refine lk_13 hi he 6 (by omega) (-4) ?_
        rw [hW, w1]
        rw [w1, w2] at key
        exact br_f (by decide) key
      · rw [w2] at hW key
        rw [w3] at key
        exact lk_13at hi he w1 hW key
    · refine lk_13no hi (fun m hm => by rw [h5 m i hm hi, if_neg e]) (lk_70eq hi (lk_R_ne k6 hi e).symm (hw (c2, c6, upd c7 i (-4)) ⟨?_, ?_, ?_⟩))
      · show c2 = _
        rw [k2]
        by_cases g : n < i
        · rw [if_pos g, if_pos (show n < i + 1 by omega)]
        · rw [if_neg g, if_neg (show ¬ n < i + 1 by omega)]
      · show lk_R n _ c6
        by_cases g : n < i
        · rw [if_pos g] at k6
          rw [if_pos (by omega)]
          exact k6
        · rw [if_neg g] at k6
          rw [if_neg (by omega)]
          exact k6
      · show lk_R n _ (upd c7 i (-4))
        by_cases g : n < i
        · rw [if_pos g] at k7
          rw [if_pos (by omega)]
          exact lk_R_keep k7 e
        · rw [if_neg g] at k7
          rw [if_neg (by omega)]
          exact lk_R_keep k7 e
end
end
section
/-! ===== the picture of a state, and the methods init, reference, constant, define ===== -/
/-- one reference, to the name n with the addend b, at the place P; c words in module 1, e in module 4; d: where each module defines n; K its address, C the module that counts -/
def lk_K (n P c e : Nat) (b K C : Int32) (d a1 a3 a4 a5 a6 a7 a8 a9 a10 : Nat → Int32) : Prop :=
  lk_A c e a1 ∧ lk_N n P a3 ∧ a4 P = b ∧ lk_D n d a5 ∧ lk_R n K a6 ∧ lk_R n C a7 ∧ lk_R n (nI P) a8 ∧ a9 P = -4 ∧ a10 P = -4
theorem lk_R_0 {n : Nat} {a : Nat → Int32} (h : ∀ j, j < 10 → a j = -4) : lk_R n (-4) a := by
  intro s hs
  rw [h s hs]
  by_cases e : s = n
  · rw [if_pos e]
  · rw [if_neg e]
theorem lk_D_0 {n : Nat} {a : Nat → Int32} (h : ∀ j, j < 60 → a j = -4) : lk_D n (fun _ => -4) a := by
  intro m s hm hs
  rw [h _ (by omega)]
  by_cases e : s = n
  · rw [if_pos e]
  · rw [if_neg e]
theorem lk_N_put {n p : Nat} {a : Nat → Int32} (h : ∀ j, j < 48 → j ≠ p → a j = -4) : lk_N n p (upd a p (nI n)) := by
  intro j hj
  by_cases e : j = p
  · rw [if_pos e, e, pk_us]
  · rw [if_neg e, pk_un e, h j hj e]
theorem lk_N_keep {n p q : Nat} {a : Nat → Int32} (h : lk_N n p a) (e : q ≠ p) : lk_N n p (upd a q (-4)) := by
  intro j hj
  by_cases z : j = q
  · rw [z, pk_us, if_neg e]
  · rw [pk_un z, h j hj]
theorem lk_N_at {n p : Nat} {a : Nat → Int32} (h : lk_N n p a) (hp : p < 48) : a p = nI n := by
  rw [h p hp, if_pos rfl]
theorem lk_N_ne {n p j : Nat} {a : Nat → Int32} (h : lk_N n p a) (hj : j < 48) (e : j ≠ p) : a j = -4 := by
  rw [h j hj, if_neg e]
section
variable {a1 a2 a3 a4 a5 a6 a7 a8 a9 a10 : Nat → Int32} {n : Nat}
theorem lk_bad {post : Int32 → Prop} {m : Nat} (hm : m < 6) (H : post 0) : wpX_bad post (a1, a2, a3, a4, a5, a6, a7, a8, a9, a10) (nI m) := by
  unfold wpX_bad
  dsimp only
  exact br_f (nI_pos (by omega)) (br_t (nI_lt (b := 6) hm (by omega)) H)
theorem lk_badName {post : Int32 → Prop} (hn : n < 10) (H : post 0) : wpX_badName post (a1, a2, a3, a4, a5, a6, a7, a8, a9, a10) (nI n) := by
  unfold wpX_badName
  dsimp only
  exact br_f (nI_pos (by omega)) (br_t (nI_lt (b := 10) hn (by omega)) H)
theorem lk_words {post : Int32 → Prop} {m : Nat} {x y : Int32} (hm : m < 6) (h1 : a1 (m + 1) = x) (h0 : a1 m = y) (H : post (x - y)) : wpX_words post (a1, a2, a3, a4, a5, a6, a7, a8, a9, a10) (nI m) := by
  unfold wpX_words
  dsimp only
  rw [nI_1, nI_clamp (show m + 1 < 2 ^ 31 by omega), nI_clamp (show m < 2 ^ 31 by omega), h1, h0]
  exact ⟨pk_in (m + 1) 7 (by omega), pk_in m 7 (by omega), H⟩
theorem lk_openE {post : St2 → Prop} {m p : Nat} (hm : m < 6) (hc : nI p - 1 < nI p) (h : a1 6 = nI p)
    (H : ∀ c, (∀ j, j < 7 → c j = if m + 1 ≤ j then a1 j + 1 else a1 j) → post (c, a2, a3, a4, a5, a6, a7, a8, a9, a10)) :
    wpX_open post (a1, a2, a3, a4, a5, a6, a7, a8, a9, a10) (nI m) (nI p) := by
  unfold wpX_open
  dsimp only
  rw [h]
  exact nm_e ⟨0 + 1, br_t hc (nm_r (nI_1 m) (lk_33 (by omega) H))⟩
theorem lk_146 {post : St2 → Prop} {mc ms kc ks : Nat} (H : ∀ c, (∀ j, j < 48 → c j = -4) → post (a1, a2, c, a4, a5, a6, a7, a8, a9, a10)) : ∃ f, wX_init_146 post mc ms kc ks f 0 a1 a2 a3 a4 a5 a6 a7 a8 a9 a10 :=
  pk_loop (fun f i s => wX_init_146 post mc ms kc ks f (nI i) a1 a2 s a4 a5 a6 a7 a8 a9 a10) (fun i s => ∀ j, j < i → s j = -4) 48 0 a3 (by omega) (fun j hj => absurd hj (by omega))
    (fun f s h => pk_le 48 48 (fun _ => H s h) (fun z => absurd z (by omega)))
    (fun f i s hi h hw => pk_le 48 i (fun z => absurd z (by omega)) (fun _ => ⟨pk_in i 48 hi, nm_e (nm_r (nI_1 i) (hw _ (lk_fil (by omega) h)))⟩))
theorem lk_108 {post : St2 → Prop} {mc ms kc ks : Nat} (H : ∀ c3 c6 c7 c8, (∀ j, j < 48 → c3 j = -4) → (∀ j, j < 10 → c6 j = -4) → (∀ j, j < 10 → c7 j = -4) → (∀ j, j < 10 → c8 j = -4) → post (a1, a2, c3, a4, a5, c6, c7, c8, a9, a10)) : ∃ f, wX_init_108 post mc ms kc ks f 0 a1 a2 a3 a4 a5 a6 a7 a8 a9 a10 :=
  pk_loop (σ := (Nat → Int32) × (Nat → Int32) × (Nat → Int32)) (fun f i s => wX_init_108 post mc ms kc ks f (nI i) a1 a2 a3 a4 a5 s.1 s.2.1 s.2.2 a9 a10)
    (fun i s => (∀ j, j < i → s.1 j = -4) ∧ (∀ j, j < i → s.2.1 j = -4) ∧ (∀ j, j < i → s.2.2 j = -4)) 10 0 (a6, a7, a8) (by omega)
    ⟨fun j hj => absurd hj (by omega), fun j hj => absurd hj (by omega), fun j hj => absurd hj (by omega)⟩
    (fun f s h => pk_le 10 10 (fun _ => lk_146 (fun c hc => H c s.1 s.2.1 s.2.2 hc h.1 h.2.1 h.2.2)) (fun z => absurd z (by omega)))
    (fun f i s hi h hw => pk_le 10 i (fun z => absurd z (by omega)) (fun _ => ⟨pk_in i 10 hi, nm_e ⟨pk_in i 10 hi, nm_e ⟨pk_in i 10 hi, nm_e (nm_r (nI_1 i) (hw (_, _, _) ⟨lk_fil (by omega) h.1, lk_fil (by omega) h.2.1, lk_fil (by omega) h.2.2⟩))⟩⟩⟩))
theorem lk_86 {post : St2 → Prop} {mc ms kc ks : Nat} (H : ∀ c3 c5 c6 c7 c8, (∀ j, j < 48 → c3 j = -4) → (∀ j, j < 60 → c5 j = -4) → (∀ j, j < 10 → c6 j = -4) → (∀ j, j < 10 → c7 j = -4) → (∀ j, j < 10 → c8 j = -4) → post (a1, a2, c3, a4, c5, c6, c7, c8, a9, a10)) : ∃ f, wX_init_86 post mc ms kc ks f 0 a1 a2 a3 a4 a5 a6 a7 a8 a9 a10 :=
  pk_loop (fun f i s => wX_init_86 post mc ms kc ks f (nI i) a1 a2 a3 a4 s a6 a7 a8 a9 a10) (fun i s => ∀ j, j < i → s j = -4) 60 0 a5 (by omega) (fun j hj => absurd hj (by omega))
    (fun f s h => pk_le 60 60 (fun _ => lk_108 (fun c3 c6 c7 c8 h3 h6 h7 h8 => H c3 s c6 c7 c8 h3 h h6 h7 h8)) (fun z => absurd z (by omega)))
    (fun f i s hi h hw => pk_le 60 i (fun z => absurd z (by omega)) (fun _ => ⟨pk_in i 60 hi, nm_e (nm_r (nI_1 i) (hw _ (lk_fil (by omega) h)))⟩))
theorem lk_init {post : St2 → Prop} (H : ∀ c3 c5 c6 c7 c8, (∀ j, j < 48 → c3 j = -4) → (∀ j, j < 60 → c5 j = -4) → (∀ j, j < 10 → c6 j = -4) → (∀ j, j < 10 → c7 j = -4) → (∀ j, j < 10 → c8 j = -4) → post ((fun _ => 0), (fun _ => 0), c3, (fun _ => 0), c5, c6, c7, c8, (fun _ => 0), (fun _ => 0))) : wpX_init post 10 337 () := by
  unfold wpX_init
  refine ⟨by decide, by decide, by decide, by decide, by decide, by decide, by decide, by decide, by decide, by decide, by decide, by decide, by decide, by decide, by decide, by decide, by decide, by decide, by decide, by decide, ?_⟩
  exact lk_86 H
/-- refresh over the picture -/
theorem lk_refK {post : St2 → Prop} {P c e : Nat} {t K W C b : Int32} {d : Nat → Int32} (hn : n < 10) (hp : P < 48) (k : lk_K n P c e b K C d a1 a3 a4 a5 a6 a7 a8 a9 a10)
    (hW : lk_who d 6 (-4) = W) (ht : (W = -4 ∧ t = -4) ∨ ∃ w, w < 6 ∧ W = nI w ∧ t = a1 w + d w) (hk : ¬ t = K → 0 ≤ t)
    (H : ∀ c2 c6 c7, c2 = (if t = K then a2 else upd a2 P (t + b)) → lk_K n P c e b t W d a1 a3 a4 a5 c6 c7 a8 a9 a10 → post (a1, c2, a3, a4, a5, c6, c7, a8, a9, a10)) :
    wpX_refresh post (a1, a2, a3, a4, a5, a6, a7, a8, a9, a10) := by
  obtain ⟨k1, k3, k4, k5, k6, k7, k8, k9, k10⟩ := k
  exact lk_refresh hn hp (lk_N_at k3 hp) k4 k5 k6 k7 (lk_R_at k8 hn) k9 hW ht hk (fun c2 c6 c7 e2 e6 e7 => H c2 c6 c7 e2 ⟨k1, k3, k4, k5, e6, e7, k8, k9, k10⟩)
theorem lk_n100 {x : Nat} (h : x ≤ 100) : ¬ nI x < -100 := by
  intro z
  have z := Int32.lt_iff_toInt_lt.mp z
  rw [nI_toInt (by omega)] at z
  have e : (-100 : Int32).toInt = -100 := by decide
  omega
theorem lk_who0 : lk_who (fun _ => -4) 6 (-4) = -4 := lk_who_no (fun _ _ => rfl) 6 (by omega) (-4)
theorem lk_reference {post : Int32 → St2 → Prop} {x : Nat} (hn : n < 10) (hx : x ≤ 100) (h1 : lk_A 0 0 a1) (h3 : ∀ j, j < 48 → a3 j = -4) (h5 : ∀ j, j < 60 → a5 j = -4) (h6 : ∀ j, j < 10 → a6 j = -4) (h7 : ∀ j, j < 10 → a7 j = -4) (h8 : ∀ j, j < 10 → a8 j = -4)
    (H : ∀ r c1 c2 c3 c4 c5 c6 c7 c8 c9 c10, lk_K n 0 1 0 (nI x) (-4) (-4) (fun _ => -4) c1 c3 c4 c5 c6 c7 c8 c9 c10 → post r (c1, c2, c3, c4, c5, c6, c7, c8, c9, c10)) :
    wpX_reference post (a1, a2, a3, a4, a5, a6, a7, a8, a9, a10) 1 (nI n) (nI x) := by
  unfold wpX_reference
  dsimp only
  refine lk_bad (m := 1) (by omega) (br_t rfl (lk_badName hn (br_t rfl (br_f (lk_n100 hx) (br_t (nI_le (b := 100) hx (by omega)) ?_)))))
  unfold wpX_append
  dsimp only
  refine lk_words (m := 1) (x := nI 0) (y := nI 0) (by omega) (h1 2 (by omega)) (h1 1 (by omega)) (br_f (by decide) ⟨pk_in 2 7 (by omega), nm_r (e' := nI 0) (h1 2 (by omega)) (lk_openE (m := 1) (by omega) (by decide) (h1 6 (by omega)) (fun c1 hc1 => ?_))⟩)
  have k1 : lk_A 1 0 c1 := lk_A_1 h1 hc1
  dsimp only
  refine lk_putR (p := 0) (by omega) hn (h8 n hn) (fun y _ => ?_)
  dsimp only
  refine lk_refK (P := 0) (c := 1) (e := 0) (b := nI x) (t := -4) (K := -4) (W := -4) (C := -4) (d := fun _ => -4) hn (by omega)
    ⟨k1, lk_N_put (fun j hj _ => h3 j hj), pk_us, lk_D_0 h5, lk_R_0 h6, lk_R_0 h7, lk_R_put (lk_R_0 h8), pk_us, pk_us⟩ lk_who0 (Or.inl ⟨rfl, rfl⟩) (fun z => absurd rfl z) (fun c2 c6 c7 _ k => ?_)
  dsimp only
  exact lk_words (m := 1) (by omega) rfl rfl (H _ _ _ _ _ _ _ _ _ _ _ k)
theorem lk_constant {post : Int32 → St2 → Prop} {b v : Int32} (hn : n < 10) (k : lk_K n 0 1 0 b (-4) (-4) (fun _ => -4) a1 a3 a4 a5 a6 a7 a8 a9 a10)
    (H : ∀ r c1 c2 c3 c4 c6 c7, lk_K n 0 1 1 b (-4) (-4) (fun _ => -4) c1 c3 c4 a5 c6 c7 a8 a9 a10 → c2 1 = v → post r (c1, c2, c3, c4, a5, c6, c7, a8, a9, a10)) :
    wpX_constant post (a1, a2, a3, a4, a5, a6, a7, a8, a9, a10) 4 v := by
  obtain ⟨k1, k3, k4, k5, k6, k7, k8, k9, k10⟩ := k
  unfold wpX_constant
  dsimp only
  refine lk_bad (m := 4) (by omega) (br_t rfl ?_)
  unfold wpX_append
  dsimp only
  refine lk_words (m := 4) (x := nI 1) (y := nI 1) (by omega) (k1 5 (by omega)) (k1 4 (by omega)) (br_f (by decide) ⟨pk_in 5 7 (by omega), nm_r (e' := nI 1) (k1 5 (by omega)) (lk_openE (m := 4) (by omega) (by decide) (k1 6 (by omega)) (fun c1 hc1 => ?_))⟩)
  have g1 : lk_A 1 1 c1 := lk_A_4 k1 hc1
  dsimp only
  refine lk_putC (p := 1) (by omega) ?_
  dsimp only
  refine lk_refK (P := 0) (c := 1) (e := 1) (b := b) (t := -4) (K := -4) (W := -4) (C := -4) (d := fun _ => -4) hn (by omega)
    ⟨g1, lk_N_keep k3 (by omega), by rw [pk_un (by omega)]; exact k4, k5, k6, k7, k8, k9, k10⟩ lk_who0 (Or.inl ⟨rfl, rfl⟩) (fun z => absurd rfl z) (fun c2 c6 c7 e2 k => ?_)
  dsimp only
  rw [if_pos rfl] at e2
  exact lk_words (m := 4) (by omega) rfl rfl (H _ _ _ _ _ _ _ k (by rw [e2, pk_us]))
theorem lk_define {post : Int32 → St2 → Prop} {m w q x y P c e : Nat} {t b K C : Int32} {d : Nat → Int32} (hn : n < 10) (hp : P < 48) (hm : m < 6) (k : lk_K n P c e b K C d a1 a3 a4 a5 a6 a7 a8 a9 a10)
    (hx : a1 (m + 1) = nI x) (hy : a1 m = nI y) (hxy : y + w ≤ x) (hx' : x < 100) (hq : q < 6) (hW : lk_who (fun j => if j = m then nI w else d j) 6 (-4) = nI q) (ht : t = a1 q + (if q = m then nI w else d q)) (hk : ¬ t = K) (h0 : 0 ≤ t)
    (H : ∀ r c5 c6 c7, lk_K n P c e b t (nI q) (fun j => if j = m then nI w else d j) a1 a3 a4 c5 c6 c7 a8 a9 a10 → post r (a1, upd a2 P (t + b), a3, a4, c5, c6, c7, a8, a9, a10)) :
    wpX_define post (a1, a2, a3, a4, a5, a6, a7, a8, a9, a10) (nI m) (nI n) (nI w) := by
  obtain ⟨k1, k3, k4, k5, k6, k7, k8, k9, k10⟩ := k
  have fin : ∀ r, wX_define_53 post (nI m) (nI n) (nI w) r a1 a2 a3 a4 a5 a6 a7 a8 a9 a10 := by
    intro r
    unfold wX_define_53
    rw [lk_ix, nI_clamp (show m * 10 + n < 2 ^ 31 by omega)]
    refine ⟨pk_in (m * 10 + n) 60 (by omega), nm_e (lk_refK (P := P) (c := c) (e := e) (b := b) (t := t) (K := K) (W := nI q) (C := C) hn hp ⟨k1, k3, k4, lk_D_put k5 hn, k6, k7, k8, k9, k10⟩ hW (Or.inr ⟨q, hq, rfl, ht⟩) (fun _ => h0) (fun c2 c6 c7 e2 g => ?_))⟩
    rw [if_neg hk] at e2
    subst e2
    exact H r _ _ _ g
  unfold wpX_define
  dsimp only
  refine lk_bad hm (br_t rfl (lk_badName hn (br_t rfl (br_f (nI_pos (by omega)) (lk_words hm hx hy ?_)))))
  rw [pk_sub (by omega), lk_ix]
  exact pk_le w (x - y) (fun _ => ⟨pk_in (m * 10 + n) 60 (by omega), br_c (fun _ => fin 0) (fun _ => fin 1)⟩) (fun z => absurd z (by omega))
end
end
section
/-! ===== insert(1, w, v): w neither 0 nor 1; w = 1; w = 0 ===== -/
section
variable {a1 a2 a3 a4 a5 a6 a7 a8 a9 a10 : Nat → Int32} {n : Nat} {post : Int32 → St2 → Prop} {b v : Int32}
/-- the definitions after define(4, n, 1) -/
def lk_d4 : Nat → Int32 := fun j => if j = 4 then nI 1 else (fun _ => -4) j
theorem lk_who4 : lk_who lk_d4 6 (-4) = nI 4 := by decide
theorem lk_insN {w : Int32} (h1 : lk_A 1 1 a1) (w0 : ¬ w = 0) (w1 : ¬ w = 1) (H : post (-4) (a1, a2, a3, a4, a5, a6, a7, a8, a9, a10)) : wpX_insert post (a1, a2, a3, a4, a5, a6, a7, a8, a9, a10) 1 w v := by
  unfold wpX_insert
  dsimp only
  refine lk_bad (m := 1) (by omega) (br_t rfl (br_c (fun _ => H) (fun hw => lk_words (m := 1) (x := nI 1) (y := nI 0) (by omega) (h1 2 (by omega)) (h1 1 (by omega)) (br_f ?_ H))))
  obtain ⟨j, hj, e⟩ := nI_of hw
  subst e
  have j0 : j ≠ 0 := fun z => w0 (by rw [z]; rfl)
  have j1 : j ≠ 1 := fun z => w1 (by rw [z]; rfl)
  exact nI_ge (a := 1) (by omega) hj
/-- the loop over the definitions of module 1: nothing to shift -/
theorem lk_69 {w : Int32} (h : ∀ s, s < 10 → a5 (1 * 10 + s) < w) (H : ∀ f, wX_insert_69 post 1 w (f + 1) (nI 10) a1 a2 a3 a4 a5 a6 a7 a8 a9 a10) : ∃ f, wX_insert_69 post 1 w f 0 a1 a2 a3 a4 a5 a6 a7 a8 a9 a10 :=
  pk_loop (σ := Unit) (fun f i _ => wX_insert_69 post 1 w f (nI i) a1 a2 a3 a4 a5 a6 a7 a8 a9 a10) (fun _ _ => True) 10 0 () (by omega) trivial
    (fun f _ _ => H f)
    (fun f i _ hi _ hw => pk_le 10 i (fun z => absurd z (by omega)) (fun _ => ⟨pk_in (1 * 10 + i) 60 (by omega) (lk_ix 1 i), br_t (by rw [show (1 : Int32) = nI 1 from rfl, lk_ix, nI_clamp (show 1 * 10 + i < 2 ^ 31 by omega)]; exact h i hi) (nm_r (nI_1 i) (hw () trivial))⟩))
theorem lk_ins1 (hn : n < 10) (k : lk_K n 0 1 1 b 2 (nI 4) lk_d4 a1 a3 a4 a5 a6 a7 a8 a9 a10)
    (H : ∀ c1 c2 c3 c4 c6 c7, lk_K n 0 2 1 b 3 (nI 4) lk_d4 c1 c3 c4 a5 c6 c7 a8 a9 a10 → c2 1 = v → c2 2 = a2 1 → post 2 (c1, c2, c3, c4, a5, c6, c7, a8, a9, a10)) :
    wpX_insert post (a1, a2, a3, a4, a5, a6, a7, a8, a9, a10) 1 1 v := by
  obtain ⟨k1, k3, k4, k5, k6, k7, k8, k9, k10⟩ := k
  unfold wpX_insert
  dsimp only
  refine lk_bad (m := 1) (by omega) (br_t rfl (br_f (by decide) (lk_words (m := 1) (x := nI 1) (y := nI 0) (by omega) (k1 2 (by omega)) (k1 1 (by omega)) (br_t (by decide) (lk_words (m := 1) (x := nI 1) (y := nI 0) (by omega) (k1 2 (by omega)) (k1 1 (by omega)) (br_f (by decide) ⟨pk_in 1 7 (by omega), nm_r (e' := nI 1) ?_ ?_⟩))))))
  · have z : a1 1 + 1 = nI 1 := by rw [k1 1 (by omega)]; decide
    exact z
  unfold wpX_open
  dsimp only
  refine nm_r (e' := nI 1) ?_ ⟨0 + 1 + 1, br_f (by decide) ?_⟩
  · rw [show a1 6 = nI 2 from k1 6 (by omega)]
    decide
  refine lk_moveC (p := 1) (q := 2) (by omega) (by omega) (lk_N_ne k3 (by omega) (by omega)) ?_
  dsimp only
  refine nm_r (e' := nI 0) (by decide) (br_t (by decide) (nm_r (e' := nI 2) (by decide) (lk_33 (by omega) (fun c1 hc1 => ?_))))
  have g1 : lk_A 2 1 c1 := lk_A_1 k1 hc1
  dsimp only
  refine lk_putC (p := 1) (by omega) ?_
  dsimp only
  refine lk_69 (fun s hs => ?_) (fun f => ?_)
  · rw [k5 1 s (by omega) hs, show lk_d4 1 = -4 from rfl]
    by_cases z : s = n
    · rw [if_pos z]; decide
    · rw [if_neg z]; decide
  refine pk_le 10 10 (fun _ => ?_) (fun z => absurd z (by omega))
  refine lk_refK (P := 0) (c := 2) (e := 1) (b := b) (t := 3) (K := 2) (W := nI 4) (C := nI 4) (d := lk_d4) hn (by omega)
    ⟨g1, lk_N_keep (lk_N_keep (lk_N_keep k3 (by omega)) (by omega)) (by omega), by rw [pk_un (by omega), pk_un (by omega)]; exact k4, k5, k6, k7, k8, k9, k10⟩ lk_who4 (Or.inr ⟨4, by omega, rfl, by rw [g1 4 (by omega)]; decide⟩) (fun _ => by decide) (fun c2 c6 c7 e2 k => ?_)
  dsimp only
  rw [if_neg (by decide)] at e2
  refine lk_words (m := 1) (x := nI 2) (y := nI 0) (by omega) (g1 2 (by omega)) (g1 1 (by omega)) (H _ _ _ _ _ _ k ?_ ?_)
  · rw [e2, pk_un (by omega), pk_us]
  · rw [e2, pk_un (by omega), pk_un (by omega), pk_us]
theorem lk_ins0 (hn : n < 10) (k : lk_K n 0 1 1 b 2 (nI 4) lk_d4 a1 a3 a4 a5 a6 a7 a8 a9 a10)
    (H : ∀ c1 c2 c3 c4 c6 c7 c8 c9 c10, lk_K n 1 2 1 b 3 (nI 4) lk_d4 c1 c3 c4 a5 c6 c7 c8 c9 c10 → c2 0 = v → c2 2 = a2 1 → post 2 (c1, c2, c3, c4, a5, c6, c7, c8, c9, c10)) :
    wpX_insert post (a1, a2, a3, a4, a5, a6, a7, a8, a9, a10) 1 0 v := by
  obtain ⟨k1, k3, k4, k5, k6, k7, k8, k9, k10⟩ := k
  unfold wpX_insert
  dsimp only
  refine lk_bad (m := 1) (by omega) (br_t rfl (br_f (by decide) (lk_words (m := 1) (x := nI 1) (y := nI 0) (by omega) (k1 2 (by omega)) (k1 1 (by omega)) (br_t (by decide) (lk_words (m := 1) (x := nI 1) (y := nI 0) (by omega) (k1 2 (by omega)) (k1 1 (by omega)) (br_f (by decide) ⟨pk_in 1 7 (by omega), nm_r (e' := nI 0) ?_ ?_⟩))))))
  · have z : a1 1 + 0 = nI 0 := by rw [k1 1 (by omega)]; decide
    exact z
  unfold wpX_open
  dsimp only
  refine nm_r (e' := nI 1) ?_ ⟨0 + 1 + 1 + 1, br_f (by decide) ?_⟩
  · rw [show a1 6 = nI 2 from k1 6 (by omega)]
    decide
  refine lk_moveC (p := 1) (q := 2) (by omega) (by omega) (lk_N_ne k3 (by omega) (by omega)) ?_
  dsimp only
  have k3' : lk_N n 0 (upd (upd a3 2 (-4)) 1 (-4)) := lk_N_keep (lk_N_keep k3 (by omega)) (by omega)
  refine nm_r (e' := nI 0) (by decide) (br_f (by decide) ?_)
  refine lk_moveR (p := 0) (q := 1) (n := n) (by omega) (by omega) hn (lk_N_at k3' (by omega)) k9 k10 (fun y _ => ?_)
  dsimp only
  refine nm_r (e' := -1) (by decide) (br_t (by decide) (nm_r (e' := nI 2) (by decide) (lk_33 (by omega) (fun c1 hc1 => ?_))))
  have g1 : lk_A 2 1 c1 := lk_A_1 k1 hc1
  dsimp only
  refine lk_putC (p := 0) (by omega) ?_
  dsimp only
  refine lk_69 (fun s hs => ?_) (fun f => ?_)
  · rw [k5 1 s (by omega) hs, show lk_d4 1 = -4 from rfl]
    by_cases z : s = n
    · rw [if_pos z]; decide
    · rw [if_neg z]; decide
  refine pk_le 10 10 (fun _ => ?_) (fun z => absurd z (by omega))
  refine lk_refK (P := 1) (c := 2) (e := 1) (b := b) (t := 3) (K := 2) (W := nI 4) (C := nI 4) (d := lk_d4) hn (by omega)
    ⟨g1, ?_, ?_, k5, k6, k7, lk_R_put (lk_R_put k8), pk_us, pk_us⟩ lk_who4 (Or.inr ⟨4, by omega, rfl, by rw [g1 4 (by omega)]; decide⟩) (fun _ => by decide) (fun c2 c6 c7 e2 k => ?_)
  · intro j hj
    by_cases z : j = 0
    · rw [z, pk_us, if_neg (by omega)]
    · rw [pk_un z, pk_un z]
      by_cases z1 : j = 1
      · rw [z1, pk_us, if_pos rfl]
      · rw [pk_un z1, if_neg z1]
        exact lk_N_ne k3' hj z
  · rw [pk_un (by omega), pk_us, pk_un (by omega)]
    exact k4
  dsimp only
  rw [if_neg (by decide)] at e2
  refine lk_words (m := 1) (x := nI 2) (y := nI 0) (by omega) (g1 2 (by omega)) (g1 1 (by omega)) (H _ _ _ _ _ _ _ _ _ k ?_ ?_)
  · rw [e2, pk_un (by omega), pk_us]
  · rw [e2, pk_un (by omega), pk_un (by omega), pk_un (by omega), pk_un (by omega), pk_us]
end
end
section
/-! ===== value, where, idle, users, digest ===== -/
/-- the inner loop of idle: how many of the first m modules define the name without counting -/
def lk_cnt (e : Nat → Int32) (C : Int32) : Nat → Int32
  | 0 => 0
  | m + 1 => lk_cnt e C m + (if e m < 0 then 0 else if nI m = C then 0 else 1)
theorem lk_cnt_no {C : Int32} : ∀ m, lk_cnt (fun _ => -4) C m = 0
  | 0 => rfl
  | m + 1 => by
    rw [lk_cnt, lk_cnt_no m, if_pos (by decide)]
    rfl
/-- the digest of the first k places -/
def lk_dg (a : Nat → Int32) : Nat → Int32
  | 0 => 0
  | k + 1 => lk_dg a k + (nI k + 1) * a k
section
variable {a1 a2 a3 a4 a5 a6 a7 a8 a9 a10 : Nat → Int32} {n P c e : Nat} {post : Int32 → Prop}
theorem lk_value {p s : Nat} (hs : a1 6 = nI s) (hp : p < s) (hs' : s < 48) (H : post (a2 p)) : wpX_value post (a1, a2, a3, a4, a5, a6, a7, a8, a9, a10) (nI p) := by
  unfold wpX_value
  dsimp only
  rw [nI_clamp (show p < 2 ^ 31 by omega), hs]
  exact br_f (nI_pos (by omega)) (br_t (nI_lt hp (by omega)) ⟨pk_in p 48 (by omega), H⟩)
theorem lk_where (hn : n < 10) (H : post (a6 n)) : wpX_where post (a1, a2, a3, a4, a5, a6, a7, a8, a9, a10) (nI n) := by
  unfold wpX_where
  dsimp only
  rw [nI_clamp (show n < 2 ^ 31 by omega)]
  exact lk_badName hn (br_t rfl ⟨pk_in n 10 hn, H⟩)
theorem lk_idle12 {J : Int32 → Int32 → Prop} {s : Nat} {x C : Int32} {d : Nat → Int32} (hs : s < 10) (h5 : ∀ m, m < 6 → a5 (m * 10 + s) = d m) (h7 : a7 s = C) (H : J (x + lk_cnt d C 6) (nI (s + 1))) : ∃ f, wX_idle_12 post J (nI s) a1 a2 a3 a4 a5 a6 a7 a8 a9 a10 f x 0 := by
  refine pk_loop (fun f i y => wX_idle_12 post J (nI s) a1 a2 a3 a4 a5 a6 a7 a8 a9 a10 f y (nI i)) (fun i y => y = x + lk_cnt d C i) 6 0 x (by omega) (by rw [lk_cnt, Int32.add_zero]) ?_ ?_
  · intro f y h
    subst h
    exact pk_le 6 6 (fun _ => nm_r (nI_1 s) H) (fun z => absurd z (by omega))
  · intro f i y hi h hw
    subst h
    have hw := hw _ rfl
    rw [lk_cnt] at hw
    refine pk_le 6 i (fun z => absurd z (by omega)) (fun _ => ⟨pk_in (i * 10 + s) 60 (by omega) (lk_ix i s), ?_⟩)
    rw [lk_ix, nI_clamp (show i * 10 + s < 2 ^ 31 by omega), h5 i hi, nI_clamp (show s < 2 ^ 31 by omega), h7]
    by_cases z : d i < 0
    · rw [if_pos z, Int32.add_zero] at hw
      exact br_t z (nm_r (nI_1 i) hw)
    · rw [if_neg z] at hw
      refine br_f z ⟨pk_in s 10 hs, ?_⟩
      by_cases g : nI i = C
      · rw [if_pos g, Int32.add_zero] at hw
        exact br_t g (nm_r (nI_1 i) hw)
      · rw [if_neg g, ← Int32.add_assoc] at hw
        exact br_f g (nm_e (nm_r (nI_1 i) hw))
theorem lk_idle {C : Int32} {d : Nat → Int32} (hn : n < 10) (h5 : lk_D n d a5) (h7 : lk_R n C a7) (H : post (lk_cnt d C 6)) : wpX_idle post (a1, a2, a3, a4, a5, a6, a7, a8, a9, a10) := by
  unfold wpX_idle
  dsimp only
  refine pk_loop (fun f i y => wX_idle_4 post a1 a2 a3 a4 a5 a6 a7 a8 a9 a10 f y (nI i)) (fun i y => y = if n < i then lk_cnt d C 6 else 0) 10 0 0 (by omega) (by rw [if_neg (by omega)]) ?_ ?_
  · intro f y h
    rw [if_pos hn] at h
    subst h
    exact pk_le 10 10 (fun _ => H) (fun z => absurd z (by omega))
  · intro f i y hi h hw
    refine pk_le 10 i (fun z => absurd z (by omega)) (fun _ => ?_)
    by_cases g : i = n
    · subst g
      rw [if_neg (Nat.lt_irrefl i)] at h
      refine lk_idle12 (d := d) (C := C) hi (fun m hm => by rw [h5 m i hm hi, if_pos rfl]) (lk_R_at h7 hi) (hw _ ?_)
      rw [if_pos (by omega), h, Int32.zero_add]
    · refine lk_idle12 (d := fun _ => -4) (C := -4) hi (fun m hm => by rw [h5 m i hm hi, if_neg g]) (lk_R_ne h7 hi g) (hw _ ?_)
      rw [lk_cnt_no, Int32.add_zero, h]
      by_cases z : n < i
      · rw [if_pos z, if_pos (by omega)]
      · rw [if_neg z, if_neg (by omega)]
theorem lk_moduleAt (h1 : lk_A c e a1) (hP : P < c) (hc : c + e < 48) (H : post 1) : wpX_moduleAt post (a1, a2, a3, a4, a5, a6, a7, a8, a9, a10) (nI P) := by
  unfold wpX_moduleAt
  dsimp only
  refine pk_loop (fun f i y => wX_moduleAt_4 post (nI P) a1 a2 a3 a4 a5 a6 a7 a8 a9 a10 f y (nI i)) (fun i y => 1 ≤ i ∧ y = if i ≤ 1 then 0 else 1) 6 1 0 (by omega) ⟨Nat.le_refl 1, rfl⟩ ?_ ?_
  · intro f y h
    obtain ⟨_, h⟩ := h
    rw [if_neg (by omega)] at h
    subst h
    exact pk_le 6 6 (fun _ => H) (fun z => absurd z (by omega))
  · intro f i y hi h hw
    obtain ⟨hi1, h⟩ := h
    refine pk_le 6 i (fun z => absurd z (by omega)) (fun _ => ⟨pk_in i 7 (by omega), ?_⟩)
    rw [nI_clamp (show i < 2 ^ 31 by omega), h1 i (by omega)]
    by_cases z : i ≤ 1
    · have z : i = 1 := by omega
      subst z
      exact br_f (nI_nlt (b := 0) (by omega) (by omega)) (nm_r (nI_1 1) (hw _ ⟨by omega, rfl⟩))
    · rw [if_neg z] at h
      subst h
      have hw := hw 1 ⟨by omega, by rw [if_neg (by omega)]⟩
      refine br_t (nI_lt ?_ ?_) (nm_r (nI_1 i) hw)
      · by_cases g : 5 ≤ i
        · rw [if_pos g]; omega
        · rw [if_neg g, if_pos (by omega)]; exact hP
      · by_cases g : 5 ≤ i
        · rw [if_pos g]; omega
        · rw [if_neg g, if_pos (by omega)]; omega
theorem lk_users46no {J : Int32 → Int32 → Prop} {s : Nat} {x y : Int32} (H : J y (nI (s + 1))) : ∃ f, wX_users_46 post J x (nI s) a1 a2 a3 a4 a5 a6 a7 a8 a9 a10 f y (-4) 0 :=
  ⟨0 + 1, br_f (by decide) (br_t (by decide) (nm_r (nI_1 s) H))⟩
theorem lk_users46 {J : Int32 → Int32 → Prop} {s : Nat} {x : Int32} (h1 : lk_A c e a1) (hP : P < c) (hc : c + e < 48) (h9 : a9 P = -4) (H : J 2 (nI (s + 1))) : ∃ f, wX_users_46 post J x (nI s) a1 a2 a3 a4 a5 a6 a7 a8 a9 a10 f 0 (nI P) 0 := by
  refine ⟨0 + 1 + 1, br_f (by decide) (br_f (nI_pos (by omega)) (lk_moduleAt h1 hP hc ?_))⟩
  refine nm_r (e' := 2) (by decide) ⟨pk_in P 48 (by omega), nm_r (e' := -4) ?_ (nm_r (e' := nI 1) (by decide) (br_f (by decide) (br_t (by decide) (nm_r (nI_1 s) H))))⟩
  rw [nI_clamp (show P < 2 ^ 31 by omega)]
  exact h9
theorem lk_users (hn : n < 10) (h1 : lk_A c e a1) (hP : P < c) (hc : c + e < 48) (h7 : lk_R n (nI 1) a7) (h8 : lk_R n (nI P) a8) (h9 : a9 P = -4) (H : post 2) : wpX_users post (a1, a2, a3, a4, a5, a6, a7, a8, a9, a10) 1 := by
  unfold wpX_users
  dsimp only
  refine lk_bad (m := 1) (by omega) (br_t rfl ?_)
  refine pk_loop (fun f i y => wX_users_14 post 1 a1 a2 a3 a4 a5 a6 a7 a8 a9 a10 f y (nI i)) (fun i y => y = if n < i then 2 else 0) 10 0 0 (by omega) (by rw [if_neg (by omega)]) ?_ ?_
  · intro f y h
    rw [if_pos hn] at h
    subst h
    exact pk_le 10 10 (fun _ => H) (fun z => absurd z (by omega))
  · intro f i y hi h hw
    refine pk_le 10 i (fun z => absurd z (by omega)) (fun _ => ⟨pk_in i 10 hi, ?_⟩)
    rw [nI_clamp (show i < 2 ^ 31 by omega)]
    by_cases g : i = n
    · subst g
      rw [if_neg (Nat.lt_irrefl i)] at h
      subst h
      rw [lk_R_at h7 hi, lk_R_at h8 hi]
      exact br_t rfl ⟨pk_in i 10 hi, nm_e (lk_users46 h1 hP hc h9 (hw _ (by rw [if_pos (by omega)])))⟩
    · rw [lk_R_ne h7 hi g]
      refine br_f (by decide) (lk_users46no (hw _ ?_))
      rw [h]
      by_cases z : n < i
      · rw [if_pos z, if_pos (by omega)]
      · rw [if_neg z, if_neg (by omega)]
theorem lk_digest {s : Nat} (hs : a1 6 = nI s) (hs' : s < 48) (H : post (lk_dg a2 s)) : wpX_digest post (a1, a2, a3, a4, a5, a6, a7, a8, a9, a10) := by
  unfold wpX_digest
  dsimp only
  refine pk_loop (fun f i y => wX_digest_4 post a1 a2 a3 a4 a5 a6 a7 a8 a9 a10 f y (nI i)) (fun i y => y = lk_dg a2 i) s 0 0 (by omega) rfl ?_ ?_
  · intro f y h
    subst h
    exact pk_le s s (fun _ => H) (fun z => absurd z (by omega)) hs
  · intro f i y hi h hw
    subst h
    exact pk_le s i (fun z => absurd z (by omega)) (fun _ => ⟨pk_in i 48 (by omega), nm_r (by rw [nI_clamp (show i < 2 ^ 31 by omega)]; rfl) (nm_r (nI_1 i) (hw _ rfl))⟩) hs
end
end
section
/-! ===== the law ===== -/
theorem lk_dg2 (a : Nat → Int32) : lk_dg a 2 = a 0 + 2 * a 1 := by
  show (0 + (nI 0 + 1) * a 0) + (nI 1 + 1) * a 1 = a 0 + 2 * a 1
  rw [show nI 0 + 1 = 1 by decide, show nI 1 + 1 = 2 by decide, Int32.zero_add, Int32.one_mul]
theorem lk_dg3 (a : Nat → Int32) : lk_dg a 3 = a 0 + 2 * a 1 + 3 * a 2 := by
  show lk_dg a 2 + (nI 2 + 1) * a 2 = a 0 + 2 * a 1 + 3 * a 2
  rw [lk_dg2, show nI 2 + 1 = 3 by decide]
theorem lk_who14 : lk_who (fun j => if j = 1 then nI 0 else lk_d4 j) 6 (-4) = nI 1 := by decide
theorem lk_cnt14 : lk_cnt (fun j => if j = 1 then nI 0 else lk_d4 j) (nI 1) 6 = 1 := by decide
theorem lk_t0 {mc ms kc ks : Nat} {v b g : Int32} (h : g = v + 2 * b + 3 * v) : wL_lawOf_124 (fun r _ => r = 1) mc ms 0 v b (2 + b) 2 3 1 2 g kc ks :=
  br_f (by decide) (br_t rfl (br_f (by decide) (br_t rfl (br_f (by decide) (br_t rfl (br_f (by decide) (br_t rfl (br_f (by decide) (br_t rfl (br_t rfl (br_t rfl (br_t h rfl))))))))))))
theorem lk_t1 {mc ms kc ks : Nat} {v b g : Int32} (h : g = b + 2 * v + 3 * v) : wL_lawOf_124 (fun r _ => r = 1) mc ms 1 v b (2 + b) 2 3 1 2 g kc ks :=
  br_f (by decide) (br_f (by decide) (br_f (by decide) (br_f (by decide) (br_f (by decide) (br_t rfl (br_f (by decide) (br_t rfl (br_f (by decide) (br_t rfl (br_t rfl (br_t rfl (br_t h rfl))))))))))))
theorem lk_tN {mc ms kc ks : Nat} {w v b g : Int32} (h : g = b + 2 * v + 3 * 0) : wL_lawOf_129 (fun r _ => r = 1) mc ms w v b (2 + b) (-4) 2 1 2 g 0 kc ks :=
  br_t rfl (br_t rfl (br_t rfl (br_t rfl (br_t rfl (br_t rfl (br_t rfl (br_t rfl (br_t rfl (br_t rfl (br_t h rfl))))))))))
theorem lk_lawOf (p0 p1 w v : Int32) : wpL_lawOf (fun r _ => r = 1) 11 347 () p0 p1 w v := by
  unfold wpL_lawOf
  refine ⟨by decide, by decide, 10, 337, by decide, by decide, lk_init (fun c3 c5 c6 c7 c8 h3 h5 h6 h7 h8 => ?_)⟩
  dsimp only
  obtain ⟨x, hx, ex⟩ := pk_andE p0 (m := 15) 4 (by decide)
  obtain ⟨y, hy, ey⟩ := pk_andE p1 (m := 127) 7 (by decide)
  refine ⟨by decide, nm_r (e' := nI (x % 10)) ?_ ⟨by decide, nm_r (e' := nI (y % 101)) ?_ ?_⟩⟩
  · rw [ex]
    exact pk_rem (d := 10) (by omega) (by omega) (by omega)
  · rw [ey]
    exact pk_rem (d := 101) (by omega) (by omega) (by omega)
  have hn : x % 10 < 10 := Nat.mod_lt _ (by omega)
  have hb : y % 101 ≤ 100 := by omega
  generalize x % 10 = n at hn ⊢
  generalize y % 101 = z at hb ⊢
  refine lk_reference hn hb (fun j hj => ?_) h3 h5 h6 h7 h8 (fun r c1 c2 c3 c4 c5 c6 c7 c8 c9 c10 k => ?_)
  · show (0 : Int32) = nI (if 5 ≤ j then 0 + 0 else if 2 ≤ j then 0 else 0)
    rw [show (if 5 ≤ j then 0 + 0 else if 2 ≤ j then 0 else 0) = 0 by split <;> (try split) <;> rfl]
    rfl
  clear h3 h5 h6 h7 h8
  dsimp only
  refine lk_constant hn k (fun r d1 d2 d3 d4 d6 d7 k e1 => ?_)
  dsimp only
  refine lk_define (m := 4) (w := 1) (q := 4) (x := 2) (y := 1) (t := 2) hn (by omega) (by omega) k (k.1 5 (by omega)) (k.1 4 (by omega)) (by omega) (by omega) (by omega) lk_who4 (by rw [k.1 4 (by omega)]; decide) (by decide) (by decide) (fun r e5 e6 e7 k => ?_)
  dsimp only
  have k : lk_K n 0 1 1 (nI z) 2 (nI 4) lk_d4 d1 d3 d4 e5 e6 e7 c8 c9 c10 := k
  refine lk_value (p := 0) (s := 2) (k.1 6 (by omega)) (by omega) (by omega) ?_
  rw [pk_us]
  have e2 : upd d2 0 (2 + nI z) 0 = 2 + nI z := pk_us
  have e3 : upd d2 0 (2 + nI z) 1 = v := by rw [pk_un (by omega)]; exact e1
  generalize upd d2 0 (2 + nI z) = g2 at e2 e3 ⊢
  by_cases w0 : w = 0
  · subst w0
    refine lk_ins0 hn k (fun f1 f2 f3 f4 f6 f7 f8 f9 f10 k q0 q2 => ?_)
    dsimp only
    refine lk_where hn ?_
    rw [lk_R_at k.2.2.2.2.1 hn]
    refine lk_define (m := 1) (w := 0) (q := 1) (x := 2) (y := 0) (t := 0) hn (by omega) (by omega) k (k.1 2 (by omega)) (k.1 1 (by omega)) (by omega) (by omega) (by omega) lk_who14 (by rw [k.1 1 (by omega)]; decide) (by decide) (by decide) (fun r i5 i6 i7 g => ?_)
    dsimp only
    refine lk_idle hn g.2.2.2.1 g.2.2.2.2.2.1 ?_
    rw [lk_cnt14]
    refine lk_users (P := 1) hn g.1 (by omega) (by omega) g.2.2.2.2.2.1 g.2.2.2.2.2.2.1 g.2.2.2.2.2.2.2.1 ?_
    refine lk_digest (s := 3) (g.1 6 (by omega)) (by omega) (br_t rfl (lk_t0 ?_))
    rw [lk_dg3, pk_us, pk_un (by omega), pk_un (by omega), q0, q2, e3, Int32.zero_add]
  · by_cases w1 : w = 1
    · subst w1
      refine lk_ins1 hn k (fun f1 f2 f3 f4 f6 f7 k q1 q2 => ?_)
      dsimp only
      refine lk_where hn ?_
      rw [lk_R_at k.2.2.2.2.1 hn]
      refine lk_define (m := 1) (w := 0) (q := 1) (x := 2) (y := 0) (t := 0) hn (by omega) (by omega) k (k.1 2 (by omega)) (k.1 1 (by omega)) (by omega) (by omega) (by omega) lk_who14 (by rw [k.1 1 (by omega)]; decide) (by decide) (by decide) (fun r i5 i6 i7 g => ?_)
      dsimp only
      refine lk_idle hn g.2.2.2.1 g.2.2.2.2.2.1 ?_
      rw [lk_cnt14]
      refine lk_users (P := 0) hn g.1 (by omega) (by omega) g.2.2.2.2.2.1 g.2.2.2.2.2.2.1 g.2.2.2.2.2.2.2.1 ?_
      refine lk_digest (s := 3) (g.1 6 (by omega)) (by omega) (br_f (by decide) (br_t rfl (lk_t1 ?_)))
      rw [lk_dg3, pk_us, pk_un (by omega), pk_un (by omega), q1, q2, e3, Int32.zero_add]
    · refine lk_insN k.1 w0 w1 ?_
      dsimp only
      refine lk_where hn ?_
      rw [lk_R_at k.2.2.2.2.1 hn]
      refine lk_define (m := 1) (w := 0) (q := 1) (x := 1) (y := 0) (t := 0) hn (by omega) (by omega) k (k.1 2 (by omega)) (k.1 1 (by omega)) (by omega) (by omega) (by omega) lk_who14 (by rw [k.1 1 (by omega)]; decide) (by decide) (by decide) (fun r i5 i6 i7 g => ?_)
      dsimp only
      refine lk_idle hn g.2.2.2.1 g.2.2.2.2.2.1 ?_
      rw [lk_cnt14]
      refine lk_users (P := 0) hn g.1 (by omega) (by omega) g.2.2.2.2.2.1 g.2.2.2.2.2.2.1 g.2.2.2.2.2.2.2.1 ?_
      refine lk_digest (s := 2) (g.1 6 (by omega)) (by omega) (br_f w0 (br_f w1 (lk_tN ?_)))
      rw [lk_dg2, pk_us, pk_un (by omega), e3, Int32.zero_add, Int32.mul_zero, Int32.add_zero]
theorem lk_cell {post : Int32 → Prop} {L : Nat} {xs : Nat → Int32} {k : Nat} (hL : L ≤ 4) (hk : k < 4) (H : ∀ r, post r) : wpL_cellAt post L xs () (nI k) :=
  pk_le L k (fun _ => H _) (fun z => ⟨pk_in k L z, H _⟩)
theorem i_vc (xs : Nat → Int32) (L : Nat) (hL : L ≤ 4) : wpL_law (fun r => r = 1) L xs :=
  lk_cell (k := 0) hL (by omega) (fun r1 => lk_cell (k := 1) hL (by omega) (fun r2 => lk_cell (k := 2) hL (by omega) (fun r3 => lk_cell (k := 3) hL (by omega) (fun r4 => ⟨11, 347, by decide, by decide, lk_lawOf r1 r2 r3 r4⟩))))
end
