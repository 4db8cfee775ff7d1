section
/-! plain facts of ints and longs, no program in sight -/
def cs_b (q : Nat) : Int32 := (1 : Int32) <<< (nI q &&& 31)
def cs_s (p q : Nat) : Int64 := (1 : Int64) <<< ((nI (p * 8 + q)).toInt64 &&& 63)
theorem cs_row : ∀ p, p < 8 → ∀ q, q < 8 → ∀ i, i < 8 → (((cs_s p q).toUInt64 >>> ((nI i * 8).toInt64.toUInt64 &&& Int64.toUInt64 63)).toInt64).toInt32 &&& 255 = if i = p then cs_b q else 0 := by decide +kernel
theorem cs_bit : ∀ q, q < 8 → ∀ i, i < 8 → ((cs_b q >>> (nI i &&& 31)) &&& 1) = if i = q then 1 else 0 := by decide +kernel
theorem cs_zb : ∀ i, i < 8 → ¬ (((0 : Int32) >>> (nI i &&& 31)) &&& 1) = 1 := by decide +kernel
theorem cs_sh : ∀ k, k < 8 → ∀ q, q < 8 → (cs_b q).toInt64 <<< ((nI k * 8).toInt64 &&& 63) = cs_s k q := by decide +kernel
theorem cs_z64 : ∀ p, p < 8 → (0 : Int32).toInt64 <<< ((nI p * 8).toInt64 &&& 63) = 0 := by decide +kernel
theorem cs_bne : ∀ q, q < 8 → ¬ cs_b q = 0 := by decide +kernel
theorem cs_sne : ∀ p, p < 8 → ∀ q, q < 8 → ¬ cs_s p q = 0 := by decide +kernel
theorem cs_sinj : ∀ p, p < 8 → ∀ q, q < 8 → ∀ k, k < 8 → cs_s p q = cs_s k q → p = k := by decide +kernel
theorem cs_sbit : ∀ t, t < 64 → ∀ i, i < 64 → ((((1 : Int64) <<< ((nI t).toInt64 &&& 63)).toUInt64 >>> ((nI i).toInt64.toUInt64 &&& Int64.toUInt64 63)).toInt64) &&& 1 = if i = t then 1 else 0 := by decide +kernel
theorem cs_zor (x : Int64) : 0 ||| x = x := by
  apply Int64.toBitVec_inj.mp
  rw [Int64.toBitVec_or]
  simp
theorem cs_orz (x : Int64) : x ||| 0 = x := by
  apply Int64.toBitVec_inj.mp
  rw [Int64.toBitVec_or]
  simp
theorem cs_zor32 (x : Int32) : 0 ||| x = x := by
  apply Int32.toBitVec_inj.mp
  rw [Int32.toBitVec_or]
  simp
theorem cs_ix (p x : Nat) : nI p * 3 + nI x = nI (p * 3 + x) := by
  rw [show (3 : Int32) = nI 3 from rfl, pk_mul, nI_add]
theorem cs_ix8 (p x : Nat) : nI p * 8 + nI x = nI (p * 8 + x) := by
  rw [show (8 : Int32) = nI 8 from rfl, pk_mul, nI_add]
theorem cs_i0 {α : Type} {z o : α} {i p : Nat} (h : i ≤ p) : (if i ≤ p then z else o) = z := if_pos h
theorem cs_i1 {α : Type} {z o : α} {i p : Nat} (h : p < i) : (if i ≤ p then z else o) = o := if_neg (by omega)
theorem cs_in {α : Type} {z o : α} {i p : Nat} (h : i ≠ p) : (if i ≤ p then z else o) = if i + 1 ≤ p then z else o := by
  by_cases g : i ≤ p
  · rw [cs_i0 g, cs_i0 (by omega)]
  · rw [cs_i1 (by omega), cs_i1 (by omega)]
/-- the family of the sets without event a: what pre gathers -/
def cs_fm (a : Nat) : Nat → Int32
  | 0 => 0
  | n + 1 => if ((nI n >>> (nI a &&& 31)) &&& 1) = 0 then cs_fm a n ||| ((1 : Int32) <<< (nI n &&& 31)) else cs_fm a n
/-- what joint gathers: one row, all rows -/
def cs_ji (f1 f2 w : Int32) (y : Nat) (x : Int32) : Nat → Int32
  | 0 => x
  | z + 1 => if ((f1 >>> (nI y &&& 31)) &&& 1) = 1 ∧ ((f2 >>> (nI z &&& 31)) &&& 1) = 1 ∧ (nI y &&& w) = (nI z &&& w) then cs_ji f1 f2 w y x z ||| ((1 : Int32) <<< ((nI y ||| nI z) &&& 31)) else cs_ji f1 f2 w y x z
def cs_jo (f1 f2 w : Int32) : Nat → Int32
  | 0 => 0
  | y + 1 => cs_ji f1 f2 w y (cs_jo f1 f2 w y) 8
theorem cs_j0 : cs_jo 255 255 (7 &&& ((7 : Int32) ^^^ (-1))) 8 = 255 := by decide +kernel
theorem cs_j7 : cs_jo 255 255 (7 &&& ((0 : Int32) ^^^ (-1))) 8 = 255 := by decide +kernel
theorem cs_ja : ∀ a, a < 3 → cs_jo (cs_fm a 8) 255 (7 &&& ((0 : Int32) ^^^ (-1))) 8 = cs_fm a 8 := by decide +kernel
theorem cs_f255 : ∀ x, x < 8 → (((255 : Int32) >>> (nI x &&& 31)) &&& 1) = 1 := by decide +kernel
theorem cs_fa : ∀ a, a < 3 → ∀ x, x < 8 → (((cs_fm a 8 >>> (nI x &&& 31)) &&& 1) = 1 ↔ nI x &&& cs_b a = 0) := by decide +kernel
theorem cs_fa7 : ∀ a, a < 3 → ¬ ((cs_fm a 8 >>> ((7 : Int32) &&& 31)) &&& 1) = 1 := by decide +kernel
/-- the refusals of the pair b, for the shared events sh and the names' refusals a3 -/
def cs_fv (sh : Int32) (a3 : Nat → Int32) (b : Nat) : Int32 := cs_jo (a3 (b / 8)) (a3 (b % 8)) (7 &&& (sh ^^^ (-1))) 8
theorem cs_fv_pq (sh : Int32) (a3 : Nat → Int32) {p q : Nat} (hq : q < 8) : cs_fv sh a3 (p * 8 + q) = cs_jo (a3 p) (a3 q) (7 &&& (sh ^^^ (-1))) 8 := by
  unfold cs_fv
  rw [show (p * 8 + q) / 8 = p by omega, show (p * 8 + q) % 8 = q by omega]
end
section
/-! step: from the pair (p, q) -/
section
variable {h l r sh pd lg nd : Int32} {a1 a2 a3 a4 a5 a6 : Nat → Int32} {a7 : Nat → Int64} {a8 : Nat → Int32} {a9 : Nat → Int64} {a10 a11 a12 : Nat → Int32}
theorem cs_grid0 {post : Int64 → Prop} {m : Int32} (hp : post 0) : wpX_grid post (h, l, r, sh, pd, lg, nd, a1, a2, a3, a4, a5, a6, a7, a8, a9, a10, a11, a12) 0 m :=
  pk_loop (σ := Unit) (fun n i _ => wX_grid_5 post 0 m h l r sh pd lg nd a1 a2 a3 a4 a5 a6 a7 a8 a9 a10 a11 a12 n 0 (nI i)) (fun _ _ => True) 8 0 () (by omega) trivial
    (fun n _ _ => pk_le 8 8 (fun _ => hp) (fun z => absurd z (by omega)))
    (fun n i _ hi _ hw => pk_le 8 i (fun z => absurd z (by omega)) (fun _ => br_f (cs_zb i hi) (nm_r (nI_1 i) (hw () trivial))))
theorem cs_grid1 {post : Int64 → Prop} {k q : Nat} (hk : k < 8) (hq : q < 8) (hp : post (cs_s k q)) : wpX_grid post (h, l, r, sh, pd, lg, nd, a1, a2, a3, a4, a5, a6, a7, a8, a9, a10, a11, a12) (cs_b k) (cs_b q) :=
  pk_loop (fun n i (s : Int64) => wX_grid_5 post (cs_b k) (cs_b q) h l r sh pd lg nd a1 a2 a3 a4 a5 a6 a7 a8 a9 a10 a11 a12 n s (nI i)) (fun i s => s = if i ≤ k then 0 else cs_s k q) 8 0 0 (by omega) (cs_i0 (Nat.zero_le k)).symm
    (fun n s e => pk_le 8 8 (fun _ => by rw [e, cs_i1 hk]; exact hp) (fun z => absurd z (by omega)))
    (fun n i s hi e hw => pk_le 8 i (fun z => absurd z (by omega)) (fun _ => by
      by_cases g : i = k
      · refine br_t (by rw [cs_bit k hk i hi, if_pos g]) (nm_e (nm_r (nI_1 i) (hw _ ?_)))
        rw [e, cs_i0 (by omega), cs_i1 (by omega), g, cs_sh k hk q hq, cs_zor]
      · exact br_f (by rw [cs_bit k hk i hi, if_neg g]; decide) (nm_r (nI_1 i) (hw _ (by rw [e, cs_in g])))))
theorem cs_sr {post : Int64 → Prop} {p q x : Nat} {m : Int32} (hp : p < 8) (hq : q < 8) (hx : x < 3) (h4 : a4 (p * 3 + x) = m) (h0 : a4 (q * 3 + x) = 0)
    (H : (((sh >>> (nI x &&& 31)) &&& 1) = 1 → wpX_grid (fun r_6 => post r_6) (h, l, r, sh, pd, lg, nd, a1, a2, a3, a4, a5, a6, a7, a8, a9, a10, a11, a12) m 0) ∧ (¬ ((sh >>> (nI x &&& 31)) &&& 1) = 1 → wpX_grid (fun r_5 => post (r_5 ||| ((0 : Int32).toInt64 <<< ((nI p * 8).toInt64 &&& 63)))) (h, l, r, sh, pd, lg, nd, a1, a2, a3, a4, a5, a6, a7, a8, a9, a10, a11, a12) m (cs_b q))) :
    wpX_stepRow post (h, l, r, sh, pd, lg, nd, a1, a2, a3, a4, a5, a6, a7, a8, a9, a10, a11, a12) (nI p) (cs_b q) (nI x) := by
  unfold wpX_stepRow
  dsimp only
  refine ⟨pk_in (p * 3 + x) 24 (by omega) (cs_ix p x), nm_r (by rw [pk_cl (p * 3 + x) (cs_ix p x), h4]) ?_⟩
  exact pk_loop (σ := Unit) (fun n i _ => wX_stepRow_18 post (nI p) (cs_b q) (nI x) m h l r sh pd lg nd a1 a2 a3 a4 a5 a6 a7 a8 a9 a10 a11 a12 n 0 (nI i)) (fun _ _ => True) 8 0 () (by omega) trivial
    (fun n _ _ => pk_le 8 8 (fun _ => H) (fun z => absurd z (by omega)))
    (fun n i _ hi _ hw => pk_le 8 i (fun z => absurd z (by omega)) (fun _ => by
      by_cases g : i = q
      · refine br_t (by rw [cs_bit q hq i hi, if_pos g]) ⟨pk_in (i * 3 + x) 24 (by omega) (cs_ix i x), nm_r (e' := 0) ?_ (nm_r (nI_1 i) (hw () trivial))⟩
        rw [pk_cl (i * 3 + x) (cs_ix i x), g, h0]
        rfl
      · exact br_f (by rw [cs_bit q hq i hi, if_neg g]; decide) (nm_r (nI_1 i) (hw () trivial))))
theorem cs_stp {post : Int64 → Prop} {p q x : Nat} {o : Int64} (hp : p < 8) (hq : q < 8) (hr : ∀ post' : Int64 → Prop, post' o → wpX_stepRow post' (h, l, r, sh, pd, lg, nd, a1, a2, a3, a4, a5, a6, a7, a8, a9, a10, a11, a12) (nI p) (cs_b q) (nI x)) (H : post o) : wpX_step post (h, l, r, sh, pd, lg, nd, a1, a2, a3, a4, a5, a6, a7, a8, a9, a10, a11, a12) (cs_s p q) (nI x) :=
  pk_loop (fun n i (s : Int64) => wX_step_6 post (cs_s p q) (nI x) h l r sh pd lg nd a1 a2 a3 a4 a5 a6 a7 a8 a9 a10 a11 a12 n s (nI i)) (fun i s => s = if i ≤ p then 0 else o) 8 0 0 (by omega) (cs_i0 (Nat.zero_le p)).symm
    (fun n s e => pk_le 8 8 (fun _ => by rw [e, cs_i1 hp]; exact H) (fun z => absurd z (by omega)))
    (fun n i s hi e hw => pk_le 8 i (fun z => absurd z (by omega)) (fun _ => nm_r (cs_row p hp q hq i hi) (by
      by_cases g : i = p
      · rw [if_pos g]
        subst g
        exact br_f (cs_bne q hq) (hr _ (nm_r (e' := o) (by rw [e, cs_i0 (Nat.le_refl i), cs_zor]) (nm_r (nI_1 i) (hw _ (cs_i1 (by omega)).symm))))
      · rw [if_neg g]
        exact br_t rfl (nm_r (nI_1 i) (hw _ (by rw [e, cs_in g]))))))
end
/-- with the shared events sh and the table a4, event x leads from the set s to the set o -/
def cs_ST (sh : Int32) (a4 : Nat → Int32) (s : Int64) (x : Nat) (o : Int64) : Prop := ∀ (post : Int64 → Prop) (h : Int32) (l : Int32) (r : Int32) (pd : Int32) (lg : Int32) (nd : Int32) (a1 : Nat → Int32) (a2 : Nat → Int32) (a3 : Nat → Int32) (a5 : Nat → Int32) (a6 : Nat → Int32) (a7 : Nat → Int64) (a8 : Nat → Int32) (a9 : Nat → Int64) (a10 : Nat → Int32) (a11 : Nat → Int32) (a12 : Nat → Int32), post o → wpX_step post (h, l, r, sh, pd, lg, nd, a1, a2, a3, a4, a5, a6, a7, a8, a9, a10, a11, a12) s (nI x)
/-- event a leads from s to v, the others lead nowhere -/
def cs_T (sh : Int32) (a4 : Nat → Int32) (s : Int64) (a : Nat) (v : Int64) : Prop := ∀ x, x < 3 → cs_ST sh a4 s x (if x = a then v else 0)
section
variable {h l r sh pd lg nd : Int32} {a1 a2 a3 a4 a5 a6 : Nat → Int32} {a7 : Nat → Int64} {a8 : Nat → Int32} {a9 : Nat → Int64} {a10 a11 a12 : Nat → Int32}
theorem cs_use {post : Int64 → Prop} {s s' o : Int64} {x : Nat} (hs : s' = s) (hT : cs_ST sh a4 s x o) (hp : post o) : wpX_step post (h, l, r, sh, pd, lg, nd, a1, a2, a3, a4, a5, a6, a7, a8, a9, a10, a11, a12) s' (nI x) := by
  rw [hs]
  exact hT post h l r pd lg nd a1 a2 a3 a5 a6 a7 a8 a9 a10 a11 a12 hp
end
theorem cs_st0 {sh : Int32} {a4 : Nat → Int32} {p q x : Nat} (hp : p < 8) (hq : q < 8) (hx : x < 3) (h4 : a4 (p * 3 + x) = 0) (h0 : a4 (q * 3 + x) = 0) : cs_ST sh a4 (cs_s p q) x 0 := by
  intro post h l r pd lg nd a1 a2 a3 a5 a6 a7 a8 a9 a10 a11 a12 H
  refine cs_stp hp hq (fun post' h' => cs_sr hp hq hx h4 h0 (br_c (fun _ => cs_grid0 h') (fun _ => cs_grid0 ?_))) H
  show post' (0 ||| ((0 : Int32).toInt64 <<< ((nI p * 8).toInt64 &&& 63)))
  rw [cs_z64 p hp, cs_zor]
  exact h'
theorem cs_st1 {a4 : Nat → Int32} {p q x k : Nat} (hp : p < 8) (hq : q < 8) (hx : x < 3) (hk : k < 8) (h4 : a4 (p * 3 + x) = cs_b k) (h0 : a4 (q * 3 + x) = 0) : cs_ST 0 a4 (cs_s p q) x (cs_s k q) := by
  intro post h l r pd lg nd a1 a2 a3 a5 a6 a7 a8 a9 a10 a11 a12 H
  refine cs_stp hp hq (fun post' h' => cs_sr hp hq hx h4 h0 (br_f (cs_zb x (by omega)) (cs_grid1 hk hq ?_))) H
  show post' (cs_s k q ||| ((0 : Int32).toInt64 <<< ((nI p * 8).toInt64 &&& 63)))
  rw [cs_z64 p hp, cs_orz]
  exact h'
theorem cs_Tdead {sh : Int32} {a4 : Nat → Int32} {p q a : Nat} (hp : p < 8) (hq : q < 8) (h4 : ∀ i, i < 24 → a4 i = 0) : cs_T sh a4 (cs_s p q) a 0 := by
  intro x hx
  rw [ite_self]
  exact cs_st0 hp hq hx (h4 _ (by omega)) (h4 _ (by omega))
theorem cs_Trun {a4 : Nat → Int32} {j q a k : Nat} (hj : j < 8) (hq : q < 8) (ha : a < 3) (hk : k < 8) (hqj : q ≠ j) (h4 : ∀ i, i < 24 → a4 i = if i = j * 3 + a then cs_b k else 0) : cs_T 0 a4 (cs_s j q) a (cs_s k q) := by
  intro x hx
  have e0 : a4 (q * 3 + x) = 0 := by rw [h4 _ (by omega), if_neg (by omega)]
  by_cases e : x = a
  · rw [if_pos e]
    exact cs_st1 hj hq hx hk (by rw [h4 _ (by omega), if_pos (by omega)]) e0
  · rw [if_neg e]
    exact cs_st0 hj hq hx (by rw [h4 _ (by omega), if_neg (by omega)]) e0
theorem cs_Tend {a4 : Nat → Int32} {j p q a k : Nat} (hp : p < 8) (hq : q < 8) (ha : a < 3) (hpj : p ≠ j) (hqj : q ≠ j) (h4 : ∀ i, i < 24 → a4 i = if i = j * 3 + a then cs_b k else 0) : cs_T 0 a4 (cs_s p q) a 0 := by
  intro x hx
  rw [ite_self]
  exact cs_st0 hp hq hx (by rw [h4 _ (by omega), if_neg (by omega)]) (by rw [h4 _ (by omega), if_neg (by omega)])
end
section
/-! offers, feed, log; joint, pairUp, refusals, refuses -/
section
variable {h l r sh pd lg nd : Int32} {a1 a2 a3 a4 a5 a6 : Nat → Int32} {a7 : Nat → Int64} {a8 : Nat → Int32} {a9 : Nat → Int64} {a10 a11 a12 : Nat → Int32}
theorem cs_off {post : Int32 → Prop} {n a : Nat} {v : Int64} (hn : n < 4) (ha : a < 3) (hT : cs_T sh a4 (a7 n) a v) (H : post (if v = 0 then 0 else cs_b a)) : wpX_offers post (h, l, r, sh, pd, nI n, nd, a1, a2, a3, a4, a5, a6, a7, a8, a9, a10, a11, a12) :=
  pk_eq n 4 (fun z => absurd z (by omega)) (fun _ =>
    pk_loop (fun m i (s : Int32) => wX_offers_14 post h l r sh pd (nI n) nd a1 a2 a3 a4 a5 a6 a7 a8 a9 a10 a11 a12 m s (nI i)) (fun i s => s = if i ≤ a then 0 else (if v = 0 then 0 else cs_b a)) 3 0 0 (by omega) (cs_i0 (Nat.zero_le a)).symm
      (fun m s e => pk_le 3 3 (fun _ => by rw [e, cs_i1 ha]; exact H) (fun z => absurd z (by omega)))
      (fun m i s hi e hw => pk_le 3 i (fun z => absurd z (by omega)) (fun _ => ⟨pk_in n 5 (by omega), cs_use (by rw [nI_clamp (by omega)]) (hT i hi) (by
        by_cases g : i = a
        · rw [if_pos g]
          by_cases z : v = 0
          · exact br_t z (nm_r (nI_1 i) (hw _ (by rw [e, cs_i0 (by omega), cs_i1 (by omega), if_pos z])))
          · exact br_f z (nm_e (nm_r (nI_1 i) (hw _ (by rw [e, cs_i0 (by omega), cs_i1 (by omega), if_neg z, cs_zor32, g]; rfl))))
        · rw [if_neg g]
          exact br_t rfl (nm_r (nI_1 i) (hw _ (by rw [e, cs_in g]))))⟩)))
theorem cs_feed0 {post : Int32 → St2 → Prop} {p4 : Int32} (hp : p4 < 0 ∨ ¬ p4 ≤ 2) (H : post (-1) (h, l, r, sh, pd, lg, nd, a1, a2, a3, a4, a5, a6, a7, a8, a9, a10, a11, a12)) : wpX_feed post (h, l, r, sh, pd, lg, nd, a1, a2, a3, a4, a5, a6, a7, a8, a9, a10, a11, a12) p4 :=
  br_c (fun _ => H) (fun g => br_f (hp.resolve_left g) H)
theorem cs_feed {post : Int32 → St2 → Prop} {x a : Nat} {v : Int64} (hx : x < 3) (hT : cs_T sh a4 (a7 0) a v)
    (H1 : x = a → ¬ v = 0 → post 1 (h, l, r, sh, pd, 1, nd, a1, a2, a3, a4, a5, upd a6 0 (nI x), vp_updL a7 1 v, a8, a9, a10, a11, a12)) (H0 : (x ≠ a ∨ v = 0) → post (-4) (h, l, r, sh, pd, 0, nd, a1, a2, a3, a4, a5, a6, a7, a8, a9, a10, a11, a12)) : wpX_feed post (h, l, r, sh, pd, 0, nd, a1, a2, a3, a4, a5, a6, a7, a8, a9, a10, a11, a12) (nI x) :=
  br_f (nI_pos (by omega)) (pk_le x 2 (fun _ => br_f (by decide) ⟨pk_in 0 5 (by omega), cs_use rfl (hT x hx) (by
    by_cases g : x = a
    · rw [if_pos g]
      by_cases z : v = 0
      · exact br_t z (H0 (Or.inr z))
      · exact br_f z ⟨pk_in 0 4 (by omega), nm_r (e' := upd a6 0 (nI x)) rfl (nm_r (e' := 1) rfl ⟨pk_in 1 5 (by omega), nm_r (e' := vp_updL a7 1 v) rfl (H1 g z)⟩)⟩
    · rw [if_neg g]
      exact br_t rfl (H0 (Or.inl g)))⟩) (fun z => absurd z (by omega)))
theorem cs_log0 {post : Int32 → Prop} (H : post 0) : wpX_log post (h, l, r, sh, pd, 0, nd, a1, a2, a3, a4, a5, a6, a7, a8, a9, a10, a11, a12) := ⟨1, br_t (by decide) H⟩
theorem cs_log1 {post : Int32 → Prop} (H : post (a6 0 + 1)) : wpX_log post (h, l, r, sh, pd, 1, nd, a1, a2, a3, a4, a5, a6, a7, a8, a9, a10, a11, a12) :=
  ⟨2, br_f (by decide) ⟨pk_in 0 4 (by omega), nm_r (e' := a6 0 + 1) (by
    show (0 * 4 + a6 0) + 1 = a6 0 + 1
    rw [show (0 : Int32) * 4 = 0 from rfl, Int32.zero_add]) (nm_r (e' := 1) rfl (br_t (by decide) H))⟩⟩
theorem cs_joint {post : Int32 → Prop} {f1 f2 : Int32} (H : post (cs_jo f1 f2 (7 &&& (sh ^^^ (-1))) 8)) : wpX_joint post (h, l, r, sh, pd, lg, nd, a1, a2, a3, a4, a5, a6, a7, a8, a9, a10, a11, a12) f1 f2 :=
  nm_e (pk_loop (fun n i (s : Int32) => wX_joint_16 post f1 f2 (7 &&& (sh ^^^ (-1))) h l r sh pd lg nd a1 a2 a3 a4 a5 a6 a7 a8 a9 a10 a11 a12 n s (nI i)) (fun i s => s = cs_jo f1 f2 (7 &&& (sh ^^^ (-1))) i) 8 0 0 (by omega) rfl
    (fun n s e => pk_le 8 8 (fun _ => by rw [e]; exact H) (fun z => absurd z (by omega)))
    (fun n i s hi e hw => pk_le 8 i (fun z => absurd z (by omega)) (fun _ =>
      pk_loop (fun m z (t : Int32) => wX_joint_26 post (wX_joint_16 post f1 f2 (7 &&& (sh ^^^ (-1))) h l r sh pd lg nd a1 a2 a3 a4 a5 a6 a7 a8 a9 a10 a11 a12 n) f1 f2 (7 &&& (sh ^^^ (-1))) (nI i) h l r sh pd lg nd a1 a2 a3 a4 a5 a6 a7 a8 a9 a10 a11 a12 m t (nI z)) (fun z t => t = cs_ji f1 f2 (7 &&& (sh ^^^ (-1))) i s z) 8 0 s (by omega) rfl
        (fun m t g => pk_le 8 8 (fun _ => nm_r (nI_1 i) (hw _ (by rw [g, e]; rfl))) (fun z => absurd z (by omega)))
        (fun m z t hz g gw => pk_le 8 z (fun z => absurd z (by omega)) (fun _ => by
          by_cases c1 : ((f1 >>> (nI i &&& 31)) &&& 1) = 1
          · by_cases c2 : ((f2 >>> (nI z &&& 31)) &&& 1) = 1
            · by_cases c3 : (nI i &&& (7 &&& (sh ^^^ (-1)))) = (nI z &&& (7 &&& (sh ^^^ (-1))))
              · exact br_t c1 (br_t c2 (br_f (by decide) (br_t c3 (nm_e (nm_r (nI_1 z) (gw _ (by rw [g]; exact (if_pos ⟨c1, c2, c3⟩).symm)))))))
              · exact br_t c1 (br_t c2 (br_f (by decide) (br_f c3 (nm_r (nI_1 z) (gw _ (by rw [g]; exact (if_neg (fun k => c3 k.2.2)).symm))))))
            · exact br_t c1 (br_f c2 (br_t rfl (nm_r (nI_1 z) (gw _ (by rw [g]; exact (if_neg (fun k => c2 k.2.1)).symm)))))
          · exact br_f c1 (br_t rfl (nm_r (nI_1 z) (gw _ (by rw [g]; exact (if_neg (fun k => c1 k.1)).symm)))))))))
theorem cs_pu {post : St2 → Prop} (hp : pd = 0 ∨ ∀ b, b < 64 → a5 b = cs_fv sh a3 b) (H : ∀ (pd' : Int32) (a5' : Nat → Int32), (∀ b, b < 64 → a5' b = cs_fv sh a3 b) → post (h, l, r, sh, pd', lg, nd, a1, a2, a3, a4, a5', a6, a7, a8, a9, a10, a11, a12)) : wpX_pairUp post (h, l, r, sh, pd, lg, nd, a1, a2, a3, a4, a5, a6, a7, a8, a9, a10, a11, a12) := by
  by_cases e : pd = 0
  · exact br_t e (pk_loop (fun n i (s : Nat → Int32) => wX_pairUp_10 post h l r sh pd lg nd n (nI i) a1 a2 a3 a4 s a6 a7 a8 a9 a10 a11 a12) (fun i s => ∀ b, b < i * 8 → s b = cs_fv sh a3 b) 8 0 a5 (by omega) (fun b hb => absurd hb (by omega))
      (fun n s k => pk_le 8 8 (fun _ => H 1 s (fun b hb => k b (by omega))) (fun z => absurd z (by omega)))
      (fun n i s hi k hw => pk_le 8 i (fun z => absurd z (by omega)) (fun _ =>
        pk_loop (fun m z (t : Nat → Int32) => wX_pairUp_18 post (wX_pairUp_10 post h l r sh pd lg nd n) (nI i) h l r sh pd lg nd m (nI z) a1 a2 a3 a4 t a6 a7 a8 a9 a10 a11 a12) (fun z t => ∀ b, b < i * 8 + z → t b = cs_fv sh a3 b) 8 0 s (by omega) (fun b hb => k b (by omega))
          (fun m t g => pk_le 8 8 (fun _ => nm_r (nI_1 i) (hw t (fun b hb => g b (by omega)))) (fun z => absurd z (by omega)))
          (fun m z t hz g gw => pk_le 8 z (fun z => absurd z (by omega)) (fun _ => ⟨pk_in i 8 hi, pk_in z 8 hz, cs_joint ⟨pk_in (i * 8 + z) 64 (by omega) (cs_ix8 i z), nm_e (nm_r (nI_1 z) (gw _ (by
            intro b hb
            rw [pk_cl (i * 8 + z) (cs_ix8 i z), nI_clamp (show i < 2 ^ 31 by omega), nI_clamp (show z < 2 ^ 31 by omega)]
            by_cases q : b = i * 8 + z
            · rw [q, pk_us, cs_fv_pq sh a3 hz]
            · rw [pk_un q]
              exact g b (by omega))))⟩⟩)))))
  · exact br_f e (H pd a5 (hp.resolve_left e))
theorem cs_rf {post : Int32 → St2 → Prop} {p q : Nat} {s : Int64} (hs : s = cs_s p q) (hp8 : p < 8) (hq8 : q < 8) (hp : pd = 0 ∨ ∀ b, b < 64 → a5 b = cs_fv sh a3 b)
    (H : ∀ (pd' : Int32) (a5' : Nat → Int32), (∀ b, b < 64 → a5' b = cs_fv sh a3 b) → post (cs_fv sh a3 (p * 8 + q)) (h, l, r, sh, pd', lg, nd, a1, a2, a3, a4, a5', a6, a7, a8, a9, a10, a11, a12)) : wpX_refusals post (h, l, r, sh, pd, lg, nd, a1, a2, a3, a4, a5, a6, a7, a8, a9, a10, a11, a12) s := by
  subst hs
  refine cs_pu hp (fun pd' a5' h5 => ?_)
  exact pk_loop (fun n i (s : Int32) => wX_refusals_9 post (cs_s p q) h l r sh pd' lg nd a1 a2 a3 a4 a5' a6 a7 a8 a9 a10 a11 a12 n s (nI i)) (fun i s => s = if i ≤ p * 8 + q then 0 else cs_fv sh a3 (p * 8 + q)) 64 0 0 (by omega) (cs_i0 (Nat.zero_le _)).symm
    (fun n s e => pk_le 64 64 (fun _ => by rw [e, cs_i1 (by omega)]; exact H pd' a5' h5) (fun z => absurd z (by omega)))
    (fun n i s hi e hw => pk_le 64 i (fun z => absurd z (by omega)) (fun _ => by
      by_cases g : i = p * 8 + q
      · exact br_t ((cs_sbit (p * 8 + q) (by omega) i hi).trans (if_pos g)) ⟨pk_in i 64 hi, nm_e (nm_r (nI_1 i) (hw _ (by rw [e, cs_i0 (by omega), cs_i1 (by omega), cs_zor32, nI_clamp (by omega), h5 i hi, g])))⟩
      · exact br_f (fun k => absurd (((cs_sbit (p * 8 + q) (by omega) i hi).trans (if_neg g)).symm.trans k) (by decide)) (nm_r (nI_1 i) (hw _ (by rw [e, cs_in g])))))
theorem cs_rfs {post : Int32 → St2 → Prop} {p q : Nat} {p3 : Int32} (h7 : a7 0 = cs_s p q) (hp8 : p < 8) (hq8 : q < 8) (hp : pd = 0 ∨ ∀ b, b < 64 → a5 b = cs_fv sh a3 b)
    (H : ∀ (pd' : Int32) (a5' : Nat → Int32), (pd' = 0 ∨ ∀ b, b < 64 → a5' b = cs_fv sh a3 b) → post (if p3 < 0 then 0 else if p3 ≤ 7 then (if ((cs_fv sh a3 (p * 8 + q) >>> (p3 &&& 31)) &&& 1) = 1 then 1 else 0) else 0) (h, l, r, sh, pd', 0, nd, a1, a2, a3, a4, a5', a6, a7, a8, a9, a10, a11, a12)) : wpX_refuses post (h, l, r, sh, pd, 0, nd, a1, a2, a3, a4, a5, a6, a7, a8, a9, a10, a11, a12) p3 := by
  refine br_c (fun g => ?_) (fun g => br_c (fun g2 => ⟨pk_in 0 5 (by omega), cs_rf (p := p) (q := q) h7 hp8 hq8 hp (fun pd' a5' h5 => ?_)⟩) (fun g2 => ?_))
  · have t := H pd a5 hp
    rw [if_pos g] at t
    exact t
  · have t := H pd' a5' (Or.inr h5)
    rw [if_neg g, if_pos g2] at t
    refine br_c (fun g3 => ?_) (fun g3 => ?_)
    · rw [if_pos g3] at t
      exact t
    · rw [if_neg g3] at t
      exact t
  · have t := H pd a5 hp
    rw [if_neg g, if_neg g2] at t
    exact t
end
end
section
/-! stepNames, enter, expand, walk -/
section
variable {h l r sh pd lg nd : Int32} {a1 a2 a3 a4 a5 a6 : Nat → Int32} {a7 : Nat → Int64} {a8 : Nat → Int32} {a9 : Nat → Int64} {a10 a11 a12 : Nat → Int32}
theorem cs_sn {post : Int32 → Prop} {x : Nat} {s : Int32} (hs : s = 0) (hp : post 0) : wpX_stepNames post (h, l, r, sh, pd, lg, nd, a1, a2, a3, a4, a5, a6, a7, a8, a9, a10, a11, a12) s (nI x) := by
  subst hs
  exact pk_loop (σ := Unit) (fun n i _ => wX_stepNames_5 post 0 (nI x) h l r sh pd lg nd a1 a2 a3 a4 a5 a6 a7 a8 a9 a10 a11 a12 n 0 (nI i)) (fun _ _ => True) 8 0 () (by omega) trivial
    (fun n _ _ => pk_le 8 8 (fun _ => hp) (fun z => absurd z (by omega)))
    (fun n i _ hi _ hw => pk_le 8 i (fun z => absurd z (by omega)) (fun _ => br_f (cs_zb i hi) (nm_r (nI_1 i) (hw () trivial))))
theorem cs_en_new {post : St2 → Prop} {s : Int64} {w c : Int32} {N f : Nat} (hN : N < 128) (hf : f ≤ N) (hne : ∀ m, f ≤ m → m < N → ¬ a9 m = s)
    (H : post (h, l, r, sh, pd, lg, nI (N + 1), a1, a2, a3, a4, a5, a6, a7, a8, vp_updL a9 N s, upd a10 N 0, upd a11 N w, upd a12 N c)) : wpX_enter post (h, l, r, sh, pd, lg, nI N, a1, a2, a3, a4, a5, a6, a7, a8, a9, a10, a11, a12) s 0 w c (nI f) :=
  pk_loop (σ := Unit) (fun n i _ => wX_enter_4 post s 0 w c h l r sh pd lg (nI N) a1 a2 a3 a4 a5 a6 a7 a8 a9 a10 a11 a12 n (nI i)) (fun i _ => f ≤ i) N f () hf (Nat.le_refl f)
    (fun n _ _ => pk_le N N (fun _ => pk_le 128 N (fun z => absurd z (by omega)) (fun _ =>
      ⟨pk_in N 128 hN, nm_r (e' := vp_updL a9 N s) (by rw [nI_clamp (by omega)]) ⟨pk_in N 128 hN, nm_r (e' := upd a10 N 0) (by rw [nI_clamp (by omega)]) ⟨pk_in N 128 hN, nm_r (e' := upd a11 N w) (by rw [nI_clamp (by omega)]) ⟨pk_in N 128 hN, nm_r (e' := upd a12 N c) (by rw [nI_clamp (by omega)]) (nm_r (nI_1 N) H)⟩⟩⟩⟩)) (fun z => absurd z (by omega)))
    (fun n i _ hi k hw => pk_le N i (fun z => absurd z (by omega)) (fun _ => ⟨pk_in i 128 (by omega), br_f (by rw [nI_clamp (by omega)]; exact hne i k hi) (nm_r (nI_1 i) (hw () (by omega)))⟩))
theorem cs_en_hit {post : St2 → Prop} {s : Int64} {w c : Int32} (h9 : a9 0 = s) (h10 : a10 0 = 0) (H : post (h, l, r, sh, pd, lg, nI 1, a1, a2, a3, a4, a5, a6, a7, a8, a9, a10, a11, upd a12 0 (a12 0 + c))) : wpX_enter post (h, l, r, sh, pd, lg, nI 1, a1, a2, a3, a4, a5, a6, a7, a8, a9, a10, a11, a12) s 0 w c (nI 0) :=
  ⟨1, pk_le 1 0 (fun z => absurd z (by omega)) (fun _ => ⟨pk_in 0 128 (by omega), br_t h9 ⟨pk_in 0 128 (by omega), br_t h10 ⟨pk_in 0 128 (by omega), pk_in 0 128 (by omega), nm_r (e' := upd a12 0 (a12 0 + c)) rfl H⟩⟩⟩)⟩
theorem cs_e3 {post : St2 → Prop} {x1 x2 : Int32} {m : Nat} (H : post (h, l, r, sh, pd, lg, nd, a1, a2, a3, a4, a5, a6, a7, a8, a9, a10, a11, a12)) : wX_expand_2 post x1 x2 (m + 1) (nI 3) h l r sh pd lg nd a1 a2 a3 a4 a5 a6 a7 a8 a9 a10 a11 a12 :=
  pk_le 3 3 (fun _ => H) (fun z => absurd z (by omega))
theorem cs_e0 {post : St2 → Prop} {x2 : Int32} {m n x a : Nat} {v : Int64} (hn : n < 128) (hx : x < 3) (hT : cs_T sh a4 (a9 n) a v) (hz : x ≠ a ∨ v = 0) (H : wX_expand_2 post (nI n) x2 m (nI (x + 1)) h l r sh pd lg nd a1 a2 a3 a4 a5 a6 a7 a8 a9 a10 a11 a12) : wX_expand_2 post (nI n) x2 (m + 1) (nI x) h l r sh pd lg nd a1 a2 a3 a4 a5 a6 a7 a8 a9 a10 a11 a12 :=
  pk_le 3 x (fun z => absurd z (by omega)) (fun _ => ⟨pk_in n 128 hn, cs_use (by rw [nI_clamp (by omega)]) (hT x hx) (br_t (by
    rcases hz with g | g
    · rw [if_neg g]
    · rw [g, ite_self]) (nm_r (nI_1 x) H))⟩)
theorem cs_ex0 {post : St2 → Prop} {x2 : Int32} {n a : Nat} (hn : n < 128) (hT : cs_T sh a4 (a9 n) a 0) (H : post (h, l, r, sh, pd, lg, nd, a1, a2, a3, a4, a5, a6, a7, a8, a9, a10, a11, a12)) : wpX_expand post (h, l, r, sh, pd, lg, nd, a1, a2, a3, a4, a5, a6, a7, a8, a9, a10, a11, a12) (nI n) x2 :=
  ⟨4, cs_e0 (x := 0) hn (by omega) hT (Or.inr rfl) (cs_e0 (x := 1) hn (by omega) hT (Or.inr rfl) (cs_e0 (x := 2) hn (by omega) hT (Or.inr rfl) (cs_e3 H)))⟩
theorem cs_ex1 {post : St2 → Prop} {x2 nd' : Int32} {n a : Nat} {v : Int64} {b9 : Nat → Int64} {b10 b11 b12 : Nat → Int32} (hn : n < 128) (ha : a < 3) (hT : cs_T sh a4 (a9 n) a v) (hv : ¬ v = 0) (h10 : a10 n = 0) (h9 : b9 n = a9 n)
    (hE : ∀ post' : St2 → Prop, post' (h, l, r, sh, pd, lg, nd', a1, a2, a3, a4, a5, a6, a7, a8, b9, b10, b11, b12) → wpX_enter post' (h, l, r, sh, pd, lg, nd, a1, a2, a3, a4, a5, a6, a7, a8, a9, a10, a11, a12) v 0 (((a11 n * 4) + nI a) + 1) (a12 n) x2)
    (H : post (h, l, r, sh, pd, lg, nd', a1, a2, a3, a4, a5, a6, a7, a8, b9, b10, b11, b12)) : wpX_expand post (h, l, r, sh, pd, lg, nd, a1, a2, a3, a4, a5, a6, a7, a8, a9, a10, a11, a12) (nI n) x2 := by
  have hT' : cs_T sh a4 (b9 n) a v := by
    rw [h9]
    exact hT
  have e1 : ∀ m, wX_expand_2 post (nI n) x2 m (nI (a + 1)) h l r sh pd lg nd' a1 a2 a3 a4 a5 a6 a7 a8 b9 b10 b11 b12 → wX_expand_2 post (nI n) x2 (m + 1) (nI a) h l r sh pd lg nd a1 a2 a3 a4 a5 a6 a7 a8 a9 a10 a11 a12 := fun m K =>
    pk_le 3 a (fun z => absurd z (by omega)) (fun _ => ⟨pk_in n 128 hn, cs_use (by rw [nI_clamp (by omega)]) (hT a ha) (by
      rw [if_pos rfl]
      exact br_f hv ⟨pk_in n 128 hn, cs_sn (by rw [nI_clamp (by omega), h10]) ⟨pk_in n 128 hn, pk_in n 128 hn, by
        rw [nI_clamp (by omega)]
        exact hE _ (nm_r (nI_1 a) K)⟩⟩)⟩)
  have c : a = 0 ∨ a = 1 ∨ a = 2 := by omega
  rcases c with g | g | g
  · subst g
    exact ⟨4, e1 3 (cs_e0 (x := 1) hn (by omega) hT' (Or.inl (by decide)) (cs_e0 (x := 2) hn (by omega) hT' (Or.inl (by decide)) (cs_e3 H)))⟩
  · subst g
    exact ⟨4, cs_e0 (x := 0) hn (by omega) hT (Or.inl (by decide)) (e1 2 (cs_e0 (x := 2) hn (by omega) hT' (Or.inl (by decide)) (cs_e3 H)))⟩
  · subst g
    exact ⟨4, cs_e0 (x := 0) hn (by omega) hT (Or.inl (by decide)) (cs_e0 (x := 1) hn (by omega) hT (Or.inl (by decide)) (e1 1 (cs_e3 H)))⟩
end
/-- the word of n times event a -/
def cs_c (a : Nat) : Nat → Int32
  | 0 => 0
  | n + 1 => ((cs_c a n * 4) + nI a) + 1
/-- the first N nodes: the chain s, no names, the words, and (with el) one way each -/
def cs_P (s : Nat → Int64) (a : Nat) (el : Int32) (N : Nat) (b9 : Nat → Int64) (b10 b11 b12 : Nat → Int32) : Prop := ∀ n, n < N → b9 n = s n ∧ b10 n = 0 ∧ b11 n = cs_c a n ∧ (¬ el = 0 → b12 n = 1)
theorem cs_Padd {s : Nat → Int64} {a : Nat} {el : Int32} {i : Nat} {b9 : Nat → Int64} {b10 b11 b12 : Nat → Int32} (P : cs_P s a el (i + 1) b9 b10 b11 b12) :
    cs_P s a el (i + 2) (vp_updL b9 (i + 1) (s (i + 1))) (upd b10 (i + 1) 0) (upd b11 (i + 1) (((b11 i * 4) + nI a) + 1)) (upd b12 (i + 1) (b12 i)) := by
  intro n hn
  by_cases e : n = i + 1
  · subst e
    rw [pk_uLs, pk_us, pk_us, pk_us]
    have q := P i (by omega)
    exact ⟨rfl, rfl, by rw [q.2.2.1]; rfl, q.2.2.2⟩
  · rw [pk_uLn e, pk_un e, pk_un e, pk_un e]
    exact P n (by omega)
theorem cs_Phit {s : Nat → Int64} {a : Nat} {el : Int32} {N k : Nat} {x : Int32} {b9 : Nat → Int64} {b10 b11 b12 : Nat → Int32} (P : cs_P s a el N b9 b10 b11 b12) (he : el = 0) : cs_P s a el N b9 b10 b11 (upd b12 k x) :=
  fun n hn => ⟨(P n hn).1, (P n hn).2.1, (P n hn).2.2.1, fun z => absurd he z⟩
/-- the system's chain of M sets under event a; the last one leads nowhere or, where each state is kept once in all, to the first -/
def cs_C (sh : Int32) (a4 : Nat → Int32) (s : Nat → Int64) (a M : Nat) (el : Int32) : Prop :=
  (∀ n, n + 1 < M → cs_T sh a4 (s n) a (s (n + 1)) ∧ (¬ s (n + 1) = 0) ∧ (el = 0 → ∀ m, m ≤ n → ¬ s m = s (n + 1))) ∧
  (M < 5 → cs_T sh a4 (s (M - 1)) a 0 ∨ (el = 0 ∧ M = 1 ∧ cs_T sh a4 (s 0) a (s 0) ∧ ¬ s 0 = 0))
section
variable {h l r sh pd lg nd : Int32} {a1 a2 a3 a4 a5 a6 : Nat → Int32} {a7 : Nat → Int64} {a8 : Nat → Int32} {a9 : Nat → Int64} {a10 a11 a12 : Nat → Int32}
theorem cs_node {post : St2 → Prop} {M i f a : Nat} {el : Int32} {s : Nat → Int64} (hi : i < M) (hi4 : i < 4) (ha : a < 3) (hC : cs_C sh a4 s a M el) (hf : el = 0 → f = 0) (hf' : ¬ el = 0 → f = i + 1)
    (P : cs_P s a el (i + 1) a9 a10 a11 a12) (H : ∀ b9 b10 b11 b12, cs_P s a el (min (i + 2) M) b9 b10 b11 b12 → post (h, l, r, sh, pd, lg, nI (min (i + 2) M), a1, a2, a3, a4, a5, a6, a7, a8, b9, b10, b11, b12)) :
    wpX_expand post (h, l, r, sh, pd, lg, nI (i + 1), a1, a2, a3, a4, a5, a6, a7, a8, a9, a10, a11, a12) (nI i) (nI f) := by
  have q := P i (by omega)
  by_cases g : i + 1 < M
  · have t := hC.1 i g
    have hm : min (i + 2) M = i + 2 := by omega
    rw [hm] at H
    have hfl : f ≤ i + 1 := by
      by_cases z : el = 0
      · rw [hf z]
        omega
      · rw [hf' z]
        omega
    have hne : ∀ m, f ≤ m → m < i + 1 → ¬ a9 m = s (i + 1) := by
      intro m h1 h2
      rw [(P m h2).1]
      by_cases z : el = 0
      · exact t.2.2 z m (by omega)
      · rw [hf' z] at h1
        omega
    refine cs_ex1 (v := s (i + 1)) (by omega) ha (by rw [q.1]; exact t.1) t.2.1 q.2.1 (pk_uLn (by omega)) (fun post' h' => cs_en_new (N := i + 1) (by omega) hfl hne h') (H _ _ _ _ (cs_Padd P))
  · have hM : M = i + 1 := by omega
    have hm : min (i + 2) M = i + 1 := by omega
    rw [hm] at H
    rcases hC.2 (by omega) with z | ⟨z1, z2, z3, z4⟩
    · rw [show M - 1 = i by omega] at z
      exact cs_ex0 (by omega) (by rw [q.1]; exact z) (H _ _ _ _ P)
    · have i0 : i = 0 := by omega
      subst i0
      have f0 := hf z1
      subst f0
      exact cs_ex1 (v := s 0) (by omega) ha (by rw [q.1]; exact z3) z4 q.2.1 rfl (fun post' h' => cs_en_hit q.1 q.2.1 h') (H _ _ _ _ (cs_Phit P z1))
theorem cs_walk {post : St2 → Prop} {l r M a : Nat} {el : Int32} {s : Nat → Int64} (hM : 1 ≤ M) (hM5 : M ≤ 5) (ha : a < 3) (hs0 : s 0 = cs_s l r) (hC : cs_C sh a4 s a M el)
    (H : ∀ b8 b9 b10 b11 b12, b8 4 = nI (min 4 M) → b8 5 = nI M → cs_P s a el M b9 b10 b11 b12 → post (h, nI l, nI r, sh, pd, lg, nI M, a1, a2, a3, a4, a5, a6, a7, b8, b9, b10, b11, b12)) :
    wpX_walk post (h, nI l, nI r, sh, pd, lg, nd, a1, a2, a3, a4, a5, a6, a7, a8, a9, a10, a11, a12) 0 el := by
  refine nm_r (e' := vp_updL a9 0 (cs_s l r)) (by rw [cs_ix8 l r]; rfl) (nm_e (nm_e (nm_e (nm_e ?_))))
  refine pk_loop (σ := Int32 × (Nat → Int32) × (Nat → Int64) × (Nat → Int32) × (Nat → Int32) × (Nat → Int32)) (fun n i u => wX_walk_55 post el n (nI i) h (nI l) (nI r) sh pd lg u.1 a1 a2 a3 a4 a5 a6 a7 u.2.1 u.2.2.1 u.2.2.2.1 u.2.2.2.2.1 u.2.2.2.2.2)
    (fun i u => u.1 = nI (min (i + 1) M) ∧ u.2.1 i = nI (min i M) ∧ cs_P s a el (min (i + 1) M) u.2.2.1 u.2.2.2.1 u.2.2.2.2.1 u.2.2.2.2.2) 4 0
    (1, upd a8 0 0, vp_updL a9 0 (cs_s l r), upd a10 0 0, upd a11 0 0, upd a12 0 1) (by omega) ?_ ?_ ?_
  · refine ⟨?_, ?_, ?_⟩
    · show (1 : Int32) = nI (min (0 + 1) M)
      rw [show min (0 + 1) M = 1 by omega]
      rfl
    · show upd a8 0 0 0 = nI (min 0 M)
      rw [pk_us, show min 0 M = 0 by omega]
      rfl
    · intro n hn
      have n0 : n = 0 := by omega
      subst n0
      exact ⟨hs0.symm, rfl, rfl, fun _ => rfl⟩
  · rintro n ⟨k, b8, b9, b10, b11, b12⟩ ⟨h1, h2, h3⟩
    dsimp only at h1 h2 h3
    subst h1
    rw [show min (4 + 1) M = M by omega] at h3 ⊢
    refine pk_le 4 4 (fun _ => nm_e (H _ _ _ _ _ ?_ ?_ h3)) (fun z => absurd z (by omega))
    · rw [pk_un (by decide)]
      exact h2
    · exact pk_us
  · rintro n i ⟨k, b8, b9, b10, b11, b12⟩ hi ⟨h1, h2, h3⟩ hw
    dsimp only at h1 h2 h3
    subst h1
    refine pk_le 4 i (fun z => absurd z (by omega)) (fun _ => ⟨pk_in (i + 1) 7 (by omega) (nI_1 i), nm_r (e' := upd b8 (i + 1) (nI (min (i + 1) M))) (by rw [nI_1, nI_clamp (by omega)]) ⟨pk_in i 7 (by omega), nm_r (e' := nI (min i M)) (by rw [nI_clamp (by omega), pk_un (by omega)]; exact h2) ?_⟩⟩)
    by_cases g : i < M
    · have m1 : min i M = i := by omega
      have m2 : min (i + 1) M = i + 1 := by omega
      rw [m1]
      rw [m2] at h3 ⊢
      have nx : ∀ f, (el = 0 → f = 0) → (¬ el = 0 → f = i + 1) → wX_walk_104 post (wX_walk_55 post el n) (wX_walk_84 post (wX_walk_55 post el n) el (nI i) (nI (i + 1)) 1) el (nI i) (nI (i + 1)) (nI i) (nI f) (nI i) h (nI l) (nI r) sh pd lg (nI (i + 1)) a1 a2 a3 a4 a5 a6 a7 (upd b8 (i + 1) (nI (i + 1))) b9 b10 b11 b12 := by
        intro f f0 f1
        refine cs_node g hi ha hC f0 f1 h3 (fun c9 c10 c11 c12 P' => nm_r (nI_1 i) (pk_le (i + 1) (i + 1) (fun _ => nm_r (nI_1 i) ?_) (fun z => absurd z (by omega))))
        refine hw (nI (min (i + 2) M), upd b8 (i + 1) (nI (i + 1)), c9, c10, c11, c12) ⟨rfl, ?_, P'⟩
        show upd b8 (i + 1) (nI (i + 1)) (i + 1) = nI (min (i + 1) M)
        rw [pk_us, m2]
      exact ⟨2, pk_le (i + 1) i (fun z => absurd z (by omega)) (fun _ => br_c (fun e => nx 0 (fun _ => rfl) (fun z => absurd e z)) (fun e => nx (i + 1) (fun z => absurd z e) (fun _ => rfl)))⟩
    · have m1 : min i M = M := by omega
      have m2 : min (i + 1) M = M := by omega
      rw [m1]
      rw [m2] at h3 ⊢
      refine ⟨1, pk_le M M (fun _ => nm_r (nI_1 i) ?_) (fun z => absurd z (by omega))⟩
      refine hw (nI M, upd b8 (i + 1) (nI M), b9, b10, b11, b12) ⟨?_, ?_, ?_⟩
      · show nI M = nI (min (i + 1 + 1) M)
        rw [show min (i + 1 + 1) M = M by omega]
      · show upd b8 (i + 1) (nI M) (i + 1) = nI (min (i + 1) M)
        rw [pk_us, m2]
      · show cs_P s a el (min (i + 1 + 1) M) b9 b10 b11 b12
        rw [show min (i + 1 + 1) M = M by omega]
        exact h3
end
end
section
/-! deadlock and traces(4) -/
section
variable {h l r sh pd lg nd : Int32} {a1 a2 a3 a4 a5 a6 : Nat → Int32} {a7 : Nat → Int64} {a8 : Nat → Int32} {a9 : Nat → Int64} {a10 a11 a12 : Nat → Int32}
theorem cs_d1 {post : Int32 → St2 → Prop} {m n N p q : Nat} (hn : n < N) (hN : N ≤ 128) (h9 : a9 n = cs_s p q) (hp8 : p < 8) (hq8 : q < 8) (hp : pd = 0 ∨ ∀ b, b < 64 → a5 b = cs_fv sh a3 b)
    (hb : ((cs_fv sh a3 (p * 8 + q) >>> ((7 : Int32) &&& 31)) &&& 1) = 1) (H : ∀ (pd' : Int32) (a5' : Nat → Int32), (∀ b, b < 64 → a5' b = cs_fv sh a3 b) → post (a11 n) (h, l, r, sh, pd', lg, nI N, a1, a2, a3, a4, a5', a6, a7, a8, a9, a10, a11, a12)) :
    wX_deadlock_8 post (m + 1) (nI n) h l r sh pd lg (nI N) a1 a2 a3 a4 a5 a6 a7 a8 a9 a10 a11 a12 :=
  pk_le N n (fun z => absurd z (by omega)) (fun _ => ⟨pk_in n 128 (by omega), cs_rf (p := p) (q := q) (by rw [nI_clamp (by omega)]; exact h9) hp8 hq8 hp (fun pd' a5' h5 => br_t hb ⟨pk_in n 128 (by omega), by
    rw [nI_clamp (by omega)]
    exact H pd' a5' h5⟩)⟩)
theorem cs_d0 {post : Int32 → St2 → Prop} {m n N p q : Nat} (hn : n < N) (hN : N ≤ 128) (h9 : a9 n = cs_s p q) (hp8 : p < 8) (hq8 : q < 8) (hp : pd = 0 ∨ ∀ b, b < 64 → a5 b = cs_fv sh a3 b)
    (hb : ¬ ((cs_fv sh a3 (p * 8 + q) >>> ((7 : Int32) &&& 31)) &&& 1) = 1) (H : ∀ (pd' : Int32) (a5' : Nat → Int32), (∀ b, b < 64 → a5' b = cs_fv sh a3 b) → wX_deadlock_8 post m (nI (n + 1)) h l r sh pd' lg (nI N) a1 a2 a3 a4 a5' a6 a7 a8 a9 a10 a11 a12) :
    wX_deadlock_8 post (m + 1) (nI n) h l r sh pd lg (nI N) a1 a2 a3 a4 a5 a6 a7 a8 a9 a10 a11 a12 :=
  pk_le N n (fun z => absurd z (by omega)) (fun _ => ⟨pk_in n 128 (by omega), cs_rf (p := p) (q := q) (by rw [nI_clamp (by omega)]; exact h9) hp8 hq8 hp (fun pd' a5' h5 => br_f hb (nm_r (nI_1 n) (H pd' a5' h5)))⟩)
theorem cs_dx {post : Int32 → St2 → Prop} {m N : Nat} (hN : N ≤ 128) (H : post (-4) (h, l, r, sh, pd, lg, nI N, a1, a2, a3, a4, a5, a6, a7, a8, a9, a10, a11, a12)) : wX_deadlock_8 post (m + 1) (nI N) h l r sh pd lg (nI N) a1 a2 a3 a4 a5 a6 a7 a8 a9 a10 a11 a12 :=
  pk_le N N (fun _ => H) (fun z => absurd z (by omega))
/-- nowhere to go from the first pair, and it may refuse all -/
theorem cs_dlA {post : Int32 → St2 → Prop} {l r : Nat} (hl : l < 8) (hr : r < 8) (hT : cs_T sh a4 (cs_s l r) 0 0) (hf : cs_fv sh a3 (l * 8 + r) = 255) (hp : pd = 0 ∨ ∀ b, b < 64 → a5 b = cs_fv sh a3 b)
    (H : ∀ (pd' nd' : Int32) (a5' b8 : Nat → Int32) (b9 : Nat → Int64) (b10 b11 b12 : Nat → Int32), (pd' = 0 ∨ ∀ b, b < 64 → a5' b = cs_fv sh a3 b) → post 0 (h, nI l, nI r, sh, pd', lg, nd', a1, a2, a3, a4, a5', a6, a7, b8, b9, b10, b11, b12)) :
    wpX_deadlock post (h, nI l, nI r, sh, pd, lg, nd, a1, a2, a3, a4, a5, a6, a7, a8, a9, a10, a11, a12) := by
  refine cs_walk (nd := nd) (M := 1) (a := 0) (s := fun _ => cs_s l r) (by omega) (by omega) (by omega) rfl ⟨fun n z => absurd z (by omega), fun _ => Or.inl hT⟩ (fun b8 b9 b10 b11 b12 _ _ P => ?_)
  have q := P 0 (by omega)
  refine ⟨1, cs_d1 (n := 0) (N := 1) (by omega) (by omega) q.1 hl hr hp (by rw [hf]; decide) (fun pd' a5' h5 => ?_)⟩
  rw [q.2.2.1]
  exact H _ _ _ _ _ _ _ _ (Or.inr h5)
/-- back to the first pair for ever -/
theorem cs_dlB {post : Int32 → St2 → Prop} {l r a : Nat} (hl : l < 8) (hr : r < 8) (ha : a < 3) (hT : cs_T sh a4 (cs_s l r) a (cs_s l r)) (hf : cs_fv sh a3 (l * 8 + r) = cs_fm a 8) (hp : pd = 0 ∨ ∀ b, b < 64 → a5 b = cs_fv sh a3 b)
    (H : ∀ (pd' nd' : Int32) (a5' b8 : Nat → Int32) (b9 : Nat → Int64) (b10 b11 b12 : Nat → Int32), (pd' = 0 ∨ ∀ b, b < 64 → a5' b = cs_fv sh a3 b) → post (-4) (h, nI l, nI r, sh, pd', lg, nd', a1, a2, a3, a4, a5', a6, a7, b8, b9, b10, b11, b12)) :
    wpX_deadlock post (h, nI l, nI r, sh, pd, lg, nd, a1, a2, a3, a4, a5, a6, a7, a8, a9, a10, a11, a12) := by
  refine cs_walk (nd := nd) (M := 1) (a := a) (s := fun _ => cs_s l r) (by omega) (by omega) ha rfl ⟨fun n z => absurd z (by omega), fun _ => Or.inr ⟨rfl, rfl, hT, cs_sne l hl r hr⟩⟩ (fun b8 b9 b10 b11 b12 _ _ P => ?_)
  have q := P 0 (by omega)
  exact ⟨2, cs_d0 (n := 0) (N := 1) (by omega) (by omega) q.1 hl hr hp (by rw [hf]; exact cs_fa7 a ha) (fun pd' a5' h5 => cs_dx (N := 1) (by omega) (H _ _ _ _ _ _ _ _ (Or.inr h5)))⟩
def cs_two (l r k : Nat) (n : Nat) : Int64 := if n = 0 then cs_s l r else cs_s k r
theorem cs_Ctwo {l r k a : Nat} {el : Int32} (hl : l < 8) (hr : r < 8) (hk : k < 8) (hkl : k ≠ l) (hT : cs_T sh a4 (cs_s l r) a (cs_s k r)) (hT1 : cs_T sh a4 (cs_s k r) a 0) : cs_C sh a4 (cs_two l r k) a 2 el := by
  refine ⟨fun n z => ?_, fun _ => Or.inl hT1⟩
  have n0 : n = 0 := by omega
  subst n0
  refine ⟨hT, cs_sne k hk r hr, fun _ m hm => ?_⟩
  have m0 : m = 0 := by omega
  subst m0
  exact fun z => hkl (cs_sinj l hl r hr k hk z).symm
/-- one step, then nowhere -/
theorem cs_dlC {post : Int32 → St2 → Prop} {l r a k : Nat} (hl : l < 8) (hr : r < 8) (ha : a < 3) (hk : k < 8) (hkl : k ≠ l) (hT : cs_T sh a4 (cs_s l r) a (cs_s k r)) (hT1 : cs_T sh a4 (cs_s k r) a 0) (hf : cs_fv sh a3 (l * 8 + r) = cs_fm a 8) (hf1 : cs_fv sh a3 (k * 8 + r) = 255) (hp : pd = 0 ∨ ∀ b, b < 64 → a5 b = cs_fv sh a3 b)
    (H : ∀ (pd' nd' : Int32) (a5' b8 : Nat → Int32) (b9 : Nat → Int64) (b10 b11 b12 : Nat → Int32), (pd' = 0 ∨ ∀ b, b < 64 → a5' b = cs_fv sh a3 b) → post (nI a + 1) (h, nI l, nI r, sh, pd', lg, nd', a1, a2, a3, a4, a5', a6, a7, b8, b9, b10, b11, b12)) :
    wpX_deadlock post (h, nI l, nI r, sh, pd, lg, nd, a1, a2, a3, a4, a5, a6, a7, a8, a9, a10, a11, a12) := by
  refine cs_walk (nd := nd) (M := 2) (a := a) (s := cs_two l r k) (by omega) (by omega) ha rfl (cs_Ctwo hl hr hk hkl hT hT1) (fun b8 b9 b10 b11 b12 _ _ P => ?_)
  have q := P 0 (by omega)
  have q1 := P 1 (by omega)
  refine ⟨2, cs_d0 (n := 0) (N := 2) (by omega) (by omega) q.1 hl hr hp (by rw [hf]; exact cs_fa7 a ha) (fun pd' a5' h5 => cs_d1 (n := 1) (N := 2) (by omega) (by omega) q1.1 hk hr (Or.inr h5) (by rw [hf1]; decide) (fun pd2 a52 h52 => ?_))⟩
  rw [q1.2.2.1, show cs_c a 1 = nI a + 1 from (by
    show ((0 * 4) + nI a) + 1 = nI a + 1
    rw [show (0 : Int32) * 4 = 0 from rfl, Int32.zero_add])]
  exact H _ _ _ _ _ _ _ _ (Or.inr h52)
theorem cs_tr0 {post : Int32 → St2 → Prop} {l r a M : Nat} {s : Nat → Int64} (hM : 1 ≤ M) (hM4 : M ≤ 4) (ha : a < 3) (hs0 : s 0 = cs_s l r) (hC : cs_C sh a4 s a M 1)
    (H : ∀ (nd' : Int32) (b8 : Nat → Int32) (b9 : Nat → Int64) (b10 b11 b12 : Nat → Int32), post 0 (h, nI l, nI r, sh, pd, lg, nd', a1, a2, a3, a4, a5, a6, a7, b8, b9, b10, b11, b12)) : wpX_traces post (h, nI l, nI r, sh, pd, lg, nd, a1, a2, a3, a4, a5, a6, a7, a8, a9, a10, a11, a12) 4 := by
  refine br_f (by decide) (br_t (by decide) (cs_walk hM (by omega) ha hs0 hC (fun b8 b9 b10 b11 b12 e4 e5 P => ⟨pk_in 4 7 (by omega), nm_r (e' := nI M) ?_ ⟨1, pk_in 5 7 (by omega), pk_le M M (fun _ => H _ _ _ _ _ _) (fun z => absurd z (by omega)) e5⟩⟩)))
  rw [show min 4 M = M by omega] at e4
  exact e4
theorem cs_tr1 {post : Int32 → St2 → Prop} {l r a : Nat} (hl : l < 8) (hr : r < 8) (ha : a < 3) (hT : cs_T sh a4 (cs_s l r) a (cs_s l r))
    (H : ∀ (nd' : Int32) (b8 : Nat → Int32) (b9 : Nat → Int64) (b10 b11 b12 : Nat → Int32), post 1 (h, nI l, nI r, sh, pd, lg, nd', a1, a2, a3, a4, a5, a6, a7, b8, b9, b10, b11, b12)) : wpX_traces post (h, nI l, nI r, sh, pd, lg, nd, a1, a2, a3, a4, a5, a6, a7, a8, a9, a10, a11, a12) 4 := by
  refine br_f (by decide) (br_t (by decide) (cs_walk (M := 5) (s := fun _ => cs_s l r) (by omega) (by omega) ha rfl ⟨fun n _ => ⟨hT, cs_sne l hl r hr, fun z => absurd z (by decide)⟩, fun z => absurd z (by omega)⟩ (fun b8 b9 b10 b11 b12 e4 e5 P => ⟨pk_in 4 7 (by omega), nm_r (e' := nI 4) e4 ⟨2, pk_in 5 7 (by omega), pk_le 5 4 (fun z => absurd z (by omega)) (fun _ => ⟨pk_in 4 128 (by omega), nm_r (e' := 1) ?_ (nm_r (e' := nI 5) rfl ⟨pk_in 5 7 (by omega), pk_le 5 5 (fun _ => H _ _ _ _ _ _) (fun z => absurd z (by omega)) e5⟩)⟩) e5⟩⟩)))
  rw [nI_clamp (by omega), (P 4 (by omega)).2.2.2 (by decide)]
  rfl
end
end
section
/-! the making, pre, define, system -/
abbrev cs_ok (p0 p1 : Int32) : Prop := ¬ p0 < 0 ∧ ¬ 2 < p0 ∧ ¬ p1 < 0 ∧ ¬ 7 < p1
abbrev cs_nm (p2 : Int32) : Prop := ¬ p2 < 0 ∧ ¬ 7 < p2
theorem cs_nat {x M : Int32} {n : Nat} (hM : M.toInt = n) (h0 : ¬ x < 0) (h1 : ¬ M < x) : ∃ j : Nat, j ≤ n ∧ x = nI j :=
  nI_of2 hM h0 (Int32.not_lt.mp h1)
theorem cs_cz {i : Nat} (h : i < 3) : ((0 : Int32) * 3 + nI i).toNatClampNeg = i := by
  have e := pk_cl (0 * 3 + i) (cs_ix 0 i)
  rw [show 0 * 3 + i = i by omega] at e
  exact e
theorem cs_init {post : St2 → Prop} (H : ∀ a3 : Nat → Int32, (∀ i, i < 8 → a3 i = 255) → post (0, 0, 0, 7, 0, 0, 0, (fun _ => 0), (fun _ => 0), a3, (fun _ => 0), (fun _ => 0), (fun _ => 0), vp_updL (fun _ => 0) 0 1, (fun _ => 0), (fun _ => 0), (fun _ => 0), (fun _ => 0), (fun _ => 0))) :
    wpX_init post 12 648 (0, 0, 0, 0, 0, 0, 0) := by
  refine ⟨by decide, by decide, by decide, by decide, by decide, by decide, by decide, by decide, by decide, by decide, by decide, by decide, by decide, by decide, by decide, by decide, by decide, by decide, by decide, by decide, by decide, by decide, by decide, by decide, ?_⟩
  exact pk_loop (fun n i (s : Nat → Int32) => wX_init_104 post 12 648 12 648 0 0 0 0 0 0 0 n (nI i) (fun _ => 0) (fun _ => 0) s (fun _ => 0) (fun _ => 0) (fun _ => 0) (fun _ => 0) (fun _ => 0) (fun _ => 0) (fun _ => 0) (fun _ => 0) (fun _ => 0)) (fun i s => ∀ j, j < i → s j = 255) 8 0 (fun _ => 0) (by omega) (fun j hj => absurd hj (by omega))
    (fun n s e => pk_le 8 8 (fun _ => nm_e (H s e)) (fun z => absurd z (by omega)))
    (fun n i s hi e hw => pk_le 8 i (fun z => absurd z (by omega)) (fun _ => ⟨pk_in i 8 hi, nm_r (e' := upd s i 255) (by rw [nI_clamp (by omega)]) (nm_r (nI_1 i) (hw _ (by
      intro j hj
      by_cases g : j = i
      · rw [g, pk_us]
      · rw [pk_un g]
        exact e j (by omega))))⟩))
section
variable {h l r sh pd lg nd : Int32} {a1 a2 a3 a4 a5 a6 : Nat → Int32} {a7 : Nat → Int64} {a8 : Nat → Int32} {a9 : Nat → Int64} {a10 a11 a12 : Nat → Int32}
theorem cs_push {post : St2 → Prop} {f : Int32} (H : ∀ a2' : Nat → Int32, (∀ j, j < 3 → a2' j = 0) → post (1, l, r, sh, pd, lg, nd, upd a1 0 f, a2', a3, a4, a5, a6, a7, a8, a9, a10, a11, a12)) : wpX_push post (0, l, r, sh, pd, lg, nd, a1, a2, a3, a4, a5, a6, a7, a8, a9, a10, a11, a12) f :=
  ⟨pk_in 0 6 (by omega), nm_r (e' := upd a1 0 f) rfl (pk_loop (fun n i (s : Nat → Int32) => wX_push_12 post 0 l r sh pd lg nd n (nI i) (upd a1 0 f) s a3 a4 a5 a6 a7 a8 a9 a10 a11 a12) (fun i s => ∀ j, j < i → s j = 0) 3 0 a2 (by omega) (fun j hj => absurd hj (by omega))
    (fun n s e => pk_le 3 3 (fun _ => nm_r (e' := 1) rfl (H s e)) (fun z => absurd z (by omega)))
    (fun n i s hi e hw => pk_le 3 i (fun z => absurd z (by omega)) (fun _ => ⟨pk_in (0 * 3 + i) 18 (by omega) (cs_ix 0 i), nm_r (e' := upd s i 0) (by rw [cs_cz hi]) (nm_r (nI_1 i) (hw _ (by
      intro j hj
      by_cases g : j = i
      · rw [g, pk_us]
      · rw [pk_un g]
        exact e j (by omega))))⟩)))⟩
theorem cs_pre {post : Int32 → St2 → Prop} {a k : Nat} (ha : a < 3) (hk : k < 8) (H : ∀ a1' a2' : Nat → Int32, a1' 0 = cs_fm a 8 → (∀ x, x < 3 → a2' x = if x = a then cs_b k else 0) → post 1 (1, l, r, sh, pd, lg, nd, a1', a2', a3, a4, a5, a6, a7, a8, a9, a10, a11, a12)) : wpX_pre post (0, l, r, sh, pd, lg, nd, a1, a2, a3, a4, a5, a6, a7, a8, a9, a10, a11, a12) (nI a) (nI k) :=
  br_f (nI_pos (by omega)) (pk_lt 2 a (fun z => absurd z (by omega)) (fun _ => br_f (nI_pos (by omega)) (pk_le k 7 (fun _ => br_f (by decide)
    (pk_loop (fun n i (s : Int32) => wX_pre_38 post (nI a) (nI k) 0 l r sh pd lg nd a1 a2 a3 a4 a5 a6 a7 a8 a9 a10 a11 a12 n s (nI i)) (fun i s => s = cs_fm a i) 8 0 0 (by omega) rfl
      (fun n s e => pk_le 8 8 (fun _ => cs_push (fun a2' h2 => ⟨pk_in (0 * 3 + a) 18 (by omega) (cs_ix 0 a), nm_e (H _ _ (by rw [pk_us, e]) (by
        intro x hx
        rw [pk_cl (0 * 3 + a) (show ((1 : Int32) - 1) * 3 + nI a = nI (0 * 3 + a) from cs_ix 0 a), show 0 * 3 + a = a by omega]
        by_cases g : x = a
        · rw [g, pk_us, if_pos rfl]
          rfl
        · rw [pk_un g, if_neg g]
          exact h2 x hx))⟩)) (fun z => absurd z (by omega)))
      (fun n i s hi e hw => pk_le 8 i (fun z => absurd z (by omega)) (fun _ => br_c (fun c => nm_e (nm_r (nI_1 i) (hw _ (by rw [e]; exact (if_pos c).symm)))) (fun c => nm_r (nI_1 i) (hw _ (by rw [e]; exact (if_neg c).symm)))))))
    (fun z => absurd z (by omega)))))
theorem cs_preA {post : Int32 → St2 → Prop} {p0 p1 : Int32}
    (H : ∀ (rr h' : Int32) (a1' a2' : Nat → Int32), ((¬ cs_ok p0 p1 ∧ rr = -1 ∧ h' = 0) ∨ (cs_ok p0 p1 ∧ rr = 1 ∧ h' = 1 ∧ ∃ a k : Nat, a < 3 ∧ k < 8 ∧ p0 = nI a ∧ p1 = nI k ∧ a1' 0 = cs_fm a 8 ∧ ∀ x, x < 3 → a2' x = if x = a then cs_b k else 0)) → post rr (h', l, r, sh, pd, lg, nd, a1', a2', a3, a4, a5, a6, a7, a8, a9, a10, a11, a12)) :
    wpX_pre post (0, l, r, sh, pd, lg, nd, a1, a2, a3, a4, a5, a6, a7, a8, a9, a10, a11, a12) p0 p1 := by
  by_cases g : cs_ok p0 p1
  · obtain ⟨a, ha, ea⟩ := cs_nat (M := 2) (n := 2) (by decide) g.1 g.2.1
    obtain ⟨k, hk, ek⟩ := cs_nat (M := 7) (n := 7) (by decide) g.2.2.1 g.2.2.2
    subst ea ek
    exact cs_pre (by omega) (by omega) (fun a1' a2' h1 h2 => H _ _ _ _ (Or.inr ⟨g, rfl, rfl, a, k, by omega, by omega, rfl, rfl, h1, h2⟩))
  · have K := H (-1) 0 a1 a2 (Or.inl ⟨g, rfl, rfl⟩)
    exact br_c (fun _ => K) (fun c0 => br_c (fun _ => K) (fun c1 => br_c (fun _ => K) (fun c2 => br_f (fun c3 => g ⟨c0, c1, c2, Int32.not_lt.mpr c3⟩) K)))
theorem cs_def {post : Int32 → St2 → Prop} {j : Nat} (hj : j < 8) (H : ∀ a4' : Nat → Int32, (∀ x, x < 3 → a4' (j * 3 + x) = a2 x) → (∀ b, (∀ x, x < 3 → b ≠ j * 3 + x) → a4' b = a4 b) → ∀ a7', post 0 (0, l, r, sh, 0, 0, nd, a1, a2, upd a3 j (a1 0), a4', a5, a6, a7', a8, a9, a10, a11, a12)) : wpX_define post (1, l, r, sh, pd, lg, nd, a1, a2, a3, a4, a5, a6, a7, a8, a9, a10, a11, a12) (nI j) :=
  br_f (nI_pos (by omega)) (pk_le j 7 (fun _ => br_f (by decide) (nm_r (e' := 0) rfl ⟨pk_in 0 6 (by omega), pk_in j 8 hj, nm_r (e' := upd a3 j (a1 0)) (by rw [nI_clamp (by omega)]; rfl)
    (pk_loop (fun n i (s : Nat → Int32) => wX_define_49 post (nI j) 0 l r sh pd lg nd n (nI i) a1 a2 (upd a3 j (a1 0)) s a5 a6 a7 a8 a9 a10 a11 a12) (fun i s => (∀ x, x < i → s (j * 3 + x) = a2 x) ∧ (∀ b, (∀ x, x < 3 → b ≠ j * 3 + x) → s b = a4 b)) 3 0 a4 (by omega) ⟨fun x hx => absurd hx (by omega), fun _ _ => rfl⟩
      (fun n s e => pk_le 3 3 (fun _ => nm_e (H s e.1 e.2 _)) (fun z => absurd z (by omega)))
      (fun n i s hi e hw => pk_le 3 i (fun z => absurd z (by omega)) (fun _ => ⟨pk_in (0 * 3 + i) 18 (by omega) (cs_ix 0 i), pk_in (j * 3 + i) 24 (by omega) (cs_ix j i), nm_r (e' := upd s (j * 3 + i) (a2 i)) (by rw [pk_cl (j * 3 + i) (cs_ix j i), cs_cz hi]) (nm_r (nI_1 i) (hw _ ⟨by
        intro x hx
        by_cases g : x = i
        · rw [g, pk_us]
        · rw [pk_un (by omega)]
          exact e.1 x (by omega), by
        intro b hb
        rw [pk_un (hb i hi)]
        exact e.2 b hb⟩))⟩)))⟩)) (fun z => absurd z (by omega)))
theorem cs_defA {post : Int32 → St2 → Prop} {p2 : Int32} (hh : h = 0 ∨ h = 1)
    (H : ∀ (rr h' : Int32) (a3' a4' : Nat → Int32) (a7' : Nat → Int64), ((¬ cs_nm p2 ∧ rr = -1 ∧ a3' = a3 ∧ a4' = a4 ∧ a7' = a7) ∨ (cs_nm p2 ∧ h = 0 ∧ rr = -3 ∧ a3' = a3 ∧ a4' = a4) ∨ (cs_nm p2 ∧ h = 1 ∧ rr = 0 ∧ ∃ j : Nat, j < 8 ∧ p2 = nI j ∧ a3' = upd a3 j (a1 0) ∧ (∀ x, x < 3 → a4' (j * 3 + x) = a2 x) ∧ (∀ b, (∀ x, x < 3 → b ≠ j * 3 + x) → a4' b = a4 b))) → post rr (h', l, r, sh, 0, 0, nd, a1, a2, a3', a4', a5, a6, a7', a8, a9, a10, a11, a12)) :
    wpX_define post (h, l, r, sh, 0, 0, nd, a1, a2, a3, a4, a5, a6, a7, a8, a9, a10, a11, a12) p2 := by
  by_cases g : cs_nm p2
  · rcases hh with e | e
    · subst e
      exact br_f g.1 (br_t (Int32.not_lt.mp g.2) (br_t rfl (H _ _ _ _ _ (Or.inr (Or.inl ⟨g, rfl, rfl, rfl, rfl⟩)))))
    · subst e
      obtain ⟨j, hj, ej⟩ := cs_nat (M := 7) (n := 7) (by decide) g.1 g.2
      subst ej
      exact cs_def (by omega) (fun a4' h1 h2 a7' => H _ _ _ _ _ (Or.inr (Or.inr ⟨g, rfl, rfl, j, by omega, rfl, rfl, h1, h2⟩)))
  · have K := H (-1) h a3 a4 a7 (Or.inl ⟨g, rfl, rfl, rfl, rfl⟩)
    exact br_c (fun _ => K) (fun c0 => br_f (fun c3 => g ⟨c0, Int32.not_lt.mpr c3⟩) K)
theorem cs_sysA {post : Int32 → St2 → Prop} {p2 : Int32}
    (H : ∀ (rr l' r' sh' : Int32) (a7' : Nat → Int64), ((¬ cs_nm p2 ∧ rr = -1 ∧ l' = l ∧ r' = r ∧ sh' = sh ∧ a7' = a7) ∨ (cs_nm p2 ∧ rr = 0 ∧ ∃ j : Nat, j < 8 ∧ p2 = nI j ∧ l' = nI j ∧ r' = nI ((j + 1) % 8) ∧ sh' = 0 ∧ a7' 0 = cs_s j ((j + 1) % 8))) → post rr (h, l', r', sh', 0, 0, nd, a1, a2, a3, a4, a5, a6, a7', a8, a9, a10, a11, a12)) :
    wpX_system post (h, l, r, sh, 0, 0, nd, a1, a2, a3, a4, a5, a6, a7, a8, a9, a10, a11, a12) p2 ((p2 + 1) &&& 7) 0 := by
  by_cases g : cs_nm p2
  · obtain ⟨j, hj, ej⟩ := cs_nat (M := 7) (n := 7) (by decide) g.1 g.2
    subst ej
    rw [nI_1, show nI (j + 1) &&& 7 = nI ((j + 1) % 8) from pk_andN (by omega) 3 (by decide)]
    exact br_f g.1 (br_f g.2 (br_f (nI_pos (by omega)) (pk_lt 7 ((j + 1) % 8) (fun z => absurd z (by omega)) (fun _ => br_f (by decide) (br_t (by decide) (nm_e (H _ _ _ _ _ (Or.inr ⟨g, rfl, j, by omega, rfl, rfl, rfl, rfl, by
      rw [pk_uLs, cs_ix8]
      rfl⟩))))))))
  · have K := H (-1) l r sh a7 (Or.inl ⟨g, rfl, rfl, rfl, rfl, rfl⟩)
    exact br_c (fun _ => K) (fun c0 => br_t (Decidable.byContradiction (fun c1 => g ⟨c0, c1⟩)) K)
end
end
section
/-! the law's own checks -/
section
variable {post : Int32 → St0 → Prop} {mc ms kc ks : Nat} {x0 x1 x2 x3 x4 x6 x7 x8 x9 x10 x11 x12 x13 x14 x15 x16 x17 x18 x19 x20 x21 x22 : Int32}
theorem cs_chk (hp : post 1 ()) (h6 : x6 = if x16 = 0 then -1 else 1) (h7 : x7 = if x17 = 0 then -1 else if x16 = 0 then -3 else 0) (h8 : x8 = if x17 = 0 then -1 else 0) (h9 : x9 = x20)
    (h10 : x10 = if x21 = 0 then 0 else if x3 &&& x20 = 0 then 1 else 0) (h11 : x11 = if x18 = 0 then 0 else if x19 = 0 then x0 + 1 else -4) (h12 : x12 = if x19 = 0 then 0 else 1)
    (h13 : x13 = if x4 < 0 then -1 else if x4 ≤ 2 then (if x22 = 0 then -4 else 1) else -1) (h14 : x14 = if x22 = 0 then 0 else x0 + 1) (h15 : x15 = if x22 = 0 then x20 else if x19 = 0 then 0 else x20) :
    wL_lawOf_220 post mc ms x0 x3 x4 x6 x7 x8 x9 x10 x11 x12 x13 x14 x15 x16 x17 x18 x19 x20 x21 x22 kc ks := by
  have k393 : ∀ z0, x14 = z0 → wL_lawOf_393 post mc ms x15 x19 x20 x22 z0 x14 kc ks := fun z0 e =>
    br_t e (br_c (fun c => br_t (h15.trans (if_pos c)) hp) (fun c => br_c (fun c2 => br_t (h15.trans ((if_neg c).trans (if_pos c2))) hp) (fun c2 => br_t (h15.trans ((if_neg c).trans (if_neg c2))) hp)))
  have k376 : ∀ z0, x13 = z0 → wL_lawOf_376 post mc ms x0 x14 x15 x19 x20 x22 z0 x13 kc ks := fun z0 e =>
    br_t e (br_c (fun c => k393 _ (h14.trans (if_pos c))) (fun c => k393 _ (h14.trans (if_neg c))))
  have k345 : ∀ z0, x12 = z0 → wL_lawOf_345 post mc ms x0 x4 x13 x14 x15 x19 x20 x22 z0 x12 kc ks := fun z0 e =>
    br_t e (br_c (fun c => k376 _ (h13.trans (if_pos c))) (fun c => br_c (fun c2 => br_c (fun c3 => k376 _ (h13.trans ((if_neg c).trans ((if_pos c2).trans (if_pos c3))))) (fun c3 => k376 _ (h13.trans ((if_neg c).trans ((if_pos c2).trans (if_neg c3)))))) (fun c2 => k376 _ (h13.trans ((if_neg c).trans (if_neg c2))))))
  have k330 : ∀ z0, x11 = z0 → wL_lawOf_330 post mc ms x0 x4 x12 x13 x14 x15 x19 x20 x22 z0 x11 kc ks := fun z0 e =>
    br_t e (br_c (fun c => k345 _ (h12.trans (if_pos c))) (fun c => k345 _ (h12.trans (if_neg c))))
  have k303 : ∀ z0, x10 = z0 → wL_lawOf_303 post mc ms x0 x4 x11 x12 x13 x14 x15 x18 x19 x20 x22 z0 x10 kc ks := fun z0 e =>
    br_t e (br_c (fun c => k330 _ (h11.trans (if_pos c))) (fun c => br_c (fun c2 => k330 _ (h11.trans ((if_neg c).trans (if_pos c2)))) (fun c2 => k330 _ (h11.trans ((if_neg c).trans (if_neg c2))))))
  have k274 : ∀ z0, x8 = z0 → wL_lawOf_274 post mc ms x0 x3 x4 x9 x10 x11 x12 x13 x14 x15 x18 x19 x20 x21 x22 z0 x8 kc ks := fun z0 e =>
    br_t e (br_t h9 (br_c (fun c => k303 _ (h10.trans (if_pos c))) (fun c => br_c (fun c2 => k303 _ (h10.trans ((if_neg c).trans (if_pos c2)))) (fun c2 => k303 _ (h10.trans ((if_neg c).trans (if_neg c2)))))))
  have k259 : ∀ z0, x7 = z0 → wL_lawOf_259 post mc ms x0 x3 x4 x8 x9 x10 x11 x12 x13 x14 x15 x17 x18 x19 x20 x21 x22 z0 x7 kc ks := fun z0 e =>
    br_t e (br_c (fun c => k274 _ (h8.trans (if_pos c))) (fun c => k274 _ (h8.trans (if_neg c))))
  have k234 : ∀ z0, x6 = z0 → wL_lawOf_234 post mc ms x0 x3 x4 x7 x8 x9 x10 x11 x12 x13 x14 x15 x16 x17 x18 x19 x20 x21 x22 z0 x6 kc ks := fun z0 e =>
    br_t e (br_c (fun c => k259 _ (h7.trans (if_pos c))) (fun c => br_c (fun c2 => k259 _ (h7.trans ((if_neg c).trans (if_pos c2)))) (fun c2 => k259 _ (h7.trans ((if_neg c).trans (if_neg c2))))))
  exact br_c (fun c => k234 _ (h6.trans (if_pos c))) (fun c => k234 _ (h6.trans (if_neg c)))
theorem cs_cond (H : ∀ x17 x18 x19 x20 x21 x22 : Int32, (x17 = 0 ↔ ¬ cs_nm x2) → (x18 = 0 ↔ ¬ (¬ x16 = 0 ∧ ¬ x17 = 0)) → (x19 = 0 ↔ ¬ (¬ x18 = 0 ∧ x1 = x2)) → (x20 = if x18 = 0 then 0 else (1 : Int32) <<< ((x0 &&& 3) &&& 31)) → (x21 = 0 ↔ ¬ (¬ x3 < 0 ∧ ¬ 7 < x3)) → (x22 = 0 ↔ ¬ (¬ x18 = 0 ∧ x4 = x0)) →
      wL_lawOf_220 post mc ms x0 x3 x4 x6 x7 x8 x9 x10 x11 x12 x13 x14 x15 x16 x17 x18 x19 x20 x21 x22 kc ks) :
    wL_lawOf_118 post mc ms x0 x1 x2 x3 x4 x6 x7 x8 x9 x10 x11 x12 x13 x14 x15 x16 kc ks := by
  have one : ∀ {p : Prop}, p → ((1 : Int32) = 0 ↔ ¬ p) := fun q => ⟨fun z => absurd z (by decide), fun z => absurd q z⟩
  have nil : ∀ {p : Prop}, ¬ p → ((0 : Int32) = 0 ↔ ¬ p) := fun q => ⟨fun _ => q, fun _ => rfl⟩
  have k202 : ∀ x17 x18 x19 x20 x21 : Int32, (x17 = 0 ↔ ¬ cs_nm x2) → (x18 = 0 ↔ ¬ (¬ x16 = 0 ∧ ¬ x17 = 0)) → (x19 = 0 ↔ ¬ (¬ x18 = 0 ∧ x1 = x2)) → (x20 = if x18 = 0 then 0 else (1 : Int32) <<< ((x0 &&& 3) &&& 31)) → (x21 = 0 ↔ ¬ (¬ x3 < 0 ∧ ¬ 7 < x3)) → wL_lawOf_202 post mc ms x0 x3 x4 x6 x7 x8 x9 x10 x11 x12 x13 x14 x15 x16 x17 x18 x19 x20 x21 kc ks := fun x17 x18 x19 x20 x21 h17 h18 h19 h20 h21 =>
    br_c (fun c => H x17 x18 x19 x20 x21 _ h17 h18 h19 h20 h21 (nil (fun z => z.1 c))) (fun c => br_c (fun c2 => H x17 x18 x19 x20 x21 _ h17 h18 h19 h20 h21 (one ⟨c, c2⟩)) (fun c2 => H x17 x18 x19 x20 x21 _ h17 h18 h19 h20 h21 (nil (fun z => c2 z.2))))
  have k185 : ∀ x17 x18 x19 x20 : Int32, (x17 = 0 ↔ ¬ cs_nm x2) → (x18 = 0 ↔ ¬ (¬ x16 = 0 ∧ ¬ x17 = 0)) → (x19 = 0 ↔ ¬ (¬ x18 = 0 ∧ x1 = x2)) → (x20 = if x18 = 0 then 0 else (1 : Int32) <<< ((x0 &&& 3) &&& 31)) → wL_lawOf_185 post mc ms x0 x3 x4 x6 x7 x8 x9 x10 x11 x12 x13 x14 x15 x16 x17 x18 x19 x20 kc ks := fun x17 x18 x19 x20 h17 h18 h19 h20 =>
    br_c (fun c => k202 x17 x18 x19 x20 _ h17 h18 h19 h20 (nil (fun z => z.1 c))) (fun c => br_c (fun c2 => k202 x17 x18 x19 x20 _ h17 h18 h19 h20 (nil (fun z => z.2 c2))) (fun c2 => k202 x17 x18 x19 x20 _ h17 h18 h19 h20 (one ⟨c, c2⟩)))
  have k169 : ∀ x17 x18 x19 : Int32, (x17 = 0 ↔ ¬ cs_nm x2) → (x18 = 0 ↔ ¬ (¬ x16 = 0 ∧ ¬ x17 = 0)) → (x19 = 0 ↔ ¬ (¬ x18 = 0 ∧ x1 = x2)) → wL_lawOf_169 post mc ms x0 x3 x4 x6 x7 x8 x9 x10 x11 x12 x13 x14 x15 x16 x17 x18 x19 kc ks := fun x17 x18 x19 h17 h18 h19 =>
    br_c (fun c => k185 x17 x18 x19 _ h17 h18 h19 (if_pos c).symm) (fun c => k185 x17 x18 x19 _ h17 h18 h19 (if_neg c).symm)
  have k152 : ∀ x17 x18 : Int32, (x17 = 0 ↔ ¬ cs_nm x2) → (x18 = 0 ↔ ¬ (¬ x16 = 0 ∧ ¬ x17 = 0)) → wL_lawOf_152 post mc ms x0 x1 x2 x3 x4 x6 x7 x8 x9 x10 x11 x12 x13 x14 x15 x16 x17 x18 kc ks := fun x17 x18 h17 h18 =>
    br_c (fun c => k169 x17 x18 _ h17 h18 (nil (fun z => z.1 c))) (fun c => br_c (fun c2 => k169 x17 x18 _ h17 h18 (one ⟨c, c2⟩)) (fun c2 => k169 x17 x18 _ h17 h18 (nil (fun z => c2 z.2))))
  have k135 : ∀ x17 : Int32, (x17 = 0 ↔ ¬ cs_nm x2) → wL_lawOf_135 post mc ms x0 x1 x2 x3 x4 x6 x7 x8 x9 x10 x11 x12 x13 x14 x15 x16 x17 kc ks := fun x17 h17 =>
    br_c (fun c => k152 x17 _ h17 (nil (fun z => z.1 c))) (fun c => br_c (fun c2 => k152 x17 _ h17 (nil (fun z => z.2 c2))) (fun c2 => k152 x17 _ h17 (one ⟨c, c2⟩)))
  exact br_c (fun c => k135 _ (nil (fun z => z.1 c))) (fun c => br_c (fun c2 => k135 _ (nil (fun z => z.2 c2))) (fun c2 => k135 _ (one ⟨c, c2⟩)))
end
abbrev cs_run (p0 p1 p2 : Int32) : Prop := cs_ok p0 p1 ∧ cs_nm p2
/-- what the law asks of the ten answers -/
def cs_K (p0 p1 p2 p3 p4 x6 x7 x8 x9 x10 x11 x12 x13 x14 x15 : Int32) : Prop :=
  x6 = (if cs_ok p0 p1 then 1 else -1) ∧ x7 = (if cs_nm p2 then (if cs_ok p0 p1 then 0 else -3) else -1) ∧ x8 = (if cs_nm p2 then 0 else -1) ∧
  x9 = (if cs_run p0 p1 p2 then (1 : Int32) <<< ((p0 &&& 3) &&& 31) else 0) ∧
  x10 = (if ¬ p3 < 0 ∧ ¬ 7 < p3 then (if p3 &&& x9 = 0 then 1 else 0) else 0) ∧
  x11 = (if cs_run p0 p1 p2 then (if p1 = p2 then -4 else p0 + 1) else 0) ∧
  x12 = (if cs_run p0 p1 p2 ∧ p1 = p2 then 1 else 0) ∧
  x13 = (if p4 < 0 then -1 else if p4 ≤ 2 then (if cs_run p0 p1 p2 ∧ p4 = p0 then 1 else -4) else -1) ∧
  x14 = (if cs_run p0 p1 p2 ∧ p4 = p0 then p0 + 1 else 0) ∧
  x15 = (if cs_run p0 p1 p2 ∧ p4 = p0 then (if p1 = p2 then x9 else 0) else x9)
section
variable {post : Int32 → St0 → Prop} {mc ms kc ks : Nat} {p0 p1 p2 p3 p4 x6 x7 x8 x9 x10 x11 x12 x13 x14 x15 x16 : Int32}
theorem cs_fin (hp : post 1 ()) (h16 : x16 = 0 ↔ ¬ cs_ok p0 p1) (K : cs_K p0 p1 p2 p3 p4 x6 x7 x8 x9 x10 x11 x12 x13 x14 x15) : wL_lawOf_118 post mc ms p0 p1 p2 p3 p4 x6 x7 x8 x9 x10 x11 x12 x13 x14 x15 x16 kc ks := by
  obtain ⟨k6, k7, k8, k9, k10, k11, k12, k13, k14, k15⟩ := K
  refine cs_cond (fun x17 x18 x19 x20 x21 x22 h17 h18 h19 h20 h21 h22 => ?_)
  have g18 : x18 = 0 ↔ ¬ cs_run p0 p1 p2 := by
    rw [h18, h16, h17, Classical.not_not, Classical.not_not]
  have g19 : x19 = 0 ↔ ¬ (cs_run p0 p1 p2 ∧ p1 = p2) := by
    rw [h19, g18, Classical.not_not]
  have g22 : x22 = 0 ↔ ¬ (cs_run p0 p1 p2 ∧ p4 = p0) := by
    rw [h22, g18, Classical.not_not]
  have e9 : x9 = x20 := by
    rw [k9, h20]
    by_cases c : cs_run p0 p1 p2
    · rw [if_pos c, if_neg (fun z => g18.mp z c)]
    · rw [if_neg c, if_pos (g18.mpr c)]
  subst e9
  refine cs_chk hp ?_ ?_ ?_ rfl ?_ ?_ ?_ ?_ ?_ ?_
  · rw [k6]
    by_cases c : cs_ok p0 p1
    · rw [if_pos c, if_neg (fun z => h16.mp z c)]
    · rw [if_neg c, if_pos (h16.mpr c)]
  · rw [k7]
    by_cases d : cs_nm p2
    · rw [if_pos d, if_neg (fun z => h17.mp z d)]
      by_cases c : cs_ok p0 p1
      · rw [if_pos c, if_neg (fun z => h16.mp z c)]
      · rw [if_neg c, if_pos (h16.mpr c)]
    · rw [if_neg d, if_pos (h17.mpr d)]
  · rw [k8]
    by_cases d : cs_nm p2
    · rw [if_pos d, if_neg (fun z => h17.mp z d)]
    · rw [if_neg d, if_pos (h17.mpr d)]
  · rw [k10]
    by_cases d : ¬ p3 < 0 ∧ ¬ 7 < p3
    · rw [if_pos d, if_neg (fun z => h21.mp z d)]
    · rw [if_neg d, if_pos (h21.mpr d)]
  · rw [k11]
    by_cases c : cs_run p0 p1 p2
    · rw [if_pos c, if_neg (fun z => g18.mp z c)]
      by_cases e : p1 = p2
      · rw [if_pos e, if_neg (fun z => g19.mp z ⟨c, e⟩)]
      · rw [if_neg e, if_pos (g19.mpr (fun z => e z.2))]
    · rw [if_neg c, if_pos (g18.mpr c)]
  · rw [k12]
    by_cases c : cs_run p0 p1 p2 ∧ p1 = p2
    · rw [if_pos c, if_neg (fun z => g19.mp z c)]
    · rw [if_neg c, if_pos (g19.mpr c)]
  · rw [k13]
    by_cases c : cs_run p0 p1 p2 ∧ p4 = p0
    · rw [if_pos c, if_neg (fun z => g22.mp z c)]
    · rw [if_neg c, if_pos (g22.mpr c)]
  · rw [k14]
    by_cases c : cs_run p0 p1 p2 ∧ p4 = p0
    · rw [if_pos c, if_neg (fun z => g22.mp z c)]
    · rw [if_neg c, if_pos (g22.mpr c)]
  · rw [k15]
    by_cases c : cs_run p0 p1 p2 ∧ p4 = p0
    · rw [if_pos c, if_neg (fun z => g22.mp z c)]
      by_cases e : p1 = p2
      · rw [if_pos e, if_neg (fun z => g19.mp z ⟨c.1, e⟩)]
      · rw [if_neg e, if_pos (g19.mpr (fun z => e z.2))]
    · rw [if_neg c, if_pos (g22.mpr c)]
end
end
section
/-! the system after the making: nowhere to go, or one event -/
theorem cs_mode {p0 p1 p2 r52 r96 r140 h' l' r' sh' : Int32} {a1 a2 a3 b3 b4 : Nat → Int32} {b7 c7 : Nat → Int64} (h3 : ∀ i, i < 8 → a3 i = 255)
    (s1 : (¬ cs_ok p0 p1 ∧ r52 = -1 ∧ h' = 0) ∨ (cs_ok p0 p1 ∧ r52 = 1 ∧ h' = 1 ∧ ∃ a k : Nat, a < 3 ∧ k < 8 ∧ p0 = nI a ∧ p1 = nI k ∧ a1 0 = cs_fm a 8 ∧ ∀ x, x < 3 → a2 x = if x = a then cs_b k else 0))
    (s2 : (¬ cs_nm p2 ∧ r96 = -1 ∧ b3 = a3 ∧ b4 = (fun _ => 0) ∧ b7 = vp_updL (fun _ => 0) 0 1) ∨ (cs_nm p2 ∧ h' = 0 ∧ r96 = -3 ∧ b3 = a3 ∧ b4 = (fun _ => 0)) ∨ (cs_nm p2 ∧ h' = 1 ∧ r96 = 0 ∧ ∃ j : Nat, j < 8 ∧ p2 = nI j ∧ b3 = upd a3 j (a1 0) ∧ (∀ x, x < 3 → b4 (j * 3 + x) = a2 x) ∧ (∀ b, (∀ x, x < 3 → b ≠ j * 3 + x) → b4 b = (fun _ => (0 : Int32)) b)))
    (s3 : (¬ cs_nm p2 ∧ r140 = -1 ∧ l' = 0 ∧ r' = 0 ∧ sh' = 7 ∧ c7 = b7) ∨ (cs_nm p2 ∧ r140 = 0 ∧ ∃ j : Nat, j < 8 ∧ p2 = nI j ∧ l' = nI j ∧ r' = nI ((j + 1) % 8) ∧ sh' = 0 ∧ c7 0 = cs_s j ((j + 1) % 8))) :
    r52 = (if cs_ok p0 p1 then 1 else -1) ∧ r96 = (if cs_nm p2 then (if cs_ok p0 p1 then 0 else -3) else -1) ∧ r140 = (if cs_nm p2 then 0 else -1) ∧
    ∃ l r : Nat, l < 8 ∧ r < 8 ∧ l' = nI l ∧ r' = nI r ∧ c7 0 = cs_s l r ∧
      ((¬ cs_run p0 p1 p2 ∧ cs_T sh' b4 (cs_s l r) 0 0 ∧ cs_fv sh' b3 (l * 8 + r) = 255) ∨
       (cs_run p0 p1 p2 ∧ ∃ a k : Nat, a < 3 ∧ k < 8 ∧ p0 = nI a ∧ p1 = nI k ∧ p2 = nI l ∧ cs_T sh' b4 (cs_s l r) a (cs_s k r) ∧ cs_fv sh' b3 (l * 8 + r) = cs_fm a 8 ∧ (k ≠ l → cs_T sh' b4 (cs_s k r) a 0 ∧ cs_fv sh' b3 (k * 8 + r) = 255))) := by
  have e52 : r52 = (if cs_ok p0 p1 then 1 else -1) := by
    rcases s1 with ⟨z, e, _⟩ | ⟨z, e, _⟩
    · rw [if_neg z, e]
    · rw [if_pos z, e]
  refine ⟨e52, ?_⟩
  by_cases nm : cs_nm p2
  · have t3 := s3.resolve_left (fun z => z.1 nm)
    have t2 := s2.resolve_left (fun z => z.1 nm)
    obtain ⟨_, e140, j, hj, ej, el, er, esh, e7⟩ := t3
    subst esh
    have hr : (j + 1) % 8 < 8 := by omega
    have hrj : (j + 1) % 8 ≠ j := by omega
    rcases s1 with ⟨z, _, eh⟩ | ⟨z, _, eh, a, k, ha, hk, e0, e1, q1, q2⟩
    · rcases t2 with ⟨_, _, e96, e3, e4⟩ | ⟨_, eh', _⟩
      · subst e3 e4
        refine ⟨by rw [if_pos nm, if_neg z, e96], by rw [if_pos nm, e140], j, (j + 1) % 8, hj, hr, el, er, e7, Or.inl ⟨fun c => z c.1, cs_Tdead hj hr (fun _ _ => rfl), ?_⟩⟩
        rw [cs_fv_pq _ _ hr, h3 j hj, h3 _ hr]
        exact cs_j7
      · rw [eh] at eh'
        exact absurd eh' (by decide)
    · rcases t2 with ⟨_, eh', _⟩ | ⟨_, _, e96, i, hi, ei, e3, e4, e5⟩
      · rw [eh] at eh'
        exact absurd eh' (by decide)
      · have eij : i = j := (nI_eq (by omega) (by omega)).mp (ei.symm.trans ej)
        subst eij
        have h4 : ∀ b, b < 24 → b4 b = if b = i * 3 + a then cs_b k else 0 := by
          intro b hb
          by_cases g : ∃ x, x < 3 ∧ b = i * 3 + x
          · obtain ⟨x, hx, rfl⟩ := g
            rw [e4 x hx, q2 x hx]
            by_cases u : x = a
            · rw [if_pos u, if_pos (by omega)]
            · rw [if_neg u, if_neg (by omega)]
          · rw [e5 b (fun x hx w => g ⟨x, hx, w⟩), if_neg (fun w => g ⟨a, ha, w⟩)]
        subst e3
        refine ⟨by rw [if_pos nm, if_pos z, e96], by rw [if_pos nm, e140], i, (i + 1) % 8, hi, hr, el, er, e7, Or.inr ⟨⟨z, nm⟩, a, k, ha, hk, e0, e1, ei, cs_Trun hi hr ha hk hrj h4, ?_, fun hki => ⟨cs_Tend hk hr ha hki hrj h4, ?_⟩⟩⟩
        · rw [cs_fv_pq _ _ hr, pk_us, pk_un hrj, h3 _ hr, q1]
          exact cs_ja a ha
        · rw [cs_fv_pq _ _ hr, pk_un hki, pk_un hrj, h3 _ hr, h3 k hk]
          exact cs_j7
  · have t3 := s3.resolve_right (fun z => nm z.1)
    obtain ⟨_, e140, el, er, esh, e7⟩ := t3
    have t2 : ¬ cs_nm p2 ∧ r96 = -1 ∧ b3 = a3 ∧ b4 = (fun _ => 0) ∧ b7 = vp_updL (fun _ => 0) 0 1 := s2.resolve_right (fun z => z.elim (fun w => nm w.1) (fun w => nm w.1))
    obtain ⟨_, e96, e3, e4, e7'⟩ := t2
    subst esh e3 e4
    refine ⟨by rw [if_neg nm, e96], by rw [if_neg nm, e140], 0, 0, by omega, by omega, el, er, ?_, Or.inl ⟨fun c => nm c.2, cs_Tdead (by omega) (by omega) (fun _ _ => rfl), ?_⟩⟩
    · rw [e7, e7', pk_uLs]
      decide
    · rw [cs_fv_pq _ _ (by omega), h3 0 (by omega)]
      exact cs_j0
/-- the answers' pure side -/
theorem cs_r255 {p3 f : Int32} (hf : f = 255) : (if p3 < 0 then (0 : Int32) else if p3 ≤ 7 then (if ((f >>> (p3 &&& 31)) &&& 1) = 1 then 1 else 0) else 0) = (if ¬ p3 < 0 ∧ ¬ 7 < p3 then (if p3 &&& 0 = 0 then 1 else 0) else 0) := by
  by_cases c : p3 < 0
  · rw [if_pos c, if_neg (fun z => z.1 c)]
  · rw [if_neg c]
    by_cases d : p3 ≤ 7
    · obtain ⟨x, hx, e⟩ := nI_of2 (M := 7) (n := 7) (by decide) c d
      subst hf e
      rw [if_pos d, if_pos (show ¬ nI x < 0 ∧ ¬ 7 < nI x from ⟨c, Int32.not_lt.mpr d⟩), if_pos (cs_f255 x (by omega)), if_pos (Int32.and_zero)]
    · rw [if_neg d, if_neg (fun z => d (Int32.not_lt.mp z.2))]
theorem cs_rfa {p3 f : Int32} {a : Nat} (ha : a < 3) (hf : f = cs_fm a 8) : (if p3 < 0 then (0 : Int32) else if p3 ≤ 7 then (if ((f >>> (p3 &&& 31)) &&& 1) = 1 then 1 else 0) else 0) = (if ¬ p3 < 0 ∧ ¬ 7 < p3 then (if p3 &&& cs_b a = 0 then 1 else 0) else 0) := by
  by_cases c : p3 < 0
  · rw [if_pos c, if_neg (fun z => z.1 c)]
  · rw [if_neg c]
    by_cases d : p3 ≤ 7
    · obtain ⟨x, hx, e⟩ := nI_of2 (M := 7) (n := 7) (by decide) c d
      subst hf e
      rw [if_pos d, if_pos (show ¬ nI x < 0 ∧ ¬ 7 < nI x from ⟨c, Int32.not_lt.mpr d⟩)]
      have q := cs_fa a ha x (by omega)
      by_cases g : nI x &&& cs_b a = 0
      · rw [if_pos g, if_pos (q.mpr g)]
      · rw [if_neg g, if_neg (fun z => g (q.mp z))]
    · rw [if_neg d, if_neg (fun z => d (Int32.not_lt.mp z.2))]
theorem cs_Kd {p0 p1 p2 p3 p4 x6 x7 x8 x10 x13 : Int32} (hno : ¬ cs_run p0 p1 p2) (e6 : x6 = (if cs_ok p0 p1 then 1 else -1)) (e7 : x7 = (if cs_nm p2 then (if cs_ok p0 p1 then 0 else -3) else -1)) (e8 : x8 = (if cs_nm p2 then 0 else -1))
    (e10 : x10 = (if ¬ p3 < 0 ∧ ¬ 7 < p3 then (if p3 &&& 0 = 0 then 1 else 0) else 0)) (e13 : x13 = (if p4 < 0 then -1 else if p4 ≤ 2 then -4 else -1)) : cs_K p0 p1 p2 p3 p4 x6 x7 x8 0 x10 0 0 x13 0 0 := by
  have n1 : ¬ (cs_run p0 p1 p2 ∧ p1 = p2) := fun z => hno z.1
  have n2 : ¬ (cs_run p0 p1 p2 ∧ p4 = p0) := fun z => hno z.1
  refine ⟨e6, e7, e8, (if_neg hno).symm, e10, (if_neg hno).symm, (if_neg n1).symm, ?_, (if_neg n2).symm, (if_neg n2).symm⟩
  rw [if_neg n2]
  exact e13
theorem cs_ba : ∀ a, a < 3 → (1 : Int32) <<< ((nI a &&& 3) &&& 31) = cs_b a := by decide +kernel
theorem cs_Kr {p3 p4 x6 x7 x8 x10 x11 x12 x13 x14 x15 : Int32} {a k l : Nat} (ha : a < 3) (hrun : cs_run (nI a) (nI k) (nI l)) (e6 : x6 = (if cs_ok (nI a) (nI k) then 1 else -1)) (e7 : x7 = (if cs_nm (nI l) then (if cs_ok (nI a) (nI k) then 0 else -3) else -1)) (e8 : x8 = (if cs_nm (nI l) then 0 else -1))
    (e10 : x10 = (if ¬ p3 < 0 ∧ ¬ 7 < p3 then (if p3 &&& cs_b a = 0 then 1 else 0) else 0)) (e11 : x11 = (if nI k = nI l then -4 else nI a + 1)) (e12 : x12 = (if nI k = nI l then 1 else 0))
    (e13 : x13 = (if p4 < 0 then -1 else if p4 ≤ 2 then (if p4 = nI a then 1 else -4) else -1)) (e14 : x14 = (if p4 = nI a then nI a + 1 else 0)) (e15 : x15 = (if p4 = nI a then (if nI k = nI l then cs_b a else 0) else cs_b a)) :
    cs_K (nI a) (nI k) (nI l) p3 p4 x6 x7 x8 (cs_b a) x10 x11 x12 x13 x14 x15 := by
  have n1 : (cs_run (nI a) (nI k) (nI l) ∧ nI k = nI l) ↔ nI k = nI l := ⟨fun z => z.2, fun z => ⟨hrun, z⟩⟩
  have n2 : (cs_run (nI a) (nI k) (nI l) ∧ p4 = nI a) ↔ p4 = nI a := ⟨fun z => z.2, fun z => ⟨hrun, z⟩⟩
  refine ⟨e6, e7, e8, ?_, e10, ?_, ?_, ?_, ?_, ?_⟩
  · rw [if_pos hrun, cs_ba a ha]
  · rw [if_pos hrun]
    exact e11
  · rw [e12]
    by_cases g : nI k = nI l
    · rw [if_pos g, if_pos (n1.mpr g)]
    · rw [if_neg g, if_neg (show ¬ (cs_run (nI a) (nI k) (nI l) ∧ nI k = nI l) from fun z => g z.2)]
  · rw [e13]
    by_cases g : p4 = nI a
    · rw [if_pos g, if_pos (n2.mpr g)]
    · rw [if_neg g, if_neg (show ¬ (cs_run (nI a) (nI k) (nI l) ∧ p4 = nI a) from fun z => g z.2)]
  · rw [e14]
    by_cases g : p4 = nI a
    · rw [if_pos g, if_pos (n2.mpr g)]
    · rw [if_neg g, if_neg (show ¬ (cs_run (nI a) (nI k) (nI l) ∧ p4 = nI a) from fun z => g z.2)]
  · rw [e15]
    by_cases g : p4 = nI a
    · rw [if_pos g, if_pos (n2.mpr g)]
    · rw [if_neg g, if_neg (show ¬ (cs_run (nI a) (nI k) (nI l) ∧ p4 = nI a) from fun z => g z.2)]
section
variable {h l r sh pd lg nd : Int32} {a1 a2 a3 a4 a5 a6 : Nat → Int32} {a7 : Nat → Int64} {a8 : Nat → Int32} {a9 : Nat → Int64} {a10 a11 a12 : Nat → Int32}
theorem cs_off0 {post : Int32 → Prop} {n a : Nat} {v : Int64} (hn : n < 4) (ha : a < 3) (hT : cs_T sh a4 (a7 n) a v) (hv : v = 0) (H : post 0) : wpX_offers post (h, l, r, sh, pd, nI n, nd, a1, a2, a3, a4, a5, a6, a7, a8, a9, a10, a11, a12) :=
  cs_off hn ha hT (by rw [if_pos hv]; exact H)
theorem cs_off1 {post : Int32 → Prop} {n a : Nat} {v : Int64} (hn : n < 4) (ha : a < 3) (hT : cs_T sh a4 (a7 n) a v) (hv : ¬ v = 0) (H : post (cs_b a)) : wpX_offers post (h, l, r, sh, pd, nI n, nd, a1, a2, a3, a4, a5, a6, a7, a8, a9, a10, a11, a12) :=
  cs_off hn ha hT (by rw [if_neg hv]; exact H)
end
theorem cs_cell {post : Int32 → Prop} {L : Nat} {xs : Nat → Int32} (hL : L ≤ 5) (i : Nat) (hi : i < 5) (H : ∀ v, post v) : wpL_cellAt post L xs () (nI i) :=
  pk_le L i (fun _ => H 0) (fun z => ⟨pk_in i L z, H _⟩)
end
section
/-! the law -/
theorem cs_top {A B : Prop} {p0 p1 : Int32} (h0 : ¬ cs_ok p0 p1 → A) (h1 : cs_ok p0 p1 → B) : (p0 < 0 → A) ∧ (¬ p0 < 0 → ((2 < p0 → A) ∧ (¬ 2 < p0 → ((p1 < 0 → A) ∧ (¬ p1 < 0 → ((7 < p1 → A) ∧ (¬ 7 < p1 → B))))))) :=
  br_c (fun g => h0 (fun z => z.1 g)) (fun g0 => br_c (fun g => h0 (fun z => z.2.1 g)) (fun g1 => br_c (fun g => h0 (fun z => z.2.2.1 g)) (fun g2 => br_c (fun g => h0 (fun z => z.2.2.2 g)) (fun g3 => h1 ⟨g0, g1, g2, g3⟩))))
theorem cs_o {p4 y : Int32} (hb : p4 < 0 ∨ ¬ p4 ≤ 2) : (-1 : Int32) = (if p4 < 0 then -1 else if p4 ≤ 2 then y else -1) := by
  by_cases c : p4 < 0
  · rw [if_pos c]
  · rw [if_neg c, if_neg (hb.resolve_left c)]
theorem cs_i {p4 y : Int32} (hb : ¬ (p4 < 0 ∨ ¬ p4 ≤ 2)) : y = (if p4 < 0 then -1 else if p4 ≤ 2 then y else -1) := by
  rw [if_neg (fun z => hb (Or.inl z)), if_pos (Decidable.byContradiction (fun z => hb (Or.inr z)))]
theorem cs_p4 {p4 : Int32} (hb : ¬ (p4 < 0 ∨ ¬ p4 ≤ 2)) : ∃ x : Nat, x < 3 ∧ p4 = nI x := by
  obtain ⟨x, hx, e⟩ := nI_of2 (M := 2) (n := 2) (by decide) (fun z => hb (Or.inl z)) (Decidable.byContradiction (fun z => hb (Or.inr z)))
  exact ⟨x, by omega, e⟩
theorem cs_pn {p4 : Int32} {a : Nat} (ha : a < 3) (hb : p4 < 0 ∨ ¬ p4 ≤ 2) : ¬ p4 = nI a := by
  intro e
  rw [e] at hb
  rcases hb with z | z
  · exact nI_pos (by omega) z
  · exact z (nI_le (b := 2) (by omega) (by decide))
section
variable {h l r sh pd lg nd : Int32} {a1 a2 a3 a4 a5 a6 : Nat → Int32} {a7 : Nat → Int64} {a8 : Nat → Int32} {a9 : Nat → Int64} {a10 a11 a12 : Nat → Int32}
theorem cs_log1v {post : Int32 → Prop} {y : Int32} (e : a6 0 = y) (H : post (y + 1)) : wpX_log post (h, l, r, sh, pd, 1, nd, a1, a2, a3, a4, a5, a6, a7, a8, a9, a10, a11, a12) :=
  cs_log1 (by rw [e]; exact H)
end
theorem cs_lawOf {post : Int32 → St0 → Prop} (hp : post 1 ()) (p0 p1 p2 p3 p4 : Int32) : wpL_lawOf post 13 667 () p0 p1 p2 p3 p4 := by
  refine ⟨by decide, by decide, 12, 648, by decide, by decide, cs_init (fun a3 h3 => cs_preA (fun r52 h' a1 a2 s1 => cs_defA (s1.elim (fun z => Or.inl z.2.2) (fun z => Or.inr z.2.2.1)) (fun r96 h'' b3 b4 b7 s2 => cs_sysA (fun r140 l' r' sh' c7 s3 => ?_))))⟩
  obtain ⟨e52, e96, e140, l, r, hl, hr, el, er, h7, md⟩ := cs_mode h3 s1 s2 s3
  subst el er
  have f0 : ¬ cs_ok p0 p1 → ((0 : Int32) = 0 ↔ ¬ cs_ok p0 p1) := fun q => ⟨fun _ => q, fun _ => rfl⟩
  have f1 : cs_ok p0 p1 → ((1 : Int32) = 0 ↔ ¬ cs_ok p0 p1) := fun q => ⟨fun z => absurd z (by decide), fun z => absurd q z⟩
  rcases md with ⟨hno, hT, hf⟩ | ⟨hrun, a, k, ha, hk, e0, e1, e2, hT, hf, hend⟩
  · have hT7 : cs_T sh' b4 (c7 0) 0 0 := by
      rw [h7]
      exact hT
    refine cs_off0 (n := 0) (a := 0) (by omega) (by omega) hT7 rfl (cs_rfs h7 hl hr (Or.inl rfl) (fun pd1 d5 g1 => cs_dlA hl hr hT hf g1 (fun pd2 nd2 e5 b8 b9 b10 b11 b12 g2 => cs_tr0 (M := 1) (a := 0) (s := fun _ => cs_s l r) (by omega) (by omega) (by omega) rfl ⟨fun n z => absurd z (by omega), fun _ => Or.inl hT⟩ (fun nd3 d8 d9 d10 d11 d12 => ?_))))
    by_cases hb : p4 < 0 ∨ ¬ p4 ≤ 2
    · refine cs_feed0 hb (cs_log0 (cs_off0 (n := 0) (a := 0) (by omega) (by omega) hT7 rfl ?_))
      have K := cs_Kd (p3 := p3) (p4 := p4) hno e52 e96 e140 (cs_r255 hf) (cs_o hb)
      exact cs_top (fun g => cs_fin hp (f0 g) K) (fun g => cs_fin hp (f1 g) K)
    · have K := cs_Kd (p3 := p3) (p4 := p4) hno e52 e96 e140 (cs_r255 hf) (cs_i hb)
      obtain ⟨x, hx, ex⟩ := cs_p4 hb
      subst ex
      refine cs_feed (a := 0) (v := 0) hx hT7 (fun _ z => absurd rfl z) (fun _ => cs_log0 (cs_off0 (n := 0) (a := 0) (by omega) (by omega) hT7 rfl ?_))
      exact cs_top (fun g => cs_fin hp (f0 g) K) (fun g => cs_fin hp (f1 g) K)
  · subst e0 e1 e2
    have hne := cs_sne k hk r hr
    have hT7 : cs_T sh' b4 (c7 0) a (cs_s k r) := by
      rw [h7]
      exact hT
    by_cases ek : k = l
    · subst ek
      have c11 : (-4 : Int32) = (if nI k = nI k then -4 else nI a + 1) := (if_pos rfl).symm
      have c12 : (1 : Int32) = (if nI k = nI k then 1 else 0) := (if_pos rfl).symm
      refine cs_off1 (n := 0) (by omega) ha hT7 hne (cs_rfs h7 hl hr (Or.inl rfl) (fun pd1 d5 g1 => cs_dlB hl hr ha hT hf g1 (fun pd2 nd2 e5 b8 b9 b10 b11 b12 g2 => cs_tr1 hl hr ha hT (fun nd3 d8 d9 d10 d11 d12 => ?_))))
      by_cases hb : p4 < 0 ∨ ¬ p4 ≤ 2
      · have hq := cs_pn ha hb
        refine cs_feed0 hb (cs_log0 (cs_off1 (n := 0) (by omega) ha hT7 hne ?_))
        have K := cs_Kr (p3 := p3) (p4 := p4) ha hrun e52 e96 e140 (cs_rfa ha hf) c11 c12 (cs_o hb) (if_neg hq).symm (if_neg hq).symm
        exact cs_top (fun g => cs_fin hp (f0 g) K) (fun g => cs_fin hp (f1 g) K)
      · have hi := hb
        obtain ⟨x, hx, ex⟩ := cs_p4 hb
        subst ex
        refine cs_feed (a := a) (v := cs_s k r) hx hT7 (fun xa _ => ?_) (fun xn => ?_)
        · have hq : nI x = nI a := by rw [xa]
          refine cs_log1v (y := nI a) (by rw [pk_us, xa]) (cs_off1 (n := 1) (a := a) (v := cs_s k r) (by omega) ha (by rw [pk_uLs]; exact hT) hne ?_)
          have K := cs_Kr (p3 := p3) (p4 := nI x) ha hrun e52 e96 e140 (cs_rfa ha hf) c11 c12 ((if_pos hq).symm.trans (cs_i hi)) (if_pos hq).symm ((if_pos rfl).symm.trans (if_pos hq).symm)
          exact cs_top (fun g => cs_fin hp (f0 g) K) (fun g => cs_fin hp (f1 g) K)
        · have hq : ¬ nI x = nI a := fun z => (xn.resolve_right hne) ((nI_eq (by omega) (by omega)).mp z)
          refine cs_log0 (cs_off1 (n := 0) (by omega) ha hT7 hne ?_)
          have K := cs_Kr (p3 := p3) (p4 := nI x) ha hrun e52 e96 e140 (cs_rfa ha hf) c11 c12 ((if_neg hq).symm.trans (cs_i hi)) (if_neg hq).symm (if_neg hq).symm
          exact cs_top (fun g => cs_fin hp (f0 g) K) (fun g => cs_fin hp (f1 g) K)
    · obtain ⟨hT1, hf1⟩ := hend ek
      have nkl : ¬ nI k = nI l := fun z => ek ((nI_eq (by omega) (by omega)).mp z)
      have c11 : nI a + 1 = (if nI k = nI l then -4 else nI a + 1) := (if_neg nkl).symm
      have c12 : (0 : Int32) = (if nI k = nI l then 1 else 0) := (if_neg nkl).symm
      refine cs_off1 (n := 0) (by omega) ha hT7 hne (cs_rfs h7 hl hr (Or.inl rfl) (fun pd1 d5 g1 => cs_dlC hl hr ha hk ek hT hT1 hf hf1 g1 (fun pd2 nd2 e5 b8 b9 b10 b11 b12 g2 => cs_tr0 (M := 2) (a := a) (s := cs_two l r k) (by omega) (by omega) ha rfl (cs_Ctwo hl hr hk ek hT hT1) (fun nd3 d8 d9 d10 d11 d12 => ?_))))
      by_cases hb : p4 < 0 ∨ ¬ p4 ≤ 2
      · have hq := cs_pn ha hb
        refine cs_feed0 hb (cs_log0 (cs_off1 (n := 0) (by omega) ha hT7 hne ?_))
        have K := cs_Kr (p3 := p3) (p4 := p4) ha hrun e52 e96 e140 (cs_rfa ha hf) c11 c12 (cs_o hb) (if_neg hq).symm (if_neg hq).symm
        exact cs_top (fun g => cs_fin hp (f0 g) K) (fun g => cs_fin hp (f1 g) K)
      · have hi := hb
        obtain ⟨x, hx, ex⟩ := cs_p4 hb
        subst ex
        refine cs_feed (a := a) (v := cs_s k r) hx hT7 (fun xa _ => ?_) (fun xn => ?_)
        · have hq : nI x = nI a := by rw [xa]
          refine cs_log1v (y := nI a) (by rw [pk_us, xa]) (cs_off0 (n := 1) (a := a) (v := 0) (by omega) ha (by rw [pk_uLs]; exact hT1) rfl ?_)
          have K := cs_Kr (p3 := p3) (p4 := nI x) ha hrun e52 e96 e140 (cs_rfa ha hf) c11 c12 ((if_pos hq).symm.trans (cs_i hi)) (if_pos hq).symm ((if_neg nkl).symm.trans (if_pos hq).symm)
          exact cs_top (fun g => cs_fin hp (f0 g) K) (fun g => cs_fin hp (f1 g) K)
        · have hq : ¬ nI x = nI a := fun z => (xn.resolve_right hne) ((nI_eq (by omega) (by omega)).mp z)
          refine cs_log0 (cs_off1 (n := 0) (by omega) ha hT7 hne ?_)
          have K := cs_Kr (p3 := p3) (p4 := nI x) ha hrun e52 e96 e140 (cs_rfa ha hf) c11 c12 ((if_neg hq).symm.trans (cs_i hi)) (if_neg hq).symm (if_neg hq).symm
          exact cs_top (fun g => cs_fin hp (f0 g) K) (fun g => cs_fin hp (f1 g) K)
end
section
theorem i_vc (xs : Nat → Int32) (L : Nat) (hL : L ≤ 5) : wpL_law (fun r => r = 1) L xs :=
  cs_cell hL 0 (by omega) (fun v0 => cs_cell hL 1 (by omega) (fun v1 => cs_cell hL 2 (by omega) (fun v2 => cs_cell hL 3 (by omega) (fun v3 => cs_cell hL 4 (by omega) (fun v4 => ⟨13, 667, by decide, by decide, cs_lawOf rfl v0 v1 v2 v3 v4⟩)))))
end
