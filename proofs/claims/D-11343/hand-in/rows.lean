section
/-! bits: turned from the kit's family on Int32 by its bits -/
def af_bt (x : Int32) (i : Nat) : Bool := x.toBitVec.getLsbD i
theorem af_ext {x y : Int32} (h : ∀ i, i < 32 → af_bt x i = af_bt y i) : x = y := Int32.toBitVec_inj.mp (BitVec.eq_of_getLsbD_eq (fun i hi => h i hi))
theorem af_and (x y : Int32) (i : Nat) : af_bt (x &&& y) i = (af_bt x i && af_bt y i) := by unfold af_bt; rw [Int32.toBitVec_and, BitVec.getLsbD_and]
theorem af_255 : ∀ i, i < 32 → af_bt 255 i = decide (i < 8) := by decide +kernel
theorem af_one : ∀ i, i < 32 → af_bt 1 i = decide (i = 0) := by decide +kernel
theorem af_sl : ∀ n, n < 32 → ((nI n &&& 31).toBitVec.smod 32).toNat = n := by decide +kernel
theorem af_sshr (n : Nat) (hn : n < 32) (x : Int32) {i : Nat} (hi : i < 32) : af_bt (x >>> (nI n &&& 31)) i = if n + i < 32 then af_bt x (n + i) else af_bt x 31 := by
  unfold af_bt
  rw [Int32.toBitVec_shiftRight]
  show (x.toBitVec.sshiftRight ((nI n &&& 31).toBitVec.smod 32).toNat).getLsbD i = _
  rw [af_sl n hn, BitVec.getLsbD_sshiftRight, BitVec.msb_eq_getLsbD_last]
  simp [hi]
/-- the flag's bit is the same whether or not the flags are cut to a byte -/
theorem af_bit (x : Int32) (g : Nat) (hg : g ≤ 7) : ((x &&& 255) >>> (nI g &&& 31)) &&& 1 = (x >>> (nI g &&& 31)) &&& 1 := by
  apply af_ext
  intro i hi
  rw [af_and, af_and, af_one i hi]
  by_cases h : i = 0
  · subst h
    rw [af_sshr g (by omega) _ hi, af_sshr g (by omega) _ hi, if_pos (by omega), if_pos (by omega), af_and, af_255 _ (by omega), decide_eq_true (show g + 0 < 8 by omega), Bool.and_true]
  · rw [decide_eq_false h, Bool.and_false, Bool.and_false]
/-! places and letters -/
theorem af_c0 : (0 : Int32).toNatClampNeg = 0 := by decide
theorem af_c1 : (1 : Int32).toNatClampNeg = 1 := by decide
theorem af_z (c y : Int32) : 0 * c + y = y := by rw [Int32.zero_mul, Int32.zero_add]
theorem af_let (x : Int32) : ∃ j : Nat, j < 8 ∧ 1 + (x &&& 7) = nI (j + 1) := by
  obtain ⟨j, hj, e⟩ := pk_andE x (m := 7) 3 (by decide)
  refine ⟨j, by omega, ?_⟩
  rw [e]
  show nI 1 + nI j = nI (j + 1)
  rw [nI_add, Nat.add_comm]
theorem af_ix0 (p : Nat) : (0 : Int32) * 8 + nI (p + 1) - 1 = nI p := by
  rw [af_z, nI_pred]
theorem af_ix1 (p : Nat) : (1 : Int32) * 8 + nI (p + 1) - 1 = nI (8 + p) := by
  show nI 8 + nI (p + 1) - 1 = nI (8 + p)
  rw [nI_add, show 8 + (p + 1) = (8 + p) + 1 by omega, nI_pred]
theorem af_n9 (j : Nat) (hj : j < 8) : ¬ nI (j + 1) = 9 := fun z => absurd ((nI_eq (b := 9) (by omega) (by decide)).mp z) (by omega)
theorem af_fill {f s : Nat → Int32} {i k : Nat} {x : Int32} (hk : k = i) (h : ∀ j, j < i → s j = f j) (hx : x = f i) : ∀ j, j < i + 1 → upd s k x j = f j := by
  intro j hj
  rw [hk]
  by_cases e : j = i
  · rw [e, pk_us, hx]
  · rw [pk_un e]
    exact h j (by omega)
/-- the children after one stem of one letter: node 1 below the root, nothing else -/
theorem af_ch (j p : Nat) : upd (fun _ => 0) j 1 p = 0 ∨ upd (fun _ => 0) j 1 p = 1 := by
  by_cases e : p = j
  · rw [e, pk_us]
    exact Or.inr rfl
  · rw [pk_un e]
    exact Or.inl rfl
end
section
section
variable {t ru st nd wl il cl fo : Int32} {a1 a2 a3 a4 a5 a6 a7 a8 a9 a10 a11 a12 a13 a14 a15 a16 : Nat → Int32}
theorem af_hasAny {post : Int32 → Prop} (k : Nat) (hk : k ≤ 12) (h : ∀ j, j < k → ¬ a1 j = 9) (hp : post 0) : wpX_hasAny post (nI k, ru, st, nd, wl, il, cl, fo, a1, a2, a3, a4, a5, a6, a7, a8, a9, a10, a11, a12, a13, a14, a15, a16) :=
  (pk_loop (σ := Unit) (fun n i _ => wX_hasAny_2 post (nI k) ru st nd wl il cl fo a1 a2 a3 a4 a5 a6 a7 a8 a9 a10 a11 a12 a13 a14 a15 a16 n (nI i)) (fun _ _ => True) k 0 () (by omega) trivial
    (fun n _ _ => pk_le k k (fun _ => hp) (fun z => absurd z (by omega)))
    (fun n i _ hi _ hw => pk_le k i (fun z => absurd z (by omega)) (fun _ => ⟨pk_in i 12 (by omega), br_f (by rw [nI_clamp (by omega)]; exact h i hi) (nm_r (nI_1 i) (hw () trivial))⟩)) :
    ∃ n, wX_hasAny_2 post (nI k) ru st nd wl il cl fo a1 a2 a3 a4 a5 a6 a7 a8 a9 a10 a11 a12 a13 a14 a15 a16 n (nI 0))
theorem af_type {post : Int32 → St2 → Prop} (k j : Nat) (hk : k < 12) (h1 : 1 ≤ j) (h9 : j ≤ 9) (hp : post (nI (k + 1)) (nI (k + 1), ru, st, nd, wl, il, cl, fo, upd a1 k (nI j), a2, a3, a4, a5, a6, a7, a8, a9, a10, a11, a12, a13, a14, a15, a16)) : wpX_type post (nI k, ru, st, nd, wl, il, cl, fo, a1, a2, a3, a4, a5, a6, a7, a8, a9, a10, a11, a12, a13, a14, a15, a16) (nI j) :=
  pk_lt j 1 (fun z => absurd z (by omega)) (fun _ => pk_le j 9 (fun _ => pk_lt k 12 (fun _ => ⟨pk_in k 12 hk, nm_r (by rw [nI_clamp (by omega)]) (nm_r (nI_1 k) hp)⟩) (fun z => absurd z (by omega))) (fun z => absurd z (by omega)))
theorem af_childOf {post : Int32 → St2 → Prop} (j : Nat) (hj : j < 8) (h0 : a10 j = 0) (hp : post 1 (t, ru, st, 2, wl, il, cl, fo, a1, a2, a3, a4, a5, a6, a7, a8, a9, upd a10 j 1, upd a11 1 (-1), a12, a13, a14, a15, a16)) : wpX_childOf post (t, ru, st, 1, wl, il, cl, fo, a1, a2, a3, a4, a5, a6, a7, a8, a9, a10, a11, a12, a13, a14, a15, a16) 0 (nI (j + 1) - 1) := by
  unfold wpX_childOf
  refine nm_r (e' := nI j) (by rw [af_z, nI_pred]) ⟨pk_in j 1160 (by omega), ?_⟩
  rw [nI_clamp (show j < 2 ^ 31 by omega)]
  refine br_t h0 (br_f (by decide) ⟨pk_in j 1160 (by omega), nm_e ⟨pk_in 1 145 (by decide), nm_r (e' := upd a11 1 (-1)) rfl (nm_r (e' := 2) (by decide) ⟨pk_in j 1160 (by omega), ?_⟩)⟩⟩)
  rw [pk_us]
  exact hp
theorem af_stem {post : Int32 → St2 → Prop} (j : Nat) (x : Int32) (hj : j < 8) (h1 : a1 0 = nI (j + 1)) (h0 : a10 j = 0)
    (hp : post 0 (nI 0, ru, 1, 2, wl, il, cl, fo, a1, a2, a3, a4, a5, a6, a7, a8, upd a9 0 (x &&& 255), upd a10 j 1, upd (upd a11 1 (-1)) 1 0, upd a12 0 (-1), a13, a14, a15, a16)) : wpX_stem post (nI 1, ru, 0, 1, wl, il, cl, fo, a1, a2, a3, a4, a5, a6, a7, a8, a9, a10, a11, a12, a13, a14, a15, a16) x := by
  unfold wpX_stem
  refine af_hasAny 1 (by decide) (fun i hi => ?_) (br_f (by decide) (br_t rfl (br_t (by decide) ⟨2, ?_⟩)))
  · rw [show i = 0 by omega, h1]
    exact af_n9 j hj
  · refine br_f (by decide) ⟨pk_in 0 12 (by decide), ?_⟩
    have e : a1 (0 : Int32).toNatClampNeg - 1 = nI (j + 1) - 1 := by rw [af_c0, h1]
    rw [e]
    refine af_childOf j hj h0 ?_
    refine nm_r (e' := 1) (by decide) (br_t (by decide) ⟨pk_in 0 12 (by decide), nm_r (e' := upd a9 0 (x &&& 255)) rfl ⟨pk_in 0 12 (by decide), nm_r (e' := upd a12 0 (-1)) rfl ?_⟩⟩)
    unfold wpX_chain
    have e2 : ¬ (0 : Int32) ≤ upd a11 1 (-1) (1 : Int32).toNatClampNeg := by
      rw [af_c1, pk_us]
      decide
    exact ⟨pk_in 1 145 (by decide), br_f e2 ⟨pk_in 1 145 (by decide), nm_r (e' := upd (upd a11 1 (-1)) 1 0) rfl (nm_r (e' := 1) (by decide) hp)⟩⟩
theorem af_keep {post : Int32 → St2 → Prop} (j : Nat) (hj : j < 8) (h1 : a1 0 = nI (j + 1)) (hp : post 1 (nI 0, ru, st, nd, wl, il, cl, fo, a1, upd a2 1 1, upd a3 3 (nI (j + 1)), a4, a5, a6, a7, a8, a9, a10, a11, a12, a13, a14, a15, a16)) : wpX_keep post (nI 1, ru, st, nd, wl, il, cl, fo, a1, a2, a3, a4, a5, a6, a7, a8, a9, a10, a11, a12, a13, a14, a15, a16) 1 := by
  unfold wpX_keep
  refine br_f (by decide) (br_t (by decide) (af_hasAny 1 (by decide) (fun i hi => ?_) (br_f (by decide) (br_t rfl ?_))))
  · rw [show i = 0 by omega, h1]
    exact af_n9 j hj
  · unfold wX_keep_37
    have e : upd a3 ((1 : Int32) * 3 + 0).toNatClampNeg (a1 (0 : Int32).toNatClampNeg) = upd a3 3 (nI (j + 1)) := by
      rw [af_c0, h1, show ((1 : Int32) * 3 + 0).toNatClampNeg = 3 by decide]
    refine ⟨pk_in 1 3 (by decide), nm_r (e' := upd a2 1 1) rfl ⟨2, br_f (by decide) ⟨pk_in 0 12 (by decide), pk_in 3 9 (by decide), nm_r e (nm_r (e' := 1) (by decide) (br_t (by decide) ⟨pk_in 1 3 (by decide), ?_⟩))⟩⟩⟩
    rw [af_c1, pk_us]
    exact hp
theorem af_ruleBad {post : Int32 → St2 → Prop} (x p1 p2 : Int32) (h : x < 0 ∨ ¬ x ≤ 7) (hp : post (-5) (t, ru, st, nd, wl, il, cl, fo, a1, a2, a3, a4, a5, a6, a7, a8, a9, a10, a11, a12, a13, a14, a15, a16)) : wpX_rule post (t, ru, st, nd, wl, il, cl, fo, a1, a2, a3, a4, a5, a6, a7, a8, a9, a10, a11, a12, a13, a14, a15, a16) x p1 p2 := by
  unfold wpX_rule
  refine br_c (fun _ => hp) (fun z => ?_)
  rcases h with h | h
  · exact absurd h z
  · exact br_f h hp
theorem af_rule {post : Int32 → St2 → Prop} (g : Nat) (hg : g ≤ 7) (p1 p2 : Int32)
    (hp : ∀ c7 c8, (∀ j, j < 3 → c7 j = a2 j) → (∀ j, j < 9 → c8 j = a3 j) → post 0 (t, 1, st, nd, wl, il, cl, fo, a1, a2, a3, upd a4 0 (nI g), upd a5 0 (vp_nar .boolean p1), upd a6 0 (vp_nar .boolean p2), c7, c8, a9, a10, a11, a12, a13, a14, a15, a16)) : wpX_rule post (t, 0, st, nd, wl, il, cl, fo, a1, a2, a3, a4, a5, a6, a7, a8, a9, a10, a11, a12, a13, a14, a15, a16) (nI g) p1 p2 := by
  unfold wpX_rule
  refine pk_lt g 0 (fun z => absurd z (by omega)) (fun _ => pk_le g 7 (fun _ => br_t (by decide) ⟨pk_in 0 10 (by decide), nm_r (e' := upd a4 0 (nI g)) rfl ⟨pk_in 0 10 (by decide), nm_r (e' := upd a5 0 (vp_nar .boolean p1)) rfl ⟨pk_in 0 10 (by decide), nm_r (e' := upd a6 0 (vp_nar .boolean p2)) rfl ?_⟩⟩⟩) (fun z => absurd z (by omega)))
  refine pk_loop (fun n i s => wX_rule_58 post 0 t 0 st nd wl il cl fo n (nI i) a1 a2 a3 (upd a4 0 (nI g)) (upd a5 0 (vp_nar .boolean p1)) (upd a6 0 (vp_nar .boolean p2)) s a8 a9 a10 a11 a12 a13 a14 a15 a16) (fun i s => ∀ j, j < i → s j = a2 j) 3 0 a7 (by omega) (fun j hj => absurd hj (by omega))
    (fun n s h => pk_le 3 3 (fun _ => ?_) (fun z => absurd z (by omega)))
    (fun n i s hi h hw => pk_le 3 i (fun z => absurd z (by omega)) (fun _ => ⟨pk_in i 3 hi, pk_in i 30 (by omega) (af_z 3 (nI i)), nm_e (nm_r (nI_1 i) (hw _ (af_fill (by rw [af_z, nI_clamp (by omega)]) h (by rw [nI_clamp (by omega)]))))⟩))
  exact pk_loop (fun n i s' => wX_rule_92 post 0 t 0 st nd wl il cl fo n (nI i) a1 a2 a3 (upd a4 0 (nI g)) (upd a5 0 (vp_nar .boolean p1)) (upd a6 0 (vp_nar .boolean p2)) s s' a9 a10 a11 a12 a13 a14 a15 a16) (fun i s' => ∀ j, j < i → s' j = a3 j) 9 0 a8 (by omega) (fun j hj => absurd hj (by omega))
    (fun n s' h' => pk_le 9 9 (fun _ => nm_r (e' := 1) (by decide) (hp s s' h h')) (fun z => absurd z (by omega)))
    (fun n i s' hi h' hw => pk_le 9 i (fun z => absurd z (by omega)) (fun _ => ⟨pk_in i 9 hi, pk_in i 90 (by omega) (af_z 9 (nI i)), nm_e (nm_r (nI_1 i) (hw _ (af_fill (by rw [af_z, nI_clamp (by omega)]) h' (by rw [nI_clamp (by omega)]))))⟩))
end
end
section
section
variable {t ru st nd wl il cl fo : Int32} {a1 a2 a3 a4 a5 a6 a7 a8 a9 a10 a11 a12 a13 a14 a15 a16 : Nat → Int32}
theorem af_find2 {post : Int32 → Prop} (p q : Nat) (hp : p < 8) (hq : q < 8) (h0 : a15 0 = nI (p + 1)) (h1 : a15 1 = nI (q + 1)) (hc : a10 p = 0 ∨ a10 p = 1) (hz : a10 (8 + q) = 0) (H : post (-1)) : wpX_findCore post (t, ru, st, nd, wl, il, 2, fo, a1, a2, a3, a4, a5, a6, a7, a8, a9, a10, a11, a12, a13, a14, a15, a16) := by
  unfold wpX_findCore
  refine ⟨3, br_f (by decide) ⟨pk_in 0 20 (by decide), ?_⟩⟩
  have e : (0 : Int32) * 8 + a15 (0 : Int32).toNatClampNeg - 1 = nI p := by rw [af_c0, h0, af_ix0]
  rw [e, nI_clamp (show p < 2 ^ 31 by omega)]
  refine ⟨pk_in p 1160 (by omega), ?_⟩
  rcases hc with c | c
  · exact nm_r c (br_t rfl H)
  · refine nm_r c (br_f (by decide) (nm_r (e' := 1) (by decide) (br_f (by decide) ⟨pk_in 1 20 (by decide), ?_⟩)))
    have e2 : (1 : Int32) * 8 + a15 (1 : Int32).toNatClampNeg - 1 = nI (8 + q) := by rw [af_c1, h1, af_ix1]
    rw [e2, nI_clamp (show 8 + q < 2 ^ 31 by omega)]
    exact ⟨pk_in (8 + q) 1160 (by omega), nm_r hz (br_t rfl H)⟩
theorem af_find1 {post : Int32 → Prop} (j : Nat) (hj : j < 8) (h0 : a15 0 = nI (j + 1)) (hc : a10 j = 1) (H : post 1) : wpX_findCore post (t, ru, st, nd, wl, il, 1, fo, a1, a2, a3, a4, a5, a6, a7, a8, a9, a10, a11, a12, a13, a14, a15, a16) := by
  unfold wpX_findCore
  refine ⟨2, br_f (by decide) ⟨pk_in 0 20 (by decide), ?_⟩⟩
  have e : (0 : Int32) * 8 + a15 (0 : Int32).toNatClampNeg - 1 = nI j := by rw [af_c0, h0, af_ix0]
  rw [e, nI_clamp (show j < 2 ^ 31 by omega)]
  exact ⟨pk_in j 1160 (by omega), nm_r hc (br_f (by decide) (nm_r (e' := 1) (by decide) (br_t (by decide) H)))⟩
theorem af_take2 {post : St2 → Prop} {x y : Int32} (p q : Nat) (hp : p < 8) (hq : q < 8) (h0 : a15 0 = nI (p + 1)) (h1 : a15 1 = nI (q + 1)) (hc : a10 p = 0 ∨ a10 p = 1) (hz : a10 (8 + q) = 0) (H : post (t, ru, st, nd, wl, il, 2, fo, a1, a2, a3, a4, a5, a6, a7, a8, a9, a10, a11, a12, a13, a14, a15, a16)) : wpX_takeStems post (t, ru, st, nd, wl, il, 2, fo, a1, a2, a3, a4, a5, a6, a7, a8, a9, a10, a11, a12, a13, a14, a15, a16) x y := by
  unfold wpX_takeStems
  exact af_find2 p q hp hq h0 h1 hc hz (br_f (by decide) H)
/-- a stem found by the suffix rule 0 -/
theorem af_takeS {post : St2 → Prop} (j : Nat) (hj : j < 8) (h0 : a15 0 = nI (j + 1)) (hc : a10 j = 1) (h11 : a11 1 = 0) (h12 : a12 0 = -1)
    (H1 : (a9 0 >>> (a4 0 &&& 31)) &&& 1 = 1 → post (t, ru, st, nd, wl, il, 1, 1, a1, a2, a3, a4, a5, a6, a7, a8, a9, a10, a11, a12, a13, a14, a15, upd a16 0 11)) (H0 : ¬ (a9 0 >>> (a4 0 &&& 31)) &&& 1 = 1 → post (t, ru, st, nd, wl, il, 1, 0, a1, a2, a3, a4, a5, a6, a7, a8, a9, a10, a11, a12, a13, a14, a15, a16)) : wpX_takeStems post (t, ru, st, nd, wl, il, 1, 0, a1, a2, a3, a4, a5, a6, a7, a8, a9, a10, a11, a12, a13, a14, a15, a16) 0 (-1) := by
  unfold wpX_takeStems
  refine af_find1 j hj h0 hc (br_t (by decide) ⟨pk_in 1 145 (by decide), nm_r (e' := 0) h11 ⟨2, br_f (by decide) (br_f (by decide) ?_)⟩⟩)
  unfold wpX_allows
  refine br_f (by decide) ⟨pk_in 0 12 (by decide), pk_in 0 10 (by decide), br_c (fun z => br_f (by decide) ?_) (fun z => br_t rfl ?_)⟩
  · refine br_t (by decide) ?_
    unfold wX_takeStems_56
    refine br_f (by decide) ?_
    unfold wpX_addFound
    refine br_t (by decide) ⟨1, br_t (by decide) ?_⟩
    unfold wX_addFound_52
    exact ⟨pk_in 0 440 (by decide), nm_r (e' := upd a16 0 11) rfl (nm_r (e' := 1) (by decide) ⟨pk_in 0 12 (by decide), nm_r (e' := -1) h12 (nm_e (br_f (by decide) (br_t (by decide) (H1 z))))⟩)⟩
  · unfold wX_takeStems_56
    exact br_t rfl ⟨pk_in 0 12 (by decide), nm_r (e' := -1) h12 (nm_e (br_f (by decide) (br_t (by decide) (H0 z))))⟩
/-- a stem found by the prefix rule 0 -/
theorem af_takeP {post : St2 → Prop} (j : Nat) (hj : j < 8) (h0 : a15 0 = nI (j + 1)) (hc : a10 j = 1) (h11 : a11 1 = 0) (h12 : a12 0 = -1)
    (H1 : (a9 0 >>> (a4 0 &&& 31)) &&& 1 = 1 → post (t, ru, st, nd, wl, il, 1, 1, a1, a2, a3, a4, a5, a6, a7, a8, a9, a10, a11, a12, a13, a14, a15, upd a16 0 1)) (H0 : ¬ (a9 0 >>> (a4 0 &&& 31)) &&& 1 = 1 → post (t, ru, st, nd, wl, il, 1, 0, a1, a2, a3, a4, a5, a6, a7, a8, a9, a10, a11, a12, a13, a14, a15, a16)) : wpX_takeStems post (t, ru, st, nd, wl, il, 1, 0, a1, a2, a3, a4, a5, a6, a7, a8, a9, a10, a11, a12, a13, a14, a15, a16) (-1) 0 := by
  unfold wpX_takeStems
  refine af_find1 j hj h0 hc (br_t (by decide) ⟨pk_in 1 145 (by decide), nm_r (e' := 0) h11 ⟨2, br_f (by decide) (br_f (by decide) ?_)⟩⟩)
  unfold wpX_allows
  refine br_t (by decide) (br_f (by decide) (br_f (by decide) ⟨pk_in 0 12 (by decide), pk_in 0 10 (by decide), br_c (fun z => ?_) (fun z => ?_)⟩))
  · unfold wX_takeStems_56
    refine br_f (by decide) ?_
    unfold wpX_addFound
    refine br_t (by decide) ⟨1, br_t (by decide) ?_⟩
    unfold wX_addFound_52
    exact ⟨pk_in 0 440 (by decide), nm_r (e' := upd a16 0 1) rfl (nm_r (e' := 1) (by decide) ⟨pk_in 0 12 (by decide), nm_r (e' := -1) h12 (nm_e (br_f (by decide) (br_t (by decide) (H1 z))))⟩)⟩
  · unfold wX_takeStems_56
    exact br_t rfl ⟨pk_in 0 12 (by decide), nm_r (e' := -1) h12 (nm_e (br_f (by decide) (br_t (by decide) (H0 z))))⟩
theorem af_undoS {post : Int32 → St2 → Prop} (h70 : a7 0 = 0) (h71 : a7 1 = 1) (h72 : a7 2 = 0) (he : a14 1 = a8 3) (H : post 1 (t, ru, st, nd, wl, 2, 1, fo, a1, a2, a3, a4, a5, a6, a7, a8, a9, a10, a11, a12, a13, a14, upd a15 0 (a14 0), a16)) : wpX_undoSuffix post (t, ru, st, nd, wl, 2, cl, fo, a1, a2, a3, a4, a5, a6, a7, a8, a9, a10, a11, a12, a13, a14, a15, a16) 0 := by
  unfold wpX_undoSuffix
  refine ⟨pk_in 1 30 (by decide), nm_r (e' := 1) h71 ⟨pk_in 0 30 (by decide), nm_r (e' := 0) h70 (nm_r (e' := 1) (by decide) (br_t (by decide) ⟨2, ?_⟩))⟩⟩
  refine br_f (by decide) ⟨pk_in 1 16 (by decide), pk_in 3 90 (by decide), br_t he (nm_r (e' := 1) (by decide) (br_t (by decide) ⟨2, ?_⟩))⟩
  refine br_f (by decide) ⟨pk_in 0 16 (by decide), pk_in 0 20 (by decide), nm_r (e' := upd a15 0 (a14 0)) rfl (nm_r (e' := 1) (by decide) (br_t (by decide) ⟨1, ?_⟩))⟩
  refine br_t (by decide) (nm_r (e' := 1) (by decide) ⟨pk_in 2 30 (by decide), nm_r (e' := 0) h72 (br_t (by decide) ⟨1, ?_⟩)⟩)
  exact br_t (by decide) H
theorem af_undoP {post : Int32 → St2 → Prop} (h70 : a7 0 = 0) (h71 : a7 1 = 1) (h72 : a7 2 = 0) (he : a13 0 = a8 3) (H : post 1 (t, ru, st, nd, 2, 1, cl, fo, a1, a2, a3, a4, a5, a6, a7, a8, a9, a10, a11, a12, a13, upd a14 0 (a13 1), a15, a16)) : wpX_undoPrefix post (t, ru, st, nd, 2, il, cl, fo, a1, a2, a3, a4, a5, a6, a7, a8, a9, a10, a11, a12, a13, a14, a15, a16) 0 := by
  unfold wpX_undoPrefix
  refine ⟨pk_in 1 30 (by decide), nm_r (e' := 1) h71 ⟨pk_in 0 30 (by decide), nm_r (e' := 0) h70 (br_t (by decide) ⟨2, ?_⟩)⟩⟩
  refine br_f (by decide) ⟨pk_in 0 13 (by decide), pk_in 3 90 (by decide), br_t he (nm_r (e' := 1) (by decide) (br_t (by decide) ⟨1, ?_⟩))⟩
  refine br_t (by decide) ⟨2, ?_⟩
  refine br_f (by decide) ⟨pk_in 1 13 (by decide), pk_in 0 16 (by decide), nm_r (e' := upd a14 0 (a13 1)) rfl (nm_r (e' := 2) (by decide) (br_t (by decide) ?_))⟩
  refine nm_r (e' := 1) (by decide) ⟨pk_in 2 30 (by decide), nm_r (e' := 0) h72 (br_t (by decide) ⟨1, ?_⟩)⟩
  exact br_t (by decide) H
end
end
section
section
variable {t ru st nd wl il cl fo : Int32} {a1 a2 a3 a4 a5 a6 a7 a8 a9 a10 a11 a12 a13 a14 a15 a16 : Nat → Int32}
/-! searchSuffixes -/
theorem af_ssN {post : St2 → Prop} (p q : Nat) (hp : p < 8) (hq : q < 8) (h0 : a14 0 = nI (p + 1)) (h1 : a14 1 = nI (q + 1)) (hc : a10 p = 0 ∨ a10 p = 1) (hz : a10 (8 + q) = 0) (hr : ru = 0 ∨ (ru = 1 ∧ a5 0 = 0))
    (H : ∀ c15, post (t, ru, st, nd, wl, 2, 2, fo, a1, a2, a3, a4, a5, a6, a7, a8, a9, a10, a11, a12, a13, a14, c15, a16)) : wpX_searchSuffixes post (t, ru, st, nd, wl, 2, cl, fo, a1, a2, a3, a4, a5, a6, a7, a8, a9, a10, a11, a12, a13, a14, a15, a16) (-1) := by
  unfold wpX_searchSuffixes
  refine ⟨3, br_f (by decide) ⟨pk_in 0 16 (by decide), pk_in 0 20 (by decide), nm_r (e' := upd a15 0 (a14 0)) rfl (nm_r (e' := 1) (by decide) (br_f (by decide) ⟨pk_in 1 16 (by decide), pk_in 1 20 (by decide), nm_r (e' := upd (upd a15 0 (a14 0)) 1 (a14 1)) rfl (nm_r (e' := 2) (by decide) (br_t (by decide) ?_))⟩))⟩⟩
  refine af_take2 (a15 := upd (upd a15 0 (a14 0)) 1 (a14 1)) p q hp hq h0 h1 hc hz ?_
  rcases hr with hr | ⟨hr, h5⟩
  · subst hr
    exact ⟨1, br_t (by decide) (H _)⟩
  · subst hr
    exact ⟨2, br_f (by decide) ⟨pk_in 0 10 (by decide), br_t h5 (nm_r (e' := 1) (by decide) (br_t (by decide) (H _)))⟩⟩
theorem af_ssS {post : St2 → Prop} (j q : Nat) (hj : j < 8) (hq : q < 8) (h0 : a14 0 = nI (j + 1)) (h1 : a14 1 = nI (q + 1)) (hc : a10 j = 1) (hz : a10 (8 + q) = 0) (h11 : a11 1 = 0) (h12 : a12 0 = -1) (h5 : a5 0 = 1)
    (h70 : a7 0 = 0) (h71 : a7 1 = 1) (h72 : a7 2 = 0) (h83 : a8 3 = nI (q + 1))
    (H1 : (a9 0 >>> (a4 0 &&& 31)) &&& 1 = 1 → ∀ c15, post (t, 1, st, nd, wl, 2, 1, 1, a1, a2, a3, a4, a5, a6, a7, a8, a9, a10, a11, a12, a13, a14, c15, upd a16 0 11)) (H0 : ¬ (a9 0 >>> (a4 0 &&& 31)) &&& 1 = 1 → ∀ c15, post (t, 1, st, nd, wl, 2, 1, 0, a1, a2, a3, a4, a5, a6, a7, a8, a9, a10, a11, a12, a13, a14, c15, a16)) :
    wpX_searchSuffixes post (t, 1, st, nd, wl, 2, cl, 0, a1, a2, a3, a4, a5, a6, a7, a8, a9, a10, a11, a12, a13, a14, a15, a16) (-1) := by
  unfold wpX_searchSuffixes
  refine ⟨3, br_f (by decide) ⟨pk_in 0 16 (by decide), pk_in 0 20 (by decide), nm_r (e' := upd a15 0 (a14 0)) rfl (nm_r (e' := 1) (by decide) (br_f (by decide) ⟨pk_in 1 16 (by decide), pk_in 1 20 (by decide), nm_r (e' := upd (upd a15 0 (a14 0)) 1 (a14 1)) rfl (nm_r (e' := 2) (by decide) (br_t (by decide) ?_))⟩))⟩⟩
  refine af_take2 (a15 := upd (upd a15 0 (a14 0)) 1 (a14 1)) j q hj hq h0 h1 (Or.inr hc) hz ?_
  refine ⟨2, br_f (by decide) ⟨pk_in 0 10 (by decide), br_f (fun z => absurd (h5.symm.trans z) (by decide)) (br_t (by decide) ?_)⟩⟩
  unfold wX_searchSuffixes_83
  refine af_undoS h70 h71 h72 (h1.trans h83.symm) ?_
  refine br_f (by decide) ?_
  refine af_takeS (a15 := upd (upd (upd a15 0 (a14 0)) 1 (a14 1)) 0 (a14 0)) j hj h0 hc h11 h12 (fun z => ?_) (fun z => ?_)
  · exact nm_r (e' := 1) (by decide) (br_t (by decide) (H1 z _))
  · exact nm_r (e' := 1) (by decide) (br_t (by decide) (H0 z _))
theorem af_ssP {post : St2 → Prop} (j : Nat) (hj : j < 8) (h0 : a14 0 = nI (j + 1)) (hc : a10 j = 1) (h11 : a11 1 = 0) (h12 : a12 0 = -1) (h5 : a5 0 = 0)
    (H1 : (a9 0 >>> (a4 0 &&& 31)) &&& 1 = 1 → ∀ c15, post (t, 1, st, nd, wl, 1, 1, 1, a1, a2, a3, a4, a5, a6, a7, a8, a9, a10, a11, a12, a13, a14, c15, upd a16 0 1)) (H0 : ¬ (a9 0 >>> (a4 0 &&& 31)) &&& 1 = 1 → ∀ c15, post (t, 1, st, nd, wl, 1, 1, 0, a1, a2, a3, a4, a5, a6, a7, a8, a9, a10, a11, a12, a13, a14, c15, a16)) :
    wpX_searchSuffixes post (t, 1, st, nd, wl, 1, cl, 0, a1, a2, a3, a4, a5, a6, a7, a8, a9, a10, a11, a12, a13, a14, a15, a16) 0 := by
  unfold wpX_searchSuffixes
  refine ⟨2, br_f (by decide) ⟨pk_in 0 16 (by decide), pk_in 0 20 (by decide), nm_r (e' := upd a15 0 (a14 0)) rfl (nm_r (e' := 1) (by decide) (br_t (by decide) ?_))⟩⟩
  refine af_takeP (a15 := upd a15 0 (a14 0)) j hj h0 hc h11 h12 (fun z => ?_) (fun z => ?_)
  · exact ⟨2, br_f (by decide) ⟨pk_in 0 10 (by decide), br_t h5 (nm_r (e' := 1) (by decide) (br_t (by decide) (H1 z _)))⟩⟩
  · exact ⟨2, br_f (by decide) ⟨pk_in 0 10 (by decide), br_t h5 (nm_r (e' := 1) (by decide) (br_t (by decide) (H0 z _)))⟩⟩
/-! search -/
theorem af_srN {post : St2 → Prop} (p q : Nat) (hp : p < 8) (hq : q < 8) (h0 : a13 0 = nI (p + 1)) (h1 : a13 1 = nI (q + 1)) (hc : a10 p = 0 ∨ a10 p = 1) (hz : a10 (8 + q) = 0)
    (H : ∀ c14 c15, post (t, 0, st, nd, 2, 2, 2, 0, a1, a2, a3, a4, a5, a6, a7, a8, a9, a10, a11, a12, a13, c14, c15, a16)) : wpX_search post (t, 0, st, nd, 2, il, cl, fo, a1, a2, a3, a4, a5, a6, a7, a8, a9, a10, a11, a12, a13, a14, a15, a16) := by
  unfold wpX_search
  refine br_f (by decide) ⟨3, br_f (by decide) ⟨pk_in 0 13 (by decide), pk_in 0 16 (by decide), nm_r (e' := upd a14 0 (a13 0)) rfl (nm_r (e' := 1) (by decide) (br_f (by decide) ⟨pk_in 1 13 (by decide), pk_in 1 16 (by decide), nm_r (e' := upd (upd a14 0 (a13 0)) 1 (a13 1)) rfl (nm_r (e' := 2) (by decide) (br_t (by decide) ?_))⟩))⟩⟩
  refine af_ssN (a14 := upd (upd a14 0 (a13 0)) 1 (a13 1)) p q hp hq h0 h1 hc hz (Or.inl rfl) (fun c15 => ?_)
  exact ⟨1, br_t (by decide) (H _ _)⟩
theorem af_srS {post : St2 → Prop} (j q : Nat) (hj : j < 8) (hq : q < 8) (h0 : a13 0 = nI (j + 1)) (h1 : a13 1 = nI (q + 1)) (hc : a10 j = 1) (hz : a10 (8 + q) = 0) (h11 : a11 1 = 0) (h12 : a12 0 = -1) (h5 : a5 0 = 1)
    (h70 : a7 0 = 0) (h71 : a7 1 = 1) (h72 : a7 2 = 0) (h83 : a8 3 = nI (q + 1))
    (H1 : (a9 0 >>> (a4 0 &&& 31)) &&& 1 = 1 → ∀ c14 c15, post (t, 1, st, nd, 2, 2, 1, 1, a1, a2, a3, a4, a5, a6, a7, a8, a9, a10, a11, a12, a13, c14, c15, upd a16 0 11)) (H0 : ¬ (a9 0 >>> (a4 0 &&& 31)) &&& 1 = 1 → ∀ c14 c15, post (t, 1, st, nd, 2, 2, 1, 0, a1, a2, a3, a4, a5, a6, a7, a8, a9, a10, a11, a12, a13, c14, c15, a16)) :
    wpX_search post (t, 1, st, nd, 2, il, cl, fo, a1, a2, a3, a4, a5, a6, a7, a8, a9, a10, a11, a12, a13, a14, a15, a16) := by
  unfold wpX_search
  refine br_f (by decide) ⟨3, br_f (by decide) ⟨pk_in 0 13 (by decide), pk_in 0 16 (by decide), nm_r (e' := upd a14 0 (a13 0)) rfl (nm_r (e' := 1) (by decide) (br_f (by decide) ⟨pk_in 1 13 (by decide), pk_in 1 16 (by decide), nm_r (e' := upd (upd a14 0 (a13 0)) 1 (a13 1)) rfl (nm_r (e' := 2) (by decide) (br_t (by decide) ?_))⟩))⟩⟩
  refine af_ssS (a14 := upd (upd a14 0 (a13 0)) 1 (a13 1)) j q hj hq h0 h1 hc hz h11 h12 h5 h70 h71 h72 h83 (fun z c15 => ?_) (fun z c15 => ?_)
  · exact ⟨2, br_f (by decide) ⟨pk_in 0 10 (by decide), br_f (fun z => absurd (h5.symm.trans z) (by decide)) (nm_r (e' := 1) (by decide) (br_t (by decide) (H1 z _ _)))⟩⟩
  · exact ⟨2, br_f (by decide) ⟨pk_in 0 10 (by decide), br_f (fun z => absurd (h5.symm.trans z) (by decide)) (nm_r (e' := 1) (by decide) (br_t (by decide) (H0 z _ _)))⟩⟩
theorem af_srP {post : St2 → Prop} (j q : Nat) (hj : j < 8) (hq : q < 8) (h0 : a13 0 = nI (q + 1)) (h1 : a13 1 = nI (j + 1)) (hc : a10 j = 1) (hcq : a10 q = 0 ∨ a10 q = 1) (hz : a10 (8 + j) = 0) (h11 : a11 1 = 0) (h12 : a12 0 = -1) (h5 : a5 0 = 0)
    (h70 : a7 0 = 0) (h71 : a7 1 = 1) (h72 : a7 2 = 0) (h83 : a8 3 = nI (q + 1))
    (H1 : (a9 0 >>> (a4 0 &&& 31)) &&& 1 = 1 → ∀ c14 c15, post (t, 1, st, nd, 2, 1, 1, 1, a1, a2, a3, a4, a5, a6, a7, a8, a9, a10, a11, a12, a13, c14, c15, upd a16 0 1)) (H0 : ¬ (a9 0 >>> (a4 0 &&& 31)) &&& 1 = 1 → ∀ c14 c15, post (t, 1, st, nd, 2, 1, 1, 0, a1, a2, a3, a4, a5, a6, a7, a8, a9, a10, a11, a12, a13, c14, c15, a16)) :
    wpX_search post (t, 1, st, nd, 2, il, cl, fo, a1, a2, a3, a4, a5, a6, a7, a8, a9, a10, a11, a12, a13, a14, a15, a16) := by
  unfold wpX_search
  refine br_f (by decide) ⟨3, br_f (by decide) ⟨pk_in 0 13 (by decide), pk_in 0 16 (by decide), nm_r (e' := upd a14 0 (a13 0)) rfl (nm_r (e' := 1) (by decide) (br_f (by decide) ⟨pk_in 1 13 (by decide), pk_in 1 16 (by decide), nm_r (e' := upd (upd a14 0 (a13 0)) 1 (a13 1)) rfl (nm_r (e' := 2) (by decide) (br_t (by decide) ?_))⟩))⟩⟩
  refine af_ssN (a14 := upd (upd a14 0 (a13 0)) 1 (a13 1)) q j hq hj h0 h1 hcq hz (Or.inr ⟨rfl, h5⟩) (fun c15 => ?_)
  refine ⟨2, br_f (by decide) ⟨pk_in 0 10 (by decide), br_t h5 ?_⟩⟩
  refine af_undoP h70 h71 h72 (h0.trans h83.symm) ?_
  refine br_f (by decide) ?_
  refine af_ssP (a14 := upd (upd (upd a14 0 (a13 0)) 1 (a13 1)) 0 (a13 1)) j hj h1 hc h11 h12 h5 (fun z c15 => ?_) (fun z c15 => ?_)
  · exact nm_r (e' := 1) (by decide) (br_t (by decide) (H1 z _ _))
  · exact nm_r (e' := 1) (by decide) (br_t (by decide) (H0 z _ _))
end
end
section
/-- what a search of the buffer's word leaves: the found ones and the list as Q says, the rest of the state as it was but for the working places -/
def af_Hs (Q : Int32 → (Nat → Int32) → Prop) (t ru st nd : Int32) (a1 a2 a3 a4 a5 a6 a7 a8 a9 a10 a11 a12 : Nat → Int32) : Prop :=
  ∀ (post : St2 → Prop) (wl il cl fo : Int32) (a13 a14 a15 a16 : Nat → Int32), (∀ (wl il cl fo : Int32) (a13 a14 a15 a16 : Nat → Int32), Q fo a16 → post (t, ru, st, nd, wl, il, cl, fo, a1, a2, a3, a4, a5, a6, a7, a8, a9, a10, a11, a12, a13, a14, a15, a16)) → wpX_searchTyped post (t, ru, st, nd, wl, il, cl, fo, a1, a2, a3, a4, a5, a6, a7, a8, a9, a10, a11, a12, a13, a14, a15, a16)
section
variable {t ru st nd wl il cl fo : Int32} {a1 a2 a3 a4 a5 a6 a7 a8 a9 a10 a11 a12 a13 a14 a15 a16 : Nat → Int32}
theorem af_w2 {p q : Nat} (hp : p < 8) (hq : q < 8) (h0 : a1 0 = nI (p + 1)) (h1 : a1 1 = nI (q + 1)) : ∀ i, i < 2 → ¬ a1 i = 9 := by
  intro i hi
  by_cases e : i = 0
  · rw [e, h0]
    exact af_n9 p hp
  · rw [show i = 1 by omega, h1]
    exact af_n9 q hq
theorem af_stC {post : St2 → Prop} (p q : Nat) (hp : p < 8) (hq : q < 8) (h0 : a1 0 = nI (p + 1)) (h1 : a1 1 = nI (q + 1))
    (H : ∀ post', (∀ u, post u → post' u) → wpX_search post' (nI 2, ru, st, nd, 2, il, cl, fo, a1, a2, a3, a4, a5, a6, a7, a8, a9, a10, a11, a12, upd (upd a13 0 (a1 0)) 1 (a1 1), a14, a15, a16)) : wpX_searchTyped post (nI 2, ru, st, nd, wl, il, cl, fo, a1, a2, a3, a4, a5, a6, a7, a8, a9, a10, a11, a12, a13, a14, a15, a16) := by
  unfold wpX_searchTyped
  refine af_hasAny 2 (by decide) (af_w2 hp hq h0 h1) (br_t rfl ⟨3, ?_⟩)
  refine br_f (by decide) ⟨pk_in 0 12 (by decide), pk_in 0 13 (by decide), nm_r (e' := upd a13 0 (a1 0)) rfl (nm_r (e' := 1) (by decide) (br_f (by decide) ⟨pk_in 1 12 (by decide), pk_in 1 13 (by decide), nm_r (e' := upd (upd a13 0 (a1 0)) 1 (a1 1)) rfl (nm_r (e' := 2) (by decide) (br_t (by decide) ?_))⟩))⟩
  exact H _ (fun u hu => hu)
theorem af_stN (p q : Nat) (hp : p < 8) (hq : q < 8) (h0 : a1 0 = nI (p + 1)) (h1 : a1 1 = nI (q + 1)) (hc : a10 p = 0 ∨ a10 p = 1) (hz : a10 (8 + q) = 0) : af_Hs (fun fo _ => fo = 0) (nI 2) 0 st nd a1 a2 a3 a4 a5 a6 a7 a8 a9 a10 a11 a12 := by
  intro post wl il cl fo a13 a14 a15 a16 H
  refine af_stC p q hp hq h0 h1 (fun post' hp' => ?_)
  exact af_srN p q hp hq h0 h1 hc hz (fun c14 c15 => hp' _ (H _ _ _ _ _ _ _ _ rfl))
theorem af_stS {Q : Int32 → (Nat → Int32) → Prop} (j q : Nat) (hj : j < 8) (hq : q < 8) (h0 : a1 0 = nI (j + 1)) (h1 : a1 1 = nI (q + 1)) (hc : a10 j = 1) (hz : a10 (8 + q) = 0) (h11 : a11 1 = 0) (h12 : a12 0 = -1) (h5 : a5 0 = 1)
    (h70 : a7 0 = 0) (h71 : a7 1 = 1) (h72 : a7 2 = 0) (h83 : a8 3 = nI (q + 1))
    (H1 : (a9 0 >>> (a4 0 &&& 31)) &&& 1 = 1 → ∀ c, Q 1 (upd c 0 11)) (H0 : ¬ (a9 0 >>> (a4 0 &&& 31)) &&& 1 = 1 → ∀ c, Q 0 c) : af_Hs Q (nI 2) 1 st nd a1 a2 a3 a4 a5 a6 a7 a8 a9 a10 a11 a12 := by
  intro post wl il cl fo a13 a14 a15 a16 H
  refine af_stC j q hj hq h0 h1 (fun post' hp' => ?_)
  exact af_srS j q hj hq h0 h1 hc hz h11 h12 h5 h70 h71 h72 h83 (fun z c14 c15 => hp' _ (H _ _ _ _ _ _ _ _ (H1 z _))) (fun z c14 c15 => hp' _ (H _ _ _ _ _ _ _ _ (H0 z _)))
theorem af_stP {Q : Int32 → (Nat → Int32) → Prop} (j q : Nat) (hj : j < 8) (hq : q < 8) (h0 : a1 0 = nI (q + 1)) (h1 : a1 1 = nI (j + 1)) (hc : a10 j = 1) (hcq : a10 q = 0 ∨ a10 q = 1) (hz : a10 (8 + j) = 0) (h11 : a11 1 = 0) (h12 : a12 0 = -1) (h5 : a5 0 = 0)
    (h70 : a7 0 = 0) (h71 : a7 1 = 1) (h72 : a7 2 = 0) (h83 : a8 3 = nI (q + 1))
    (H1 : (a9 0 >>> (a4 0 &&& 31)) &&& 1 = 1 → ∀ c, Q 1 (upd c 0 1)) (H0 : ¬ (a9 0 >>> (a4 0 &&& 31)) &&& 1 = 1 → ∀ c, Q 0 c) : af_Hs Q (nI 2) 1 st nd a1 a2 a3 a4 a5 a6 a7 a8 a9 a10 a11 a12 := by
  intro post wl il cl fo a13 a14 a15 a16 H
  refine af_stC q j hq hj h0 h1 (fun post' hp' => ?_)
  exact af_srP j q hj hq h0 h1 hc hcq hz h11 h12 h5 h70 h71 h72 h83 (fun z c14 c15 => hp' _ (H _ _ _ _ _ _ _ _ (H1 z _))) (fun z c14 c15 => hp' _ (H _ _ _ _ _ _ _ _ (H0 z _)))
/-! the law's three questions -/
theorem af_tail0 {post : Int32 → St0 → Prop} {mc ms kc ks : Nat} {x8 : Int32} (Hs : af_Hs (fun fo _ => fo = 0) t ru st nd a1 a2 a3 a4 a5 a6 a7 a8 a9 a10 a11 a12) (hP : post 1 ()) : wL_lawOf_170 post mc ms x8 0 kc ks t ru st nd wl il cl fo a1 a2 a3 a4 a5 a6 a7 a8 a9 a10 a11 a12 a13 a14 a15 a16 := by
  unfold wL_lawOf_170 wpX_derivations
  refine Hs _ _ _ _ _ _ _ _ _ (fun wl il cl fo a13 a14 a15 a16 hq => ?_)
  have hq' : fo = 0 := hq
  subst hq'
  refine br_t rfl ?_
  unfold wL_lawOf_187 wpX_stemOf
  refine br_t rfl ?_
  refine Hs _ _ _ _ _ _ _ _ _ (fun wl il cl fo a13 a14 a15 a16 hq => ?_)
  have hq' : fo = 0 := hq
  subst hq'
  refine br_f (by decide) (br_f (by decide) (br_t rfl ?_))
  unfold wL_lawOf_207 wpX_suffixOf
  refine br_t rfl ?_
  refine Hs _ _ _ _ _ _ _ _ _ (fun wl il cl fo a13 a14 a15 a16 hq => ?_)
  have hq' : fo = 0 := hq
  subst hq'
  refine br_f (by decide) (br_f (by decide) (br_t rfl ?_))
  unfold wL_lawOf_232 wL_lawOf_234
  exact br_t rfl hP
theorem af_tailS {post : Int32 → St0 → Prop} {mc ms kc ks : Nat} (Hs : af_Hs (fun fo l => fo = 1 ∧ l 0 = 11) t ru st nd a1 a2 a3 a4 a5 a6 a7 a8 a9 a10 a11 a12) (hP : post 1 ()) : wL_lawOf_170 post mc ms 1 1 kc ks t ru st nd wl il cl fo a1 a2 a3 a4 a5 a6 a7 a8 a9 a10 a11 a12 a13 a14 a15 a16 := by
  unfold wL_lawOf_170 wpX_derivations
  refine Hs _ _ _ _ _ _ _ _ _ (fun wl il cl fo a13 a14 a15 a16 hq => ?_)
  obtain ⟨e, _⟩ := hq
  subst e
  refine br_f (by decide) ?_
  unfold wL_lawOf_187 wpX_stemOf
  refine br_t rfl ?_
  refine Hs _ _ _ _ _ _ _ _ _ (fun wl il cl fo a13 a14 a15 a16 hq => ?_)
  obtain ⟨e, hl⟩ := hq
  subst e
  refine br_f (by decide) (br_t (by decide) ⟨pk_in 0 440 (by decide), by decide, br_f (by decide) ?_⟩)
  unfold wL_lawOf_207 wpX_suffixOf
  refine br_t (by rw [af_c0, hl]; decide) ?_
  refine Hs _ _ _ _ _ _ _ _ _ (fun wl il cl fo a13 a14 a15 a16 hq => ?_)
  obtain ⟨e, hl⟩ := hq
  subst e
  refine br_f (by decide) (br_t (by decide) ⟨pk_in 0 440 (by decide), by decide, by decide, nm_r (e' := 0) (by rw [af_c0, hl]; decide) (br_t (by decide) (br_f (by decide) (br_f (by decide) ?_)))⟩)
  unfold wL_lawOf_234
  exact br_t rfl hP
theorem af_tailP {post : Int32 → St0 → Prop} {mc ms kc ks : Nat} (Hs : af_Hs (fun fo l => fo = 1 ∧ l 0 = 1) t ru st nd a1 a2 a3 a4 a5 a6 a7 a8 a9 a10 a11 a12) (hP : post 1 ()) : wL_lawOf_170 post mc ms 0 1 kc ks t ru st nd wl il cl fo a1 a2 a3 a4 a5 a6 a7 a8 a9 a10 a11 a12 a13 a14 a15 a16 := by
  unfold wL_lawOf_170 wpX_derivations
  refine Hs _ _ _ _ _ _ _ _ _ (fun wl il cl fo a13 a14 a15 a16 hq => ?_)
  obtain ⟨e, _⟩ := hq
  subst e
  refine br_f (by decide) ?_
  unfold wL_lawOf_187 wpX_stemOf
  refine br_t rfl ?_
  refine Hs _ _ _ _ _ _ _ _ _ (fun wl il cl fo a13 a14 a15 a16 hq => ?_)
  obtain ⟨e, hl⟩ := hq
  subst e
  refine br_f (by decide) (br_t (by decide) ⟨pk_in 0 440 (by decide), by decide, br_f (by decide) ?_⟩)
  unfold wL_lawOf_207 wpX_suffixOf
  refine br_t (by rw [af_c0, hl]; decide) ?_
  refine Hs _ _ _ _ _ _ _ _ _ (fun wl il cl fo a13 a14 a15 a16 hq => ?_)
  obtain ⟨e, hl⟩ := hq
  subst e
  refine br_f (by decide) (br_t (by decide) ⟨pk_in 0 440 (by decide), by decide, by decide, nm_r (e' := -1) (by rw [af_c0, hl]; decide) (br_f (by decide) (br_f (by decide) (br_t rfl ?_)))⟩)
  unfold wL_lawOf_232 wL_lawOf_234
  exact br_t rfl hP
end
end
section
section
variable {t ru st nd wl il cl fo : Int32} {a1 a2 a3 a4 a5 a6 a7 a8 a9 a10 a11 a12 a13 a14 a15 a16 : Nat → Int32}
theorem af_110 {post : Int32 → St0 → Prop} {mc ms kc ks : Nat} {x2 x3 x6 x7 x8 x10 z : Int32} (p q : Nat) (hp : p < 8) (hq : q < 8) (hx : (x8 = 0 ∧ x7 = nI (p + 1) ∧ x6 = nI (q + 1)) ∨ (x8 = 1 ∧ x6 = nI (p + 1) ∧ x7 = nI (q + 1)))
    (H : (x10 = 0 → wL_lawOf_169 post mc ms x8 kc ks (nI 2) ru st nd wl il cl fo (upd (upd a1 0 (nI (p + 1))) 1 (nI (q + 1))) a2 a3 a4 a5 a6 a7 a8 a9 a10 a11 a12 a13 a14 a15 a16) ∧ (¬ x10 = 0 → ((x2 >>> (x3 &&& 31)) &&& 1 = 1 → wL_lawOf_170 post mc ms x8 1 kc ks (nI 2) ru st nd wl il cl fo (upd (upd a1 0 (nI (p + 1))) 1 (nI (q + 1))) a2 a3 a4 a5 a6 a7 a8 a9 a10 a11 a12 a13 a14 a15 a16) ∧ (¬ (x2 >>> (x3 &&& 31)) &&& 1 = 1 → wL_lawOf_169 post mc ms x8 kc ks (nI 2) ru st nd wl il cl fo (upd (upd a1 0 (nI (p + 1))) 1 (nI (q + 1))) a2 a3 a4 a5 a6 a7 a8 a9 a10 a11 a12 a13 a14 a15 a16))) :
    wL_lawOf_110 post mc ms x2 x3 x6 x7 x8 x10 z z kc ks (nI 0) ru st nd wl il cl fo a1 a2 a3 a4 a5 a6 a7 a8 a9 a10 a11 a12 a13 a14 a15 a16 := by
  unfold wL_lawOf_110
  refine br_t rfl ?_
  rcases hx with ⟨e8, e7, e6⟩ | ⟨e8, e6, e7⟩
  · subst e8 e7 e6
    refine br_t rfl ?_
    unfold wL_lawOf_129
    refine af_type 0 (p + 1) (by decide) (by omega) (by omega) ?_
    refine br_t rfl ?_
    unfold wL_lawOf_147
    exact af_type 1 (q + 1) (by decide) (by omega) (by omega) H
  · subst e8 e7 e6
    refine br_f (by decide) ?_
    unfold wL_lawOf_129
    refine af_type 0 (p + 1) (by decide) (by omega) (by omega) ?_
    refine br_f (by decide) ?_
    unfold wL_lawOf_147
    exact af_type 1 (q + 1) (by decide) (by omega) (by omega) H
/-- no rule was taken: the flag was bad -/
theorem af_bad {post : Int32 → St0 → Prop} {mc ms kc ks : Nat} {x2 x3 x8 : Int32} (j q : Nat) (hj : j < 8) (hq : q < 8) (h8 : x8 = 0 ∨ x8 = 1) (hc : ∀ p, a10 p = 0 ∨ a10 p = 1) (hz : ∀ p, 8 ≤ p → a10 p = 0) (hP : post 1 ()) :
    wL_lawOf_94 post mc ms x2 x3 (nI (j + 1)) (nI (q + 1)) x8 (-5) kc ks (nI 0) 0 st nd wl il cl fo a1 a2 a3 a4 a5 a6 a7 a8 a9 a10 a11 a12 a13 a14 a15 a16 := by
  unfold wL_lawOf_94 wL_lawOf_95
  refine br_t rfl ?_
  rcases h8 with e | e
  · subst e
    refine af_110 q j hq hj (Or.inl ⟨rfl, rfl, rfl⟩) (br_t rfl ?_)
    unfold wL_lawOf_169
    exact af_tail0 (af_stN q j hq hj rfl rfl (hc _) (hz _ (by omega))) hP
  · subst e
    refine af_110 j q hj hq (Or.inr ⟨rfl, rfl, rfl⟩) (br_t rfl ?_)
    unfold wL_lawOf_169
    exact af_tail0 (af_stN j q hj hq rfl rfl (hc _) (hz _ (by omega))) hP
/-- rule 0 stands -/
theorem af_good {post : Int32 → St0 → Prop} {mc ms kc ks : Nat} {x2 x8 : Int32} (g j q : Nat) (hg : g ≤ 7) (hj : j < 8) (hq : q < 8) (h8 : x8 = 0 ∨ x8 = 1) (hc : ∀ p, a10 p = 0 ∨ a10 p = 1) (hz : ∀ p, 8 ≤ p → a10 p = 0) (hj1 : a10 j = 1)
    (h4 : a4 0 = nI g) (h5 : a5 0 = x8) (h70 : a7 0 = 0) (h71 : a7 1 = 1) (h72 : a7 2 = 0) (h83 : a8 3 = nI (q + 1)) (h9 : a9 0 = x2 &&& 255) (h11 : a11 1 = 0) (h12 : a12 0 = -1) (hP : post 1 ()) :
    wL_lawOf_95 post mc ms x2 (nI g) (nI (j + 1)) (nI (q + 1)) x8 0 1 kc ks (nI 0) 1 st nd wl il cl fo a1 a2 a3 a4 a5 a6 a7 a8 a9 a10 a11 a12 a13 a14 a15 a16 := by
  have hb : (a9 0 >>> (a4 0 &&& 31)) &&& 1 = (x2 >>> (nI g &&& 31)) &&& 1 := by rw [h9, h4, af_bit x2 g hg]
  unfold wL_lawOf_95
  refine br_f (by decide) ?_
  rcases h8 with e | e
  · subst e
    refine af_110 q j hq hj (Or.inl ⟨rfl, rfl, rfl⟩) (br_f (by decide) (br_c (fun z => ?_) (fun z => ?_)))
    · exact af_tailP (af_stP j q hj hq rfl rfl hj1 (hc _) (hz _ (by omega)) h11 h12 h5 h70 h71 h72 h83 (fun _ _ => ⟨rfl, pk_us⟩) (fun n => absurd (hb.trans z) n)) hP
    · unfold wL_lawOf_169
      exact af_tail0 (af_stP j q hj hq rfl rfl hj1 (hc _) (hz _ (by omega)) h11 h12 h5 h70 h71 h72 h83 (fun n => absurd (hb.symm.trans n) z) (fun _ _ => rfl)) hP
  · subst e
    refine af_110 j q hj hq (Or.inr ⟨rfl, rfl, rfl⟩) (br_f (by decide) (br_c (fun z => ?_) (fun z => ?_)))
    · exact af_tailS (af_stS j q hj hq rfl rfl hj1 (hz _ (by omega)) h11 h12 h5 h70 h71 h72 h83 (fun _ _ => ⟨rfl, pk_us⟩) (fun n => absurd (hb.trans z) n)) hP
    · unfold wL_lawOf_169
      exact af_tail0 (af_stS j q hj hq rfl rfl hj1 (hz _ (by omega)) h11 h12 h5 h70 h71 h72 h83 (fun n => absurd (hb.symm.trans n) z) (fun _ _ => rfl)) hP
end
theorem af_nar {x : Int32} (h : x = 0 ∨ x = 1) : vp_nar .boolean x = x := by
  rcases h with e | e
  · subst e
    rfl
  · subst e
    rfl
theorem af_chz (j p : Nat) (hj : j < 8) (hp : 8 ≤ p) : upd (fun _ => 0) j 1 p = 0 := by
  rw [pk_un (by omega)]
theorem af_37 {post : Int32 → St0 → Prop} {mc ms kc ks : Nat} (x2 x3 x8 : Int32) (j q : Nat) (hj : j < 8) (hq : q < 8) (h8 : x8 = 0 ∨ x8 = 1) (hP : post 1 ()) :
    wL_lawOf_37 post mc ms x2 x3 (nI (j + 1)) (nI (q + 1)) x8 kc ks 0 0 0 1 0 0 0 0 (fun _ => 0) (fun _ => 0) (fun _ => 0) (fun _ => 0) (fun _ => 0) (fun _ => 0) (fun _ => 0) (fun _ => 0) (fun _ => 0) (fun _ => 0) (upd (fun _ => 0) 0 (-1)) (fun _ => 0) (fun _ => 0) (fun _ => 0) (fun _ => 0) (fun _ => 0) := by
  unfold wL_lawOf_37
  refine af_type 0 (j + 1) (by decide) (by omega) (by omega) ?_
  refine af_stem j x2 hj rfl rfl ?_
  refine af_type 0 (q + 1) (by decide) (by omega) (by omega) ?_
  refine af_keep q hq rfl ?_
  by_cases hb : x3 < 0 ∨ ¬ x3 ≤ 7
  · refine af_ruleBad x3 x8 0 hb ?_
    refine br_c (fun _ => af_bad j q hj hq h8 (af_ch j) (fun p hp => af_chz j p hj hp) hP) (fun n => br_c (fun _ => af_bad j q hj hq h8 (af_ch j) (fun p hp => af_chz j p hj hp) hP) (fun n2 => ?_))
    rcases hb with h | h
    · exact absurd h n
    · exact absurd (Int32.not_lt.mp n2) h
  · have n1 : ¬ x3 < 0 := fun z => hb (Or.inl z)
    have n2 : x3 ≤ 7 := Decidable.byContradiction (fun z => hb (Or.inr z))
    obtain ⟨g, hg, e⟩ := nI_of2 (M := 7) (n := 7) (by decide) n1 n2
    subst e
    refine af_rule g hg x8 0 (fun c7 c8 h7 h8' => ?_)
    refine br_f n1 (br_f (Int32.not_lt.mpr n2) ?_)
    exact af_good g j q hg hj hq h8 (af_ch j) (fun p hp => af_chz j p hj hp) pk_us rfl (af_nar h8) (h7 0 (by decide)) (h7 1 (by decide)) (h7 2 (by decide)) (h8' 3 (by decide)) rfl rfl rfl hP
theorem af_of {post : Int32 → St0 → Prop} (p0 p1 p2 p3 p4 : Int32) (hP : post 1 ()) : wpL_lawOf post 1038 16608 () p0 p1 p2 p3 p4 := by
  unfold wpL_lawOf
  refine ⟨by decide, by decide, 16, 1992, by decide, by decide, ?_⟩
  unfold wpX_init
  refine ⟨by decide, by decide, by decide, by decide, by decide, by decide, by decide, by decide, by decide, by decide, by decide, by decide, by decide, by decide, by decide, by decide, by decide, by decide, by decide, by decide, by decide, by decide, by decide, by decide, by decide, by decide, by decide, by decide, by decide, by decide, by decide, by decide, nm_e ?_⟩
  obtain ⟨j, hj, e0⟩ := af_let p0
  obtain ⟨q, hq, e1⟩ := af_let p1
  exact nm_r e0 (nm_r e1 (br_c (fun _ => af_37 p2 p3 1 j q hj hq (Or.inr rfl) hP) (fun _ => af_37 p2 p3 0 j q hj hq (Or.inl rfl) hP)))
theorem af_cell {post : Int32 → Prop} (L : Nat) (xs : Nat → Int32) (hL : L ≤ 5) (k : Nat) (hk : k < 5) (H : ∀ r, post r) : wpL_cellAt post L xs () (nI k) :=
  pk_le L k (fun _ => H _) (fun z => ⟨pk_in k L z, H _⟩)
theorem i_vc (xs : Nat → Int32) (L : Nat) (hL : L ≤ 5) : wpL_law (fun r => r = 1) L xs := by
  unfold wpL_law
  refine af_cell L xs hL 0 (by decide) (fun r1 => ?_)
  refine af_cell L xs hL 1 (by decide) (fun r2 => ?_)
  refine af_cell L xs hL 2 (by decide) (fun r3 => ?_)
  refine af_cell L xs hL 3 (by decide) (fun r4 => ?_)
  refine af_cell L xs hL 4 (by decide) (fun r5 => ?_)
  exact ⟨1038, 16608, by decide, by decide, af_of r1 r2 r3 r4 r5 rfl⟩
end
