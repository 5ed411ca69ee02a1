section
/-- the digit (base 4) of a key at a level, the highest first -/
def sn_dg (q l : Nat) : Nat := q / 4 ^ (3 - l) % 4
/-- the first l digits of a key -/
def sn_pr (q l : Nat) : Nat := q / 4 ^ (4 - l)
theorem sn_dg_lt (q l : Nat) : sn_dg q l < 4 := Nat.mod_lt _ (by decide)
theorem sn_pr_s {q k l : Nat} (hl : l < 4) : sn_pr q (l + 1) = sn_pr k (l + 1) ↔ sn_pr q l = sn_pr k l ∧ sn_dg q l = sn_dg k l := by
  have h4 : l = 0 ∨ l = 1 ∨ l = 2 ∨ l = 3 := by omega
  rcases h4 with rfl | rfl | rfl | rfl
  · show q / 64 = k / 64 ↔ q / 256 = k / 256 ∧ q / 64 % 4 = k / 64 % 4
    omega
  · show q / 16 = k / 16 ↔ q / 64 = k / 64 ∧ q / 16 % 4 = k / 16 % 4
    omega
  · show q / 4 = k / 4 ↔ q / 16 = k / 16 ∧ q / 4 % 4 = k / 4 % 4
    omega
  · show q / 1 = k / 1 ↔ q / 4 = k / 4 ∧ q / 1 % 4 = k / 1 % 4
    omega
theorem sn_pr_4 (q : Nat) : sn_pr q 4 = q := Nat.div_one q
theorem sn_pr_0 {q k : Nat} (hq : q < 256) (hk : k < 256) : sn_pr q 0 = sn_pr k 0 := by
  show q / 256 = k / 256
  omega
theorem sn_pr_34 {q k : Nat} : q = k ↔ sn_pr q 3 = sn_pr k 3 ∧ sn_dg q 3 = sn_dg k 3 := by
  have h := sn_pr_s (q := q) (k := k) (l := 3) (by omega)
  rw [sn_pr_4, sn_pr_4] at h
  exact h
theorem sn_jump {q kk l : Nat} (hl : l ≤ 4) (hq : q < 256) : q < (sn_pr q l + 1) * 4 ^ (4 - l) ∧ (sn_pr q l + 1) * 4 ^ (4 - l) ≤ 512 ∧ (q ≤ kk → ¬ sn_pr q l = sn_pr kk l → (sn_pr q l + 1) * 4 ^ (4 - l) ≤ kk) := by
  have h4 : l = 0 ∨ l = 1 ∨ l = 2 ∨ l = 3 ∨ l = 4 := by omega
  rcases h4 with rfl | rfl | rfl | rfl | rfl
  · show q < (q / 256 + 1) * 256 ∧ (q / 256 + 1) * 256 ≤ 512 ∧ (q ≤ kk → ¬ q / 256 = kk / 256 → (q / 256 + 1) * 256 ≤ kk)
    omega
  · show q < (q / 64 + 1) * 64 ∧ (q / 64 + 1) * 64 ≤ 512 ∧ (q ≤ kk → ¬ q / 64 = kk / 64 → (q / 64 + 1) * 64 ≤ kk)
    omega
  · show q < (q / 16 + 1) * 16 ∧ (q / 16 + 1) * 16 ≤ 512 ∧ (q ≤ kk → ¬ q / 16 = kk / 16 → (q / 16 + 1) * 16 ≤ kk)
    omega
  · show q < (q / 4 + 1) * 4 ∧ (q / 4 + 1) * 4 ≤ 512 ∧ (q ≤ kk → ¬ q / 4 = kk / 4 → (q / 4 + 1) * 4 ≤ kk)
    omega
  · show q < (q / 1 + 1) * 1 ∧ (q / 1 + 1) * 1 ≤ 512 ∧ (q ≤ kk → ¬ q / 1 = kk / 1 → (q / 1 + 1) * 1 ≤ kk)
    omega
/-! ints -/
theorem sn_tnE : ∀ l, l < 3 → ∀ q, q < 256 → (((nI q).toUInt32 >>> ((6 - (2 * nI l)).toUInt32 &&& Int32.toUInt32 31)).toInt32) &&& 3 = nI (q / 4 ^ (3 - l) % 4) := by decide +kernel
theorem sn_a3E : ∀ q, q < 256 → nI q &&& 3 = nI (q / 4 ^ (3 - 3) % 4) := by decide +kernel
theorem sn_bhE : ∀ l, l < 5 → ∀ q, q < 256 → (nI q &&& ((((256 : Int32).toUInt32 >>> ((2 * nI l).toUInt32 &&& Int32.toUInt32 31)).toInt32 - 1) ^^^ (-1))) + ((256 : Int32).toUInt32 >>> ((2 * nI l).toUInt32 &&& Int32.toUInt32 31)).toInt32 = nI ((q / 4 ^ (4 - l) + 1) * 4 ^ (4 - l)) := by decide +kernel
theorem sn_a3 {q : Nat} (hq : q < 256) : nI q &&& 3 = nI (sn_dg q 3) := sn_a3E q hq
theorem sn_ix (n d : Nat) : 4 * nI n + nI d = nI (4 * n + d) := by
  rw [show (4 : Int32) = nI 4 from rfl, pk_mul, nI_add]
theorem sn_cl {n d : Nat} (hn : n < 400) (hd : d < 4) : (4 * nI n + nI d).toNatClampNeg = 4 * n + d := by
  rw [sn_ix, nI_clamp (by omega)]
theorem sn_in {n d : Nat} (hn : n < 400) (hd : d < 4) : vp_in (4 * nI n + nI d) 1600 := by
  rw [sn_ix]
  exact vp_in_nI (by omega) (by omega)
theorem sn_neg : ((-1 : Int32) < 0) := by decide
theorem sn_neg' : ¬ (0 ≤ (-1 : Int32)) := by decide
theorem sn_ne1 {n : Nat} (hn : n < 400) : ¬ nI n = -1 := by
  intro h
  exact nI_pos (n := n) (by omega) (h ▸ sn_neg)
/-- the bit of a held key -/
def sn_hb (x : Int32) (w : Nat) : Prop := ¬ ((x.toUInt32 >>> ((nI w).toUInt32 &&& Int32.toUInt32 31)).toInt32 &&& 1) = 0
theorem sn_br {A B : Prop} {x : Int32} {q : Nat} (hq : q < 256) (f : ¬ sn_hb x (sn_dg q 3) → A) (g : sn_hb x (sn_dg q 3) → B) :
    (((x.toUInt32 >>> ((nI q &&& 3).toUInt32 &&& Int32.toUInt32 31)).toInt32 &&& 1) = 0 → A) ∧ (¬ ((x.toUInt32 >>> ((nI q &&& 3).toUInt32 &&& Int32.toUInt32 31)).toInt32 &&& 1) = 0 → B) := by
  rw [sn_a3 hq]
  exact ⟨fun h => f (fun z => z h), fun h => g h⟩
/-- the marks of a leaf with one key, with two keys -/
def sn_m1 (s : Nat) : Int32 := (0 ||| 256) ||| ((1 : Int32) <<< (nI s &&& 31))
def sn_m2 (t s : Nat) : Int32 := (sn_m1 t ||| 256) ||| ((1 : Int32) <<< (nI s &&& 31))
theorem sn_m1E : ∀ s, s < 4 → ∀ w, w < 4 → ((¬ (((sn_m1 s).toUInt32 >>> ((nI w).toUInt32 &&& Int32.toUInt32 31)).toInt32 &&& 1) = 0) ↔ w = s) := by decide +kernel
theorem sn_m2E : ∀ t, t < 4 → ∀ s, s < 4 → ∀ w, w < 4 → ((¬ (((sn_m2 t s).toUInt32 >>> ((nI w).toUInt32 &&& Int32.toUInt32 31)).toInt32 &&& 1) = 0) ↔ w = s ∨ w = t) := by decide +kernel
theorem sn_m1M : ∀ s, s < 4 → ¬ (sn_m1 s &&& 256) = 0 := by decide +kernel
theorem sn_m2M : ∀ t, t < 4 → ∀ s, s < 4 → ¬ (sn_m2 t s &&& 256) = 0 := by decide +kernel
theorem sn_hb1 {s w : Nat} (hs : s < 4) (hw : w < 4) : sn_hb (sn_m1 s) w ↔ w = s := sn_m1E s hs w hw
theorem sn_hb2 {t s w : Nat} (ht : t < 4) (hs : s < 4) (hw : w < 4) : sn_hb (sn_m2 t s) w ↔ w = s ∨ w = t := sn_m2E t ht s hs w hw
theorem sn_turn {post : Int32 → Prop} {q l : Nat} (hq : q < 256) (hl : l < 3) (h : post (nI (sn_dg q l))) : wpX_turn post () (nI q) (nI l) := by
  unfold wpX_turn
  rw [sn_tnE l hl q hq]
  exact h
theorem sn_behind {post : Int32 → Prop} {q l : Nat} (hq : q < 256) (hl : l ≤ 4) (h : post (nI ((sn_pr q l + 1) * 4 ^ (4 - l)))) : wpX_behind post () (nI q) (nI l) := by
  unfold wpX_behind
  refine nm_e ?_
  rw [sn_bhE l (by omega) q hq]
  exact h
theorem sn_21 : (2 : Int32) - 1 = 1 := by decide
theorem sn_11 : (1 : Int32) + 1 = 2 := by decide
theorem sn_10 : ¬ (1 : Int32) = 0 := by decide
theorem sn_20 : ¬ (2 : Int32) = 0 := by decide
theorem sn_2n1 : ¬ (2 : Int32) = 1 := by decide
end
section
/-- the nodes on the way to key q -/
def sn_chain (a1 : Nat → Int32) (q : Nat) (X : Nat → Int32) : Prop :=
  (∀ l, l < 3 → (X l = -1 ∧ X (l + 1) = -1) ∨ (∃ n, n < 400 ∧ X l = nI n ∧ X (l + 1) = a1 (4 * n + sn_dg q l))) ∧ (X 3 = -1 ∨ ∃ n, n < 400 ∧ X 3 = nI n)
theorem sn_chain_m1 {a1 : Nat → Int32} {q : Nat} {X : Nat → Int32} (h : sn_chain a1 q X) {l : Nat} (hl : l < 3) (e : X l = -1) : X (l + 1) = -1 := by
  rcases h.1 l hl with ⟨_, e2⟩ | ⟨n, hn, e1, _⟩
  · exact e2
  · exact absurd (e1.symm.trans e) (sn_ne1 hn)
theorem sn_chain_3 {a1 : Nat → Int32} {q : Nat} {X : Nat → Int32} (h : sn_chain a1 q X) {l : Nat} (hl : l ≤ 3) (e : X l = -1) : X 3 = -1 := by
  have h4 : l = 0 ∨ l = 1 ∨ l = 2 ∨ l = 3 := by omega
  rcases h4 with rfl | rfl | rfl | rfl
  · exact sn_chain_m1 h (by omega) (sn_chain_m1 h (by omega) (sn_chain_m1 h (by omega) e))
  · exact sn_chain_m1 h (by omega) (sn_chain_m1 h (by omega) e)
  · exact sn_chain_m1 h (by omega) e
  · exact e
theorem sn_leaf {post : Int32 → Prop} {a1 a2 a3 a4 a5 a6 a7 a8 : Nat → Int32} {m q : Nat} {X : Nat → Int32} (hm : m < 8) (hq : q < 256) (hX : sn_chain a1 q X) (h0 : a5 m = X 0) (hp : post (X 3)) :
    wpX_leafFor post (a1, a2, a3, a4, a5, a6, a7, a8) (nI m) (nI q) := by
  refine ⟨pk_in m 8 hm, nm_r (e' := X 0) (by rw [nI_clamp (by omega)]; exact h0) ?_⟩
  refine pk_loop (σ := Unit) (fun n i _ => wX_leafFor_10 post (nI q) a1 a2 a3 a4 a5 a6 a7 a8 n (X i) (nI i)) (fun _ _ => True) 3 0 () (by omega) trivial ?_ ?_
  · intro n _ _
    exact pk_le 3 3 (fun _ => hp) (fun z => absurd z (by omega))
  · intro n i _ hi _ hw
    refine pk_le 3 i (fun z => absurd z (by omega)) (fun _ => ?_)
    rcases hX.1 i hi with ⟨e, e2⟩ | ⟨k, hk, e, e2⟩
    · refine br_t (by rw [e]; exact sn_neg) ?_
      rw [e, ← sn_chain_3 hX (by omega) e]
      exact hp
    · refine br_f (by rw [e]; exact nI_pos (by omega)) (sn_turn hq hi ?_)
      refine ⟨by rw [e]; exact sn_in hk (sn_dg_lt q i), nm_r (e' := X (i + 1)) (by rw [e, sn_cl hk (sn_dg_lt q i)]; exact e2.symm) (nm_r (nI_1 i) (hw () trivial))⟩
/-- what the leaf says of key q -/
def sn_lk (a1 a2 : Nat → Int32) (q : Nat) (x : Int32) (r : Option Int32) : Prop :=
  (r = none ∧ (x = -1 ∨ ∃ n, n < 400 ∧ x = nI n ∧ ¬ sn_hb (a2 n) (sn_dg q 3))) ∨ (∃ n, n < 400 ∧ x = nI n ∧ sn_hb (a2 n) (sn_dg q 3) ∧ r = some (a1 (4 * n + sn_dg q 3)))
theorem sn_holds {post : Int32 → Prop} {a1 a2 a3 a4 a5 a6 a7 a8 : Nat → Int32} {m q : Nat} {X : Nat → Int32} {r : Option Int32} (hm : m < 8) (hq : q < 256) (hX : sn_chain a1 q X) (h0 : a5 m = X 0)
    (hr : sn_lk a1 a2 q (X 3) r) (hp0 : r = none → post 0) (hp1 : ¬ r = none → post 1) :
    wpX_holds post (a1, a2, a3, a4, a5, a6, a7, a8) (nI m) (nI q) := by
  refine sn_leaf hm hq hX h0 ?_
  rcases hr with ⟨er, e | ⟨n, hn, e, hb⟩⟩ | ⟨n, hn, e, hb, er⟩
  · rw [e]
    exact br_t sn_neg (hp0 er)
  · rw [e]
    refine br_f (nI_pos (by omega)) ⟨pk_in n 400 hn, ?_⟩
    rw [nI_clamp (by omega)]
    exact sn_br hq (fun _ => hp0 er) (fun z => absurd z hb)
  · rw [e]
    refine br_f (nI_pos (by omega)) ⟨pk_in n 400 hn, ?_⟩
    rw [nI_clamp (by omega)]
    exact sn_br hq (fun z => absurd hb z) (fun _ => hp1 (by rw [er]; exact Option.some_ne_none _))
/-- a map's number as the callers give it, and its place -/
def sn_mp (p : Int32) (m : Nat) : Prop := ¬ p < (-1) ∧ ¬ 6 < p ∧ p + 1 = nI m ∧ m < 8
theorem sn_mp0 : sn_mp 0 1 := ⟨by decide, by decide, by decide, by decide⟩
theorem sn_mp1 : sn_mp (-1) 0 := ⟨by decide, by decide, by decide, by decide⟩
theorem sn_isMap {post : Int32 → Prop} {a1 a2 a3 a4 a5 a6 a7 a8 : Nat → Int32} {p : Int32} {m : Nat} (h : sn_mp p m) (h4 : ¬ a4 m = 0) (hp : post 1) :
    wpX_isMap post (a1, a2, a3, a4, a5, a6, a7, a8) p := by
  obtain ⟨h1, h2, h3, hm⟩ := h
  refine br_f h1 (br_f h2 ?_)
  rw [h3, nI_clamp (by omega)]
  exact ⟨pk_in m 8 hm, br_f h4 hp⟩
theorem sn_get {post : Int32 → Prop} {a1 a2 a3 a4 a5 a6 a7 a8 : Nat → Int32} {p : Int32} {m q : Nat} {X : Nat → Int32} {v : Int32} (h : sn_mp p m) (h4 : ¬ a4 m = 0) (hq : q < 256) (hX : sn_chain a1 q X) (h0 : a5 m = X 0)
    (hr : sn_lk a1 a2 q (X 3) (some v)) (hp : post v) :
    wpX_get post (a1, a2, a3, a4, a5, a6, a7, a8) p (nI q) := by
  unfold wpX_get
  dsimp only
  refine sn_isMap h h4 ?_
  refine br_f sn_10 (br_f (nI_pos (n := q) (by omega)) (br_t (nI_le (a := q) (b := 255) (by omega) (by decide)) ?_))
  rw [h.2.2.1]
  refine sn_leaf h.2.2.2 hq hX h0 ?_
  rcases hr with ⟨er, _⟩ | ⟨n, hn, e, hb, er⟩
  · exact absurd er (Option.some_ne_none v)
  · rw [e]
    refine br_f (nI_pos (by omega)) ⟨pk_in n 400 hn, ?_⟩
    rw [nI_clamp (show n < 2 ^ 31 by omega)]
    refine sn_br hq (fun z => absurd hb z) (fun _ => ?_)
    rw [sn_a3 hq, sn_cl hn (sn_dg_lt q 3), ← Option.some.inj er]
    exact ⟨sn_in hn (sn_dg_lt q 3), hp⟩
theorem sn_size {post : Int32 → Prop} {a1 a2 a3 a4 a5 a6 a7 a8 : Nat → Int32} {p : Int32} {m : Nat} (h : sn_mp p m) (h4 : ¬ a4 m = 0) (hp : post (a6 m)) :
    wpX_size post (a1, a2, a3, a4, a5, a6, a7, a8) p := by
  unfold wpX_size
  dsimp only
  refine sn_isMap h h4 ?_
  refine br_f sn_10 ?_
  rw [h.2.2.1, nI_clamp (Nat.lt_trans h.2.2.2 (by decide))]
  exact ⟨pk_in m 8 h.2.2.2, hp⟩
/-! sharedLevel -/
theorem sn_130 {post : Int32 → Prop} {a1 a2 a3 a4 a5 a6 a7 a8 : Nat → Int32} {q : Nat} {x y z : Int32} {rX rY : Option Int32} (hq : q < 256)
    (hx : (z = 0 ∧ rX = none) ∨ (∃ n, n < 400 ∧ z = 1 ∧ x = nI n ∧ rX = some (a1 (4 * n + sn_dg q 3)))) (hY : sn_lk a1 a2 q y rY) (h5 : ¬ rX = rY → post 5) (h4 : rX = rY → post 4) :
    wX_sharedLevel_130 post (nI q) x y z a1 a2 a3 a4 a5 a6 a7 a8 := by
  have hn0 : rY = none → wX_sharedLevel_157 post (nI q) x y z a1 a2 a3 a4 a5 a6 a7 a8 := by
    intro er
    rcases hx with ⟨ez, ex⟩ | ⟨n, hn, ez, ex, ex2⟩
    · rw [ez]
      exact br_t rfl (br_t rfl (h4 (by rw [ex, er])))
    · rw [ez]
      exact br_f (by decide) (h5 (by rw [ex2, er]; exact Option.some_ne_none _))
  rcases hY with ⟨er, e | ⟨m, hm, e, hb⟩⟩ | ⟨m, hm, e, hb, er⟩
  · exact br_t (by rw [e]; exact sn_neg) (hn0 er)
  · refine br_f (by rw [e]; exact nI_pos (by omega)) ⟨by rw [e]; exact pk_in m 400 hm, ?_⟩
    refine sn_br hq (fun _ => hn0 er) (fun z => ?_)
    rw [e, nI_clamp (by omega)] at z
    exact absurd z hb
  · refine br_f (by rw [e]; exact nI_pos (by omega)) ⟨by rw [e]; exact pk_in m 400 hm, ?_⟩
    refine sn_br hq (fun z => ?_) (fun _ => ?_)
    · rw [e, nI_clamp (by omega)] at z
      exact absurd hb z
    · rcases hx with ⟨ez, ex⟩ | ⟨n, hn, ez, ex, ex2⟩
      · rw [ez]
        exact br_f (by decide) (h5 (by rw [ex, er]; exact fun z => absurd z.symm (Option.some_ne_none _)))
      · rw [ez]
        refine br_t rfl (br_f (by decide) ?_)
        rw [ex, e, sn_a3 hq, sn_cl hn (sn_dg_lt q 3), sn_cl hm (sn_dg_lt q 3)]
        refine ⟨sn_in hn (sn_dg_lt q 3), sn_in hm (sn_dg_lt q 3), br_c (fun g => h4 ?_) (fun g => h5 ?_)⟩
        · rw [ex2, er, g]
        · rw [ex2, er]
          exact fun t => g (Option.some.inj t)
theorem sn_60 {post : Int32 → Prop} {J : Int32 → Int32 → Int32 → Prop} {a1 a2 a3 a4 a5 a6 a7 a8 : Nat → Int32} {q l : Nat} {Y : Nat → Int32} {x : Int32} (hq : q < 256) (hl : l < 3) (hY : sn_chain a1 q Y)
    (H : J x (Y (l + 1)) (nI (l + 1))) : wX_sharedLevel_60 post J (nI q) (Y l) (nI l) x a1 a2 a3 a4 a5 a6 a7 a8 := by
  rcases hY.1 l hl with ⟨e, e2⟩ | ⟨n, hn, e, e2⟩
  · rw [e2] at H
    exact br_f (by rw [e]; exact sn_neg') (nm_r (nI_1 l) H)
  · refine br_t (by rw [e]; exact nI_pos' (by omega)) (sn_turn hq hl ?_)
    rw [e2] at H
    exact ⟨by rw [e]; exact sn_in hn (sn_dg_lt q l), nm_r (by rw [e, sn_cl hn (sn_dg_lt q l)]) (nm_r (nI_1 l) H)⟩
theorem sn_shared {post : Int32 → Prop} {a1 a2 a3 a4 a5 a6 a7 a8 : Nat → Int32} {m1 m2 q : Nat} {X Y : Nat → Int32} {rX rY : Option Int32} (hm1 : m1 < 8) (hm2 : m2 < 8) (hq : q < 256)
    (hX : sn_chain a1 q X) (hY : sn_chain a1 q Y) (h1 : a5 m1 = X 0) (h2 : a5 m2 = Y 0) (kX : sn_lk a1 a2 q (X 3) rX) (kY : sn_lk a1 a2 q (Y 3) rY)
    (hE : ∀ l, l ≤ 3 → X l = Y l → post (nI l)) (h5 : ¬ rX = rY → post 5) (h4 : rX = rY → post 4) :
    wpX_sharedLevel post (a1, a2, a3, a4, a5, a6, a7, a8) (nI m1) (nI m2) (nI q) := by
  refine ⟨pk_in m1 8 hm1, nm_r (e' := X 0) (by rw [nI_clamp (by omega)]; exact h1) ⟨pk_in m2 8 hm2, nm_r (e' := Y 0) (by rw [nI_clamp (by omega)]; exact h2) ?_⟩⟩
  refine pk_loop (σ := Unit) (fun n i _ => wX_sharedLevel_19 post (nI q) a1 a2 a3 a4 a5 a6 a7 a8 n (X i) (Y i) (nI i)) (fun _ _ => True) 3 0 () (by omega) trivial ?_ ?_
  · intro n _ _
    refine pk_le 3 3 (fun _ => br_c (fun e => hE 3 (by omega) e) (fun _ => ?_)) (fun z => absurd z (by omega))
    rcases kX with ⟨er, e | ⟨m, hm, e, hb⟩⟩ | ⟨m, hm, e, hb, er⟩
    · exact br_t (by rw [e]; exact sn_neg) (sn_130 hq (Or.inl ⟨rfl, er⟩) kY h5 h4)
    · refine br_f (by rw [e]; exact nI_pos (by omega)) ⟨by rw [e]; exact pk_in m 400 hm, ?_⟩
      refine sn_br hq (fun _ => sn_130 hq (Or.inl ⟨rfl, er⟩) kY h5 h4) (fun z => ?_)
      rw [e, nI_clamp (by omega)] at z
      exact absurd z hb
    · refine br_f (by rw [e]; exact nI_pos (by omega)) ⟨by rw [e]; exact pk_in m 400 hm, ?_⟩
      refine sn_br hq (fun z => ?_) (fun _ => sn_130 hq (Or.inr ⟨m, hm, rfl, e, er⟩) kY h5 h4)
      rw [e, nI_clamp (by omega)] at z
      exact absurd hb z
  · intro n i _ hi _ hw
    refine pk_le 3 i (fun z => absurd z (by omega)) (fun _ => br_c (fun e => hE i (by omega) e) (fun _ => ?_))
    rcases hX.1 i hi with ⟨e, e2⟩ | ⟨k, hk, e, e2⟩
    · have t := hw () trivial
      rw [e2] at t
      exact br_f (by rw [e]; exact sn_neg') (sn_60 hq hi hY t)
    · have t := hw () trivial
      rw [e2] at t
      refine br_t (by rw [e]; exact nI_pos' (by omega)) (sn_turn hq hi ?_)
      refine ⟨by rw [e]; exact sn_in hk (sn_dg_lt q i), ?_⟩
      rw [e, sn_cl hk (sn_dg_lt q i)]
      exact sn_60 hq hi hY t
/-! nextChange, changes -/
/-- what sharedLevel answers where D says whether key kk, and only it, is bound otherwise -/
def sn_sp (D : Prop) (kk q : Nat) (r : Int32) : Prop := (r = 5 ∧ D ∧ q = kk) ∨ (∃ l, l ≤ 4 ∧ r = nI l ∧ ¬ (D ∧ sn_pr q l = sn_pr kk l))
def sn_SL (u : St2) (p0 p1 : Int32) (D : Prop) (kk : Nat) : Prop := ∀ q, q < 256 → ∀ P : Int32 → Prop, (∀ r, sn_sp D kk q r → P r) → wpX_sharedLevel P u (p0 + 1) (p1 + 1) (nI q)
theorem sn_nl {post : Int32 → Prop} {a1 a2 a3 a4 a5 a6 a7 a8 : Nat → Int32} {p0 p1 : Int32} {D : Prop} {kk : Nat} (hk : kk < 256) (hs : sn_SL (a1, a2, a3, a4, a5, a6, a7, a8) p0 p1 D kk) :
    ∀ n q st, 256 - q < n → st ≤ q → q < 2 ^ 31 → (D → q ≤ kk → post (nI kk)) → (¬ (D ∧ q ≤ kk) → post 256) → wX_nextChange_32 post p0 p1 a1 a2 a3 a4 a5 a6 a7 a8 n (nI q) (nI st) := by
  intro n
  induction n with
  | zero => intro q st h; omega
  | succ n ih =>
    intro q st hn hst hq hA hB
    refine pk_le 256 st (fun z => hB (fun t => absurd t.2 (by omega))) (fun z => pk_le 256 q (fun z2 => hB (fun t => absurd t.2 (by omega))) (fun z2 => hs q z2 _ (fun r hr => ?_)))
    rcases hr with ⟨e, hD, eq⟩ | ⟨l, hl, e, hne⟩
    · rw [e]
      have t := hA hD (by omega)
      rw [← eq] at t
      exact br_f (by decide) t
    · rw [e]
      refine br_t (nI_le (b := 4) hl (by decide)) (sn_behind z2 hl (nm_r (nI_1 st) ?_))
      obtain ⟨j1, j2, j3⟩ := sn_jump (kk := kk) hl z2
      exact ih _ (st + 1) (by omega) (by omega) (by omega) (fun d t => hA d (by omega)) (fun t => hB (fun s => t ⟨s.1, j3 s.2 (fun w => hne ⟨s.1, w⟩)⟩))
theorem sn_nc {post : Int32 → Prop} {a1 a2 a3 a4 a5 a6 a7 a8 : Nat → Int32} {p0 p1 : Int32} {m0 m1 : Nat} {D : Prop} {kk : Nat} (h0 : sn_mp p0 m0) (h1 : sn_mp p1 m1) (h40 : ¬ a4 m0 = 0) (h41 : ¬ a4 m1 = 0)
    (hk : kk < 256) (hs : sn_SL (a1, a2, a3, a4, a5, a6, a7, a8) p0 p1 D kk) (x : Int32) (hA : D → ¬ nI kk < x → post (nI kk)) (hB : ¬ (D ∧ ¬ nI kk < x) → post 256) :
    wpX_nextChange post (a1, a2, a3, a4, a5, a6, a7, a8) p0 p1 x := by
  unfold wpX_nextChange
  dsimp only
  refine sn_isMap h0 h40 ?_
  refine br_f sn_10 ?_
  refine sn_isMap h1 h41 ?_
  refine br_f sn_10 (br_c (fun z => ?_) (fun z => ?_))
  · obtain ⟨q, hq, e⟩ := nI_of (x := x) (by rw [Int32.not_lt]; exact z)
    rw [e] at hA hB
    rw [e]
    rw [nI_ltI (by omega) hq] at hA hB
    exact ⟨257 - q + 1, sn_nl hk hs _ q 0 (by omega) (by omega) hq (fun d t => hA d (by omega)) (fun t => hB (fun s => t ⟨s.1, by omega⟩))⟩
  · have hx : ¬ nI kk < x := by
      intro t
      exact z (Int32.le_of_lt (Int32.lt_of_le_of_lt (nI_pos' (n := kk) (by omega)) t))
    exact ⟨258, sn_nl hk hs 258 0 0 (by omega) (by omega) (by omega) (fun d _ => hA d hx) (fun t => hB (fun s => t ⟨s.1, by omega⟩))⟩
theorem sn_ch {post : Int32 → Prop} {a1 a2 a3 a4 a5 a6 a7 a8 : Nat → Int32} {p0 p1 : Int32} {m0 m1 : Nat} {D : Prop} {kk : Nat} (h0 : sn_mp p0 m0) (h1 : sn_mp p1 m1) (h40 : ¬ a4 m0 = 0) (h41 : ¬ a4 m1 = 0)
    (hk : kk < 256) (hs : sn_SL (a1, a2, a3, a4, a5, a6, a7, a8) p0 p1 D kk) (hA : D → post 1) (hB : ¬ D → post 0) :
    wpX_changes post (a1, a2, a3, a4, a5, a6, a7, a8) p0 p1 := by
  unfold wpX_changes
  dsimp only
  refine sn_isMap h0 h40 ?_
  refine br_f sn_10 ?_
  refine sn_isMap h1 h41 ?_
  refine br_f sn_10 ?_
  refine sn_nc h0 h1 h40 h41 hk hs 0 (fun d _ => ⟨2, ?_⟩) (fun z => ⟨1, ?_⟩)
  · refine br_f (by decide) (br_f (nI_ge (b := 256) hk (by decide)) (nm_r (show (0 : Int32) + 1 = 1 by decide) ?_))
    refine sn_nc h0 h1 h40 h41 hk hs _ (fun _ z => absurd ?_ z) (fun _ => nm_e ?_)
    · rw [nI_1]
      exact nI_lt (by omega) (by omega)
    · exact br_f (by decide) (br_t (by decide) (hA d))
  · refine br_f (by decide) (br_t (by decide) (hB (fun d => z ⟨d, ?_⟩)))
    exact fun t => absurd t (nI_pos (by omega))
end
section
theorem sn_free {post : Int32 → Prop} {a1 a2 a3 a4 a5 a6 a7 a8 : Nat → Int32} {n : Nat} (hn : n < 400) (h1 : ∀ j, j < n → ¬ a3 j = 0) (h0 : a3 n = 0) (hp : post (nI n)) :
    wpX_freeNode post (a1, a2, a3, a4, a5, a6, a7, a8) := by
  refine pk_loop (σ := Unit) (fun f i _ => wX_freeNode_2 post a1 a2 a3 a4 a5 a6 a7 a8 f (nI i)) (fun _ _ => True) n 0 () (by omega) trivial ?_ ?_
  · intro f _ _
    refine pk_le 400 n (fun z => absurd z (by omega)) (fun _ => ⟨pk_in n 400 hn, ?_⟩)
    rw [nI_clamp (by omega)]
    exact br_t h0 hp
  · intro f i _ hi _ hw
    refine pk_le 400 i (fun z => absurd z (by omega)) (fun _ => ⟨pk_in i 400 (by omega), ?_⟩)
    rw [nI_clamp (by omega)]
    exact br_f (h1 i hi) (nm_r (nI_1 i) (hw () trivial))
theorem sn_fill {a s f : Nat → Int32} {n w : Nat} {x : Int32} (h : (∀ j, j < 4 * n ∨ 4 * n + w ≤ j → s j = a j) ∧ ∀ i, i < w → s (4 * n + i) = f i) (hx : x = f w) :
    (∀ j, j < 4 * n ∨ 4 * n + (w + 1) ≤ j → upd s (4 * n + w) x j = a j) ∧ ∀ i, i < w + 1 → upd s (4 * n + w) x (4 * n + i) = f i := by
  refine ⟨fun j hj => ?_, fun i hi => ?_⟩
  · rw [pk_un (by omega)]
    exact h.1 j (by omega)
  · by_cases e : i = w
    · rw [e, pk_us, hx]
    · rw [pk_un (by omega)]
      exact h.2 i (by omega)
theorem sn_fill0 {a f : Nat → Int32} {n : Nat} : (∀ j, j < 4 * n ∨ 4 * n + 0 ≤ j → a j = a j) ∧ ∀ i, i < 0 → a (4 * n + i) = f i :=
  ⟨fun _ _ => rfl, fun i hi => absurd hi (by omega)⟩
/-! ownNode -/
theorem sn_o140 {post : Int32 → St2 → Prop} {a1 a2 a3 a4 a5 a6 a7 a8 : Nat → Int32} {x1 z : Int32} {l n : Nat} (hl : l ≤ 3) (hn : n < 400)
    (H : ∀ b2 : Nat → Int32, (∀ j, j ≠ n → b2 j = a2 j) → b2 n = (if l = 3 then z ||| 256 else 0) → ((x1 < 0 → post (nI n) (a1, b2, a3, a4, a5, a6, a7, a8)) ∧ (¬ x1 < 0 → (vp_in x1 400 ∧ (vp_in x1 400 ∧ ∀ c3 : Nat → Int32, c3 = upd a3 x1.toNatClampNeg ((a3 x1.toNatClampNeg) - 1) → post (nI n) (a1, b2, c3, a4, a5, a6, a7, a8)))))) :
    wX_ownNode_140 post x1 (nI l) (nI n) z (nI n) a1 a2 a3 a4 a5 a6 a7 a8 := by
  refine ⟨pk_in n 400 hn, nm_e ?_⟩
  rw [nI_clamp (by omega)]
  refine pk_eq l 3 (fun e => ⟨pk_in n 400 hn, pk_in n 400 hn, nm_e ?_⟩) (fun e => ⟨pk_in n 400 hn, nm_e ?_⟩)
  · rw [nI_clamp (by omega)]
    exact H _ (fun j hj => by rw [pk_un hj, pk_un hj]) (by rw [if_pos e, pk_us, pk_us])
  · rw [nI_clamp (by omega)]
    exact H _ (fun j hj => by rw [pk_un hj, pk_un hj]) (by rw [if_neg e, pk_us])
theorem sn_o75a {post : Int32 → St2 → Prop} {J : Int32 → (Nat → Int32) → (Nat → Int32) → (Nat → Int32) → (Nat → Int32) → (Nat → Int32) → (Nat → Int32) → (Nat → Int32) → (Nat → Int32) → Prop} {a1 a2 a3 a4 a5 a6 a7 a8 : Nat → Int32} {x1 z : Int32} {l n w : Nat} (hl : l ≤ 3) (hn : n < 400) (hw : w < 4)
    (h : l = 3 ∨ z = -1) (H : J (nI (w + 1)) (upd a1 (4 * n + w) z) a2 a3 a4 a5 a6 a7 a8) :
    wX_ownNode_75 post J x1 (nI l) (nI n) (nI w) z (4 * nI n + nI w) a1 a2 a3 a4 a5 a6 a7 a8 := by
  refine ⟨sn_in hn hw, nm_r (e' := upd a1 (4 * n + w) z) (by rw [sn_cl hn hw]) (pk_le 3 l (fun _ => nm_r (nI_1 w) H) (fun hl3 => ⟨sn_in hn hw, ?_⟩))⟩
  rw [sn_cl hn hw, pk_us]
  rcases h with e | e
  · omega
  · exact br_t (by rw [e]; exact sn_neg) (nm_r (nI_1 w) H)
theorem sn_o75b {post : Int32 → St2 → Prop} {J : Int32 → (Nat → Int32) → (Nat → Int32) → (Nat → Int32) → (Nat → Int32) → (Nat → Int32) → (Nat → Int32) → (Nat → Int32) → (Nat → Int32) → Prop} {a1 a2 a3 a4 a5 a6 a7 a8 : Nat → Int32} {x1 : Int32} {l n w ch : Nat} (hl : l < 3) (hn : n < 400) (hw : w < 4) (hc : ch < 400)
    (H : J (nI (w + 1)) (upd a1 (4 * n + w) (nI ch)) a2 (upd a3 ch (a3 ch + 1)) a4 a5 a6 a7 a8) :
    wX_ownNode_75 post J x1 (nI l) (nI n) (nI w) (nI ch) (4 * nI n + nI w) a1 a2 a3 a4 a5 a6 a7 a8 := by
  refine ⟨sn_in hn hw, nm_r (e' := upd a1 (4 * n + w) (nI ch)) (by rw [sn_cl hn hw]) (pk_le 3 l (fun z => absurd z (by omega)) (fun hl3 => ⟨sn_in hn hw, ?_⟩))⟩
  rw [sn_cl hn hw, pk_us]
  refine br_f (nI_pos (by omega)) ⟨sn_in hn hw, pk_in ch 400 hc, pk_in ch 400 hc, ?_⟩
  rw [nI_clamp (by omega)]
  exact nm_e (nm_r (nI_1 w) H)
theorem sn_o31f {post : Int32 → St2 → Prop} {a1 a2 a3 a4 a5 a6 a7 a8 : Nat → Int32} {l n : Nat} (hl : l ≤ 3) (hn : n < 400)
    (H : ∀ b1 : Nat → Int32, (∀ j, j < 4 * n ∨ 4 * n + 4 ≤ j → b1 j = a1 j) → (∀ w, w < 4 → b1 (4 * n + w) = if l < 3 then -1 else 0) → wX_ownNode_140 post (-1) (nI l) (nI n) 0 (nI n) b1 a2 a3 a4 a5 a6 a7 a8) :
    ∃ f, wX_ownNode_31 post (-1) (nI l) (nI n) f 0 a1 a2 a3 a4 a5 a6 a7 a8 := by
  refine pk_loop (fun f w s => wX_ownNode_31 post (-1) (nI l) (nI n) f (nI w) s a2 a3 a4 a5 a6 a7 a8) (fun w s => (∀ j, j < 4 * n ∨ 4 * n + w ≤ j → s j = a1 j) ∧ ∀ i, i < w → s (4 * n + i) = (fun _ => if l < 3 then -1 else 0) i) 4 0 a1 (by omega) sn_fill0 ?_ ?_
  · intro f s h
    exact pk_le 4 4 (fun _ => br_f sn_neg' (H s h.1 h.2)) (fun z => absurd z (by omega))
  · intro f w s hw h k
    refine pk_le 4 w (fun z => absurd z (by omega)) (fun _ => br_f sn_neg' (pk_le 3 l (fun z => ?_) (fun z => ?_)))
    · exact sn_o75a hl hn hw (Or.inl (by omega)) (k _ (sn_fill h (by show (0 : Int32) = if l < 3 then -1 else 0; rw [if_neg (by omega)])))
    · exact sn_o75a hl hn hw (Or.inr rfl) (k _ (sn_fill h (by show (-1 : Int32) = if l < 3 then -1 else 0; rw [if_pos z])))
theorem sn_o31l {post : Int32 → St2 → Prop} {a1 a2 a3 a4 a5 a6 a7 a8 : Nat → Int32} {n nd : Nat} (hn : n < 400) (hd : nd < 400) (hne : nd ≠ n)
    (H : ∀ b1 : Nat → Int32, (∀ j, j < 4 * n ∨ 4 * n + 4 ≤ j → b1 j = a1 j) → (∀ w, w < 4 → b1 (4 * n + w) = a1 (4 * nd + w)) → wX_ownNode_140 post (nI nd) (nI 3) (nI n) (a2 nd) (nI n) b1 a2 a3 a4 a5 a6 a7 a8) :
    ∃ f, wX_ownNode_31 post (nI nd) (nI 3) (nI n) f 0 a1 a2 a3 a4 a5 a6 a7 a8 := by
  refine pk_loop (fun f w s => wX_ownNode_31 post (nI nd) (nI 3) (nI n) f (nI w) s a2 a3 a4 a5 a6 a7 a8) (fun w s => (∀ j, j < 4 * n ∨ 4 * n + w ≤ j → s j = a1 j) ∧ ∀ i, i < w → s (4 * n + i) = (fun i => a1 (4 * nd + i)) i) 4 0 a1 (by omega) sn_fill0 ?_ ?_
  · intro f s h
    refine pk_le 4 4 (fun _ => br_t (nI_pos' (by omega)) ⟨pk_in nd 400 hd, ?_⟩) (fun z => absurd z (by omega))
    rw [nI_clamp (by omega)]
    exact H s h.1 h.2
  · intro f w s hw h k
    refine pk_le 4 w (fun z => absurd z (by omega)) (fun _ => br_t (nI_pos' (by omega)) ⟨sn_in hd hw, ?_⟩)
    rw [sn_cl hd hw]
    exact sn_o75a (by omega) hn hw (Or.inl rfl) (k _ (sn_fill h (h.1 _ (by omega))))
theorem sn_o31c {post : Int32 → St2 → Prop} {a1 a2 a3 a4 a5 a6 a7 a8 : Nat → Int32} {l n nd t ch : Nat} (hl : l < 3) (hn : n < 400) (hd : nd < 400) (hne : nd ≠ n) (hc : ch < 400) (ht : t < 4)
    (hw4 : ∀ w, w < 4 → a1 (4 * nd + w) = if w = t then nI ch else -1)
    (H : ∀ b1 : Nat → Int32, (∀ j, j < 4 * n ∨ 4 * n + 4 ≤ j → b1 j = a1 j) → (∀ w, w < 4 → b1 (4 * n + w) = a1 (4 * nd + w)) → wX_ownNode_140 post (nI nd) (nI l) (nI n) (a2 nd) (nI n) b1 a2 (upd a3 ch (a3 ch + 1)) a4 a5 a6 a7 a8) :
    ∃ f, wX_ownNode_31 post (nI nd) (nI l) (nI n) f 0 a1 a2 a3 a4 a5 a6 a7 a8 := by
  refine pk_loop (fun f w (s : (Nat → Int32) × (Nat → Int32)) => wX_ownNode_31 post (nI nd) (nI l) (nI n) f (nI w) s.1 a2 s.2 a4 a5 a6 a7 a8) (fun w s => ((∀ j, j < 4 * n ∨ 4 * n + w ≤ j → s.1 j = a1 j) ∧ ∀ i, i < w → s.1 (4 * n + i) = (fun i => a1 (4 * nd + i)) i) ∧ s.2 = if t < w then upd a3 ch (a3 ch + 1) else a3) 4 0 (a1, a3) (by omega) ⟨sn_fill0, ?_⟩ ?_ ?_
  · show a3 = if t < 0 then upd a3 ch (a3 ch + 1) else a3
    rw [if_neg (by omega)]
  · intro f s h
    have h2 := h.2
    rw [if_pos ht] at h2
    refine pk_le 4 4 (fun _ => br_t (nI_pos' (by omega)) ⟨pk_in nd 400 hd, ?_⟩) (fun z => absurd z (by omega))
    rw [nI_clamp (by omega), h2]
    exact H s.1 h.1.1 h.1.2
  · intro f w s hw h k
    have h2 := h.2
    have hz : s.1 (4 * nd + w) = if w = t then nI ch else -1 := by
      rw [h.1.1 _ (by omega)]
      exact hw4 w hw
    have hz2 : s.1 (4 * nd + w) = a1 (4 * nd + w) := h.1.1 _ (by omega)
    refine pk_le 4 w (fun z => absurd z (by omega)) (fun _ => br_t (nI_pos' (by omega)) ⟨sn_in hd hw, ?_⟩)
    rw [sn_cl hd hw]
    have hf := sn_fill h.1 hz2
    by_cases e : w = t
    · rw [if_pos e] at hz
      rw [hz] at hf
      rw [hz]
      rw [if_neg (by omega)] at h2
      rw [h2]
      exact sn_o75b hl hn hw hc (k (upd s.1 (4 * n + w) (nI ch), upd a3 ch (a3 ch + 1)) ⟨hf, by show upd a3 ch (a3 ch + 1) = _; rw [if_pos (by omega)]⟩)
    · rw [if_neg e] at hz
      rw [hz] at hf
      rw [hz]
      exact sn_o75a (by omega) hn hw (Or.inr rfl) (k (upd s.1 (4 * n + w) (-1), s.2) ⟨hf, by
        show s.2 = _
        rw [h2]
        by_cases g : t < w
        · rw [if_pos g, if_pos (by omega)]
        · rw [if_neg g, if_neg (by omega)]⟩)
/-- a node made where there was none -/
theorem sn_fr {post : Int32 → St2 → Prop} {a1 a2 a3 a4 a5 a6 a7 a8 : Nat → Int32} {l n : Nat} (hl : l ≤ 3) (hn : n < 400) (h1 : ∀ j, j < n → ¬ a3 j = 0) (h0 : a3 n = 0)
    (H : ∀ b1 b2 : Nat → Int32, (∀ j, j < 4 * n ∨ 4 * n + 4 ≤ j → b1 j = a1 j) → (∀ w, w < 4 → b1 (4 * n + w) = if l < 3 then -1 else 0) → (∀ j, j ≠ n → b2 j = a2 j) → b2 n = (if l = 3 then 0 ||| 256 else 0) → post (nI n) (b1, b2, upd a3 n 1, a4, a5, a6, a7, a8)) :
    wpX_ownNode post (a1, a2, a3, a4, a5, a6, a7, a8) (-1) (nI l) := by
  refine br_t sn_neg (sn_free hn h1 h0 ⟨pk_in n 400 hn, ?_⟩)
  rw [nI_clamp (by omega)]
  refine nm_e (sn_o31f hl hn (fun b1 hb1 hb2 => sn_o140 hl hn (fun b2 hc1 hc2 => br_t sn_neg (H b1 b2 hb1 hb2 hc1 hc2))))
/-- a leaf copied -/
theorem sn_cpl {post : Int32 → St2 → Prop} {a1 a2 a3 a4 a5 a6 a7 a8 : Nat → Int32} {n nd : Nat} (hn : n < 400) (hd : nd < n) (h1 : ∀ j, j < n → ¬ a3 j = 0) (h0 : a3 n = 0) (hu : ¬ a3 nd = 1)
    (H : ∀ b1 b2 : Nat → Int32, (∀ j, j < 4 * n ∨ 4 * n + 4 ≤ j → b1 j = a1 j) → (∀ w, w < 4 → b1 (4 * n + w) = a1 (4 * nd + w)) → (∀ j, j ≠ n → b2 j = a2 j) → b2 n = a2 nd ||| 256 → post (nI n) (b1, b2, upd (upd a3 n 1) nd (a3 nd - 1), a4, a5, a6, a7, a8)) :
    wpX_ownNode post (a1, a2, a3, a4, a5, a6, a7, a8) (nI nd) (nI 3) := by
  refine br_f (nI_pos (by omega)) ⟨pk_in nd 400 (by omega), ?_⟩
  rw [nI_clamp (by omega)]
  refine br_f hu (sn_free hn h1 h0 ⟨pk_in n 400 hn, ?_⟩)
  rw [nI_clamp (by omega)]
  refine nm_e (sn_o31l hn (by omega) (by omega) (fun b1 hb1 hb2 => sn_o140 (by omega) hn (fun b2 hc1 hc2 => br_f (nI_pos (by omega)) ⟨pk_in nd 400 (by omega), pk_in nd 400 (by omega), ?_⟩)))
  rw [nI_clamp (by omega), pk_un (show nd ≠ n by omega)]
  rw [if_pos rfl] at hc2
  exact nm_e (H b1 b2 hb1 hb2 hc1 hc2)
/-- an inner node of one way copied -/
theorem sn_cpi {post : Int32 → St2 → Prop} {a1 a2 a3 a4 a5 a6 a7 a8 : Nat → Int32} {l n nd t ch : Nat} (hl : l < 3) (hn : n < 400) (hd : nd < n) (hc : ch < n) (hcd : ch ≠ nd) (ht : t < 4) (h1 : ∀ j, j < n → ¬ a3 j = 0) (h0 : a3 n = 0) (hu : ¬ a3 nd = 1)
    (hw4 : ∀ w, w < 4 → a1 (4 * nd + w) = if w = t then nI ch else -1)
    (H : ∀ b1 b2 : Nat → Int32, (∀ j, j < 4 * n ∨ 4 * n + 4 ≤ j → b1 j = a1 j) → (∀ w, w < 4 → b1 (4 * n + w) = a1 (4 * nd + w)) → (∀ j, j ≠ n → b2 j = a2 j) → b2 n = 0 → post (nI n) (b1, b2, upd (upd (upd a3 n 1) ch (a3 ch + 1)) nd (a3 nd - 1), a4, a5, a6, a7, a8)) :
    wpX_ownNode post (a1, a2, a3, a4, a5, a6, a7, a8) (nI nd) (nI l) := by
  refine br_f (nI_pos (by omega)) ⟨pk_in nd 400 (by omega), ?_⟩
  rw [nI_clamp (by omega)]
  refine br_f hu (sn_free hn h1 h0 ⟨pk_in n 400 hn, ?_⟩)
  rw [nI_clamp (by omega)]
  refine nm_e (sn_o31c hl hn (by omega) (by omega) (by omega) ht hw4 (fun b1 hb1 hb2 => sn_o140 (by omega) hn (fun b2 hc1 hc2 => br_f (nI_pos (by omega)) ⟨pk_in nd 400 (by omega), pk_in nd 400 (by omega), ?_⟩)))
  rw [nI_clamp (by omega), pk_un (show nd ≠ ch by omega), pk_un (show nd ≠ n by omega), pk_un (show ch ≠ n by omega)]
  rw [if_neg (by omega)] at hc2
  exact nm_e (H b1 b2 hb1 hb2 hc1 hc2)
/-! ownNode_2 -/
theorem sn_o140_2 {post : Int32 → St2 → Prop} {a1 a2 a3 a4 a5 a6 a7 a8 : Nat → Int32} {x1 z : Int32} {l n : Nat} (hl : l ≤ 3) (hn : n < 400)
    (H : ∀ b2 : Nat → Int32, (∀ j, j ≠ n → b2 j = a2 j) → b2 n = (if l = 3 then z ||| 256 else 0) → ((x1 < 0 → post (nI n) (a1, b2, a3, a4, a5, a6, a7, a8)) ∧ (¬ x1 < 0 → (vp_in x1 400 ∧ (vp_in x1 400 ∧ ∀ c3 : Nat → Int32, c3 = upd a3 x1.toNatClampNeg ((a3 x1.toNatClampNeg) - 1) → post (nI n) (a1, b2, c3, a4, a5, a6, a7, a8)))))) :
    wX_ownNode_2_140 post x1 (nI l) (nI n) z (nI n) a1 a2 a3 a4 a5 a6 a7 a8 := by
  refine ⟨pk_in n 400 hn, nm_e ?_⟩
  rw [nI_clamp (by omega)]
  refine pk_eq l 3 (fun e => ⟨pk_in n 400 hn, pk_in n 400 hn, nm_e ?_⟩) (fun e => ⟨pk_in n 400 hn, nm_e ?_⟩)
  · rw [nI_clamp (by omega)]
    exact H _ (fun j hj => by rw [pk_un hj, pk_un hj]) (by rw [if_pos e, pk_us, pk_us])
  · rw [nI_clamp (by omega)]
    exact H _ (fun j hj => by rw [pk_un hj, pk_un hj]) (by rw [if_neg e, pk_us])
theorem sn_o75a_2 {post : Int32 → St2 → Prop} {J : Int32 → (Nat → Int32) → (Nat → Int32) → (Nat → Int32) → (Nat → Int32) → (Nat → Int32) → (Nat → Int32) → (Nat → Int32) → (Nat → Int32) → Prop} {a1 a2 a3 a4 a5 a6 a7 a8 : Nat → Int32} {x1 z : Int32} {l n w : Nat} (hl : l ≤ 3) (hn : n < 400) (hw : w < 4)
    (h : l = 3 ∨ z = -1) (H : J (nI (w + 1)) (upd a1 (4 * n + w) z) a2 a3 a4 a5 a6 a7 a8) :
    wX_ownNode_2_75 post J x1 (nI l) (nI n) (nI w) z (4 * nI n + nI w) a1 a2 a3 a4 a5 a6 a7 a8 := by
  refine ⟨sn_in hn hw, nm_r (e' := upd a1 (4 * n + w) z) (by rw [sn_cl hn hw]) (pk_le 3 l (fun _ => nm_r (nI_1 w) H) (fun hl3 => ⟨sn_in hn hw, ?_⟩))⟩
  rw [sn_cl hn hw, pk_us]
  rcases h with e | e
  · omega
  · exact br_t (by rw [e]; exact sn_neg) (nm_r (nI_1 w) H)
theorem sn_o75b_2 {post : Int32 → St2 → Prop} {J : Int32 → (Nat → Int32) → (Nat → Int32) → (Nat → Int32) → (Nat → Int32) → (Nat → Int32) → (Nat → Int32) → (Nat → Int32) → (Nat → Int32) → Prop} {a1 a2 a3 a4 a5 a6 a7 a8 : Nat → Int32} {x1 : Int32} {l n w ch : Nat} (hl : l < 3) (hn : n < 400) (hw : w < 4) (hc : ch < 400)
    (H : J (nI (w + 1)) (upd a1 (4 * n + w) (nI ch)) a2 (upd a3 ch (a3 ch + 1)) a4 a5 a6 a7 a8) :
    wX_ownNode_2_75 post J x1 (nI l) (nI n) (nI w) (nI ch) (4 * nI n + nI w) a1 a2 a3 a4 a5 a6 a7 a8 := by
  refine ⟨sn_in hn hw, nm_r (e' := upd a1 (4 * n + w) (nI ch)) (by rw [sn_cl hn hw]) (pk_le 3 l (fun z => absurd z (by omega)) (fun hl3 => ⟨sn_in hn hw, ?_⟩))⟩
  rw [sn_cl hn hw, pk_us]
  refine br_f (nI_pos (by omega)) ⟨sn_in hn hw, pk_in ch 400 hc, pk_in ch 400 hc, ?_⟩
  rw [nI_clamp (by omega)]
  exact nm_e (nm_r (nI_1 w) H)
theorem sn_o31f_2 {post : Int32 → St2 → Prop} {a1 a2 a3 a4 a5 a6 a7 a8 : Nat → Int32} {l n : Nat} (hl : l ≤ 3) (hn : n < 400)
    (H : ∀ b1 : Nat → Int32, (∀ j, j < 4 * n ∨ 4 * n + 4 ≤ j → b1 j = a1 j) → (∀ w, w < 4 → b1 (4 * n + w) = if l < 3 then -1 else 0) → wX_ownNode_2_140 post (-1) (nI l) (nI n) 0 (nI n) b1 a2 a3 a4 a5 a6 a7 a8) :
    ∃ f, wX_ownNode_2_31 post (-1) (nI l) (nI n) f 0 a1 a2 a3 a4 a5 a6 a7 a8 := by
  refine pk_loop (fun f w s => wX_ownNode_2_31 post (-1) (nI l) (nI n) f (nI w) s a2 a3 a4 a5 a6 a7 a8) (fun w s => (∀ j, j < 4 * n ∨ 4 * n + w ≤ j → s j = a1 j) ∧ ∀ i, i < w → s (4 * n + i) = (fun _ => if l < 3 then -1 else 0) i) 4 0 a1 (by omega) sn_fill0 ?_ ?_
  · intro f s h
    exact pk_le 4 4 (fun _ => br_f sn_neg' (H s h.1 h.2)) (fun z => absurd z (by omega))
  · intro f w s hw h k
    refine pk_le 4 w (fun z => absurd z (by omega)) (fun _ => br_f sn_neg' (pk_le 3 l (fun z => ?_) (fun z => ?_)))
    · exact sn_o75a_2 hl hn hw (Or.inl (by omega)) (k _ (sn_fill h (by show (0 : Int32) = if l < 3 then -1 else 0; rw [if_neg (by omega)])))
    · exact sn_o75a_2 hl hn hw (Or.inr rfl) (k _ (sn_fill h (by show (-1 : Int32) = if l < 3 then -1 else 0; rw [if_pos z])))
theorem sn_o31l_2 {post : Int32 → St2 → Prop} {a1 a2 a3 a4 a5 a6 a7 a8 : Nat → Int32} {n nd : Nat} (hn : n < 400) (hd : nd < 400) (hne : nd ≠ n)
    (H : ∀ b1 : Nat → Int32, (∀ j, j < 4 * n ∨ 4 * n + 4 ≤ j → b1 j = a1 j) → (∀ w, w < 4 → b1 (4 * n + w) = a1 (4 * nd + w)) → wX_ownNode_2_140 post (nI nd) (nI 3) (nI n) (a2 nd) (nI n) b1 a2 a3 a4 a5 a6 a7 a8) :
    ∃ f, wX_ownNode_2_31 post (nI nd) (nI 3) (nI n) f 0 a1 a2 a3 a4 a5 a6 a7 a8 := by
  refine pk_loop (fun f w s => wX_ownNode_2_31 post (nI nd) (nI 3) (nI n) f (nI w) s a2 a3 a4 a5 a6 a7 a8) (fun w s => (∀ j, j < 4 * n ∨ 4 * n + w ≤ j → s j = a1 j) ∧ ∀ i, i < w → s (4 * n + i) = (fun i => a1 (4 * nd + i)) i) 4 0 a1 (by omega) sn_fill0 ?_ ?_
  · intro f s h
    refine pk_le 4 4 (fun _ => br_t (nI_pos' (by omega)) ⟨pk_in nd 400 hd, ?_⟩) (fun z => absurd z (by omega))
    rw [nI_clamp (by omega)]
    exact H s h.1 h.2
  · intro f w s hw h k
    refine pk_le 4 w (fun z => absurd z (by omega)) (fun _ => br_t (nI_pos' (by omega)) ⟨sn_in hd hw, ?_⟩)
    rw [sn_cl hd hw]
    exact sn_o75a_2 (by omega) hn hw (Or.inl rfl) (k _ (sn_fill h (h.1 _ (by omega))))
theorem sn_o31c_2 {post : Int32 → St2 → Prop} {a1 a2 a3 a4 a5 a6 a7 a8 : Nat → Int32} {l n nd t ch : Nat} (hl : l < 3) (hn : n < 400) (hd : nd < 400) (hne : nd ≠ n) (hc : ch < 400) (ht : t < 4)
    (hw4 : ∀ w, w < 4 → a1 (4 * nd + w) = if w = t then nI ch else -1)
    (H : ∀ b1 : Nat → Int32, (∀ j, j < 4 * n ∨ 4 * n + 4 ≤ j → b1 j = a1 j) → (∀ w, w < 4 → b1 (4 * n + w) = a1 (4 * nd + w)) → wX_ownNode_2_140 post (nI nd) (nI l) (nI n) (a2 nd) (nI n) b1 a2 (upd a3 ch (a3 ch + 1)) a4 a5 a6 a7 a8) :
    ∃ f, wX_ownNode_2_31 post (nI nd) (nI l) (nI n) f 0 a1 a2 a3 a4 a5 a6 a7 a8 := by
  refine pk_loop (fun f w (s : (Nat → Int32) × (Nat → Int32)) => wX_ownNode_2_31 post (nI nd) (nI l) (nI n) f (nI w) s.1 a2 s.2 a4 a5 a6 a7 a8) (fun w s => ((∀ j, j < 4 * n ∨ 4 * n + w ≤ j → s.1 j = a1 j) ∧ ∀ i, i < w → s.1 (4 * n + i) = (fun i => a1 (4 * nd + i)) i) ∧ s.2 = if t < w then upd a3 ch (a3 ch + 1) else a3) 4 0 (a1, a3) (by omega) ⟨sn_fill0, ?_⟩ ?_ ?_
  · show a3 = if t < 0 then upd a3 ch (a3 ch + 1) else a3
    rw [if_neg (by omega)]
  · intro f s h
    have h2 := h.2
    rw [if_pos ht] at h2
    refine pk_le 4 4 (fun _ => br_t (nI_pos' (by omega)) ⟨pk_in nd 400 hd, ?_⟩) (fun z => absurd z (by omega))
    rw [nI_clamp (by omega), h2]
    exact H s.1 h.1.1 h.1.2
  · intro f w s hw h k
    have h2 := h.2
    have hz : s.1 (4 * nd + w) = if w = t then nI ch else -1 := by
      rw [h.1.1 _ (by omega)]
      exact hw4 w hw
    have hz2 : s.1 (4 * nd + w) = a1 (4 * nd + w) := h.1.1 _ (by omega)
    refine pk_le 4 w (fun z => absurd z (by omega)) (fun _ => br_t (nI_pos' (by omega)) ⟨sn_in hd hw, ?_⟩)
    rw [sn_cl hd hw]
    have hf := sn_fill h.1 hz2
    by_cases e : w = t
    · rw [if_pos e] at hz
      rw [hz] at hf
      rw [hz]
      rw [if_neg (by omega)] at h2
      rw [h2]
      exact sn_o75b_2 hl hn hw hc (k (upd s.1 (4 * n + w) (nI ch), upd a3 ch (a3 ch + 1)) ⟨hf, by show upd a3 ch (a3 ch + 1) = _; rw [if_pos (by omega)]⟩)
    · rw [if_neg e] at hz
      rw [hz] at hf
      rw [hz]
      exact sn_o75a_2 (by omega) hn hw (Or.inr rfl) (k (upd s.1 (4 * n + w) (-1), s.2) ⟨hf, by
        show s.2 = _
        rw [h2]
        by_cases g : t < w
        · rw [if_pos g, if_pos (by omega)]
        · rw [if_neg g, if_neg (by omega)]⟩)
/-- a node made where there was none -/
theorem sn_fr_2 {post : Int32 → St2 → Prop} {a1 a2 a3 a4 a5 a6 a7 a8 : Nat → Int32} {l n : Nat} (hl : l ≤ 3) (hn : n < 400) (h1 : ∀ j, j < n → ¬ a3 j = 0) (h0 : a3 n = 0)
    (H : ∀ b1 b2 : Nat → Int32, (∀ j, j < 4 * n ∨ 4 * n + 4 ≤ j → b1 j = a1 j) → (∀ w, w < 4 → b1 (4 * n + w) = if l < 3 then -1 else 0) → (∀ j, j ≠ n → b2 j = a2 j) → b2 n = (if l = 3 then 0 ||| 256 else 0) → post (nI n) (b1, b2, upd a3 n 1, a4, a5, a6, a7, a8)) :
    wpX_ownNode_2 post (a1, a2, a3, a4, a5, a6, a7, a8) (-1) (nI l) := by
  refine br_t sn_neg (sn_free hn h1 h0 ⟨pk_in n 400 hn, ?_⟩)
  rw [nI_clamp (by omega)]
  refine nm_e (sn_o31f_2 hl hn (fun b1 hb1 hb2 => sn_o140_2 hl hn (fun b2 hc1 hc2 => br_t sn_neg (H b1 b2 hb1 hb2 hc1 hc2))))
/-- a leaf copied -/
theorem sn_cpl_2 {post : Int32 → St2 → Prop} {a1 a2 a3 a4 a5 a6 a7 a8 : Nat → Int32} {n nd : Nat} (hn : n < 400) (hd : nd < n) (h1 : ∀ j, j < n → ¬ a3 j = 0) (h0 : a3 n = 0) (hu : ¬ a3 nd = 1)
    (H : ∀ b1 b2 : Nat → Int32, (∀ j, j < 4 * n ∨ 4 * n + 4 ≤ j → b1 j = a1 j) → (∀ w, w < 4 → b1 (4 * n + w) = a1 (4 * nd + w)) → (∀ j, j ≠ n → b2 j = a2 j) → b2 n = a2 nd ||| 256 → post (nI n) (b1, b2, upd (upd a3 n 1) nd (a3 nd - 1), a4, a5, a6, a7, a8)) :
    wpX_ownNode_2 post (a1, a2, a3, a4, a5, a6, a7, a8) (nI nd) (nI 3) := by
  refine br_f (nI_pos (by omega)) ⟨pk_in nd 400 (by omega), ?_⟩
  rw [nI_clamp (by omega)]
  refine br_f hu (sn_free hn h1 h0 ⟨pk_in n 400 hn, ?_⟩)
  rw [nI_clamp (by omega)]
  refine nm_e (sn_o31l_2 hn (by omega) (by omega) (fun b1 hb1 hb2 => sn_o140_2 (by omega) hn (fun b2 hc1 hc2 => br_f (nI_pos (by omega)) ⟨pk_in nd 400 (by omega), pk_in nd 400 (by omega), ?_⟩)))
  rw [nI_clamp (by omega), pk_un (show nd ≠ n by omega)]
  rw [if_pos rfl] at hc2
  exact nm_e (H b1 b2 hb1 hb2 hc1 hc2)
/-- an inner node of one way copied -/
theorem sn_cpi_2 {post : Int32 → St2 → Prop} {a1 a2 a3 a4 a5 a6 a7 a8 : Nat → Int32} {l n nd t ch : Nat} (hl : l < 3) (hn : n < 400) (hd : nd < n) (hc : ch < n) (hcd : ch ≠ nd) (ht : t < 4) (h1 : ∀ j, j < n → ¬ a3 j = 0) (h0 : a3 n = 0) (hu : ¬ a3 nd = 1)
    (hw4 : ∀ w, w < 4 → a1 (4 * nd + w) = if w = t then nI ch else -1)
    (H : ∀ b1 b2 : Nat → Int32, (∀ j, j < 4 * n ∨ 4 * n + 4 ≤ j → b1 j = a1 j) → (∀ w, w < 4 → b1 (4 * n + w) = a1 (4 * nd + w)) → (∀ j, j ≠ n → b2 j = a2 j) → b2 n = 0 → post (nI n) (b1, b2, upd (upd (upd a3 n 1) ch (a3 ch + 1)) nd (a3 nd - 1), a4, a5, a6, a7, a8)) :
    wpX_ownNode_2 post (a1, a2, a3, a4, a5, a6, a7, a8) (nI nd) (nI l) := by
  refine br_f (nI_pos (by omega)) ⟨pk_in nd 400 (by omega), ?_⟩
  rw [nI_clamp (by omega)]
  refine br_f hu (sn_free hn h1 h0 ⟨pk_in n 400 hn, ?_⟩)
  rw [nI_clamp (by omega)]
  refine nm_e (sn_o31c_2 hl hn (by omega) (by omega) (by omega) ht hw4 (fun b1 hb1 hb2 => sn_o140_2 (by omega) hn (fun b2 hc1 hc2 => br_f (nI_pos (by omega)) ⟨pk_in nd 400 (by omega), pk_in nd 400 (by omega), ?_⟩)))
  rw [nI_clamp (by omega), pk_un (show nd ≠ ch by omega), pk_un (show nd ≠ n by omega), pk_un (show ch ≠ n by omega)]
  rw [if_neg (by omega)] at hc2
  exact nm_e (H b1 b2 hb1 hb2 hc1 hc2)
end
section
/-- the key shares its first l digits with the older key k (there is one if B = 4) -/
abbrev sn_C (B k key l : Nat) : Prop := B = 4 ∧ sn_pr key l = sn_pr k l
/-- way w of the new way's node i; the same before it leads on; the marks of node i -/
def sn_W (B k key i w : Nat) : Int32 := if w = sn_dg key i then nI (B + i + 1) else if sn_C B k key i ∧ w = sn_dg k i then nI (i + 1) else -1
def sn_W0 (B k key : Nat) (v : Int32) (i w : Nat) : Int32 := if sn_C B k key i ∧ w = sn_dg k i then (if i < 3 then nI (i + 1) else v) else (if i < 3 then -1 else 0)
def sn_A (B k key : Nat) (A2 : Nat → Int32) (i : Nat) : Int32 := if i = 3 then (if sn_C B k key 3 then A2 3 else 0) ||| 256 else 0
/-- l nodes of the new way are made, the first c lead on -/
def sn_P (B k key : Nat) (v : Int32) (A1 A2 : Nat → Int32) (c l : Nat) (a1 a2 a3 : Nat → Int32) : Prop :=
  (∀ j, j < 4 * B → a1 j = A1 j) ∧ (∀ j, j < B → a2 j = A2 j) ∧ (∀ i w, i < c → w < 4 → a1 (4 * (B + i) + w) = sn_W B k key i w) ∧ (∀ i w, c ≤ i → i < l → w < 4 → a1 (4 * (B + i) + w) = sn_W0 B k key v i w) ∧ (∀ i, i < l → a2 (B + i) = sn_A B k key A2 i)
  ∧ (∀ j, j < B + l → ¬ a3 j = 0) ∧ (∀ j, B + l ≤ j → j < 400 → a3 j = 0) ∧ (∀ i, i < l → a3 (B + i) = 1) ∧ (B = 4 → ∀ i, l < i → i < 4 → a3 i = 1) ∧ (sn_C B k key l → l < 4 → a3 l = 2)
/-- the older way, of key k -/
def sn_T1 (k : Nat) (v : Int32) (A1 : Nat → Int32) : Prop := (∀ i w, i < 3 → w < 4 → A1 (4 * i + w) = if w = sn_dg k i then nI (i + 1) else -1) ∧ (∀ w, w < 4 → A1 (4 * 3 + w) = if w = sn_dg k 3 then v else 0)
theorem sn_P_new {B k key c l : Nat} {v : Int32} {A1 A2 a1 a2 a3 b1 b2 b3 : Nat → Int32} (hc : c ≤ l) (h : sn_P B k key v A1 A2 c l a1 a2 a3)
    (e1 : ∀ j, j < 4 * (B + l) ∨ 4 * (B + l) + 4 ≤ j → b1 j = a1 j) (e2 : ∀ w, w < 4 → b1 (4 * (B + l) + w) = sn_W0 B k key v l w) (e3 : ∀ j, j ≠ B + l → b2 j = a2 j) (e4 : b2 (B + l) = sn_A B k key A2 l)
    (g1 : ∀ j, j < B + l + 1 → ¬ b3 j = 0) (g2 : ∀ j, B + l + 1 ≤ j → j < 400 → b3 j = 0) (g3 : ∀ i, i < l + 1 → b3 (B + i) = 1) (g4 : B = 4 → ∀ i, l + 1 < i → i < 4 → b3 i = 1) (g5 : sn_C B k key (l + 1) → l + 1 < 4 → b3 (l + 1) = 2) :
    sn_P B k key v A1 A2 c (l + 1) b1 b2 b3 := by
  obtain ⟨p1, p2, p3, p4, p5, _, _, _, _, _⟩ := h
  refine ⟨fun j hj => ?_, fun j hj => ?_, fun i w hi hw => ?_, fun i w hi hil hw => ?_, fun i hi => ?_, g1, g2, g3, g4, g5⟩
  · rw [e1 j (by omega)]
    exact p1 j hj
  · rw [e3 j (by omega)]
    exact p2 j hj
  · rw [e1 _ (by omega)]
    exact p3 i w hi hw
  · by_cases e : i = l
    · rw [e]
      exact e2 w hw
    · rw [e1 _ (by omega)]
      exact p4 i w hi (by omega) hw
  · by_cases e : i = l
    · rw [e]
      exact e4
    · rw [e3 _ (by omega)]
      exact p5 i (by omega)
theorem sn_P_red {B k key c m : Nat} {v : Int32} {A1 A2 a1 a2 a3 : Nat → Int32} (hc : c < 3) (hcm : c < m) (h : sn_P B k key v A1 A2 c m a1 a2 a3) :
    sn_P B k key v A1 A2 (c + 1) m (upd a1 (4 * (B + c) + sn_dg key c) (nI (B + c + 1))) a2 a3 := by
  obtain ⟨p1, p2, p3, p4, p5⟩ := h
  have hd := sn_dg_lt key c
  refine ⟨fun j hj => ?_, p2, fun i w hi hw => ?_, fun i w hi hil hw => ?_, p5⟩
  · rw [pk_un (by omega)]
    exact p1 j hj
  · by_cases e : i = c
    · rw [e]
      by_cases ew : w = sn_dg key c
      · rw [ew, pk_us]
        unfold sn_W
        rw [if_pos rfl]
      · rw [pk_un (by omega), p4 c w (by omega) hcm hw]
        unfold sn_W sn_W0
        rw [if_neg ew, if_pos hc, if_pos hc]
    · rw [pk_un (by omega)]
      exact p3 i w (by omega) hw
  · rw [pk_un (by omega)]
    exact p4 i w (by omega) hil hw
/-- the users behind each of the three ways to make a node -/
theorem sn_P_fr {B k key c l : Nat} {v : Int32} {A1 A2 a1 a2 a3 b1 b2 : Nat → Int32} (hB : B = 0 ∨ B = 4) (hl : l ≤ 3) (hc : c ≤ l) (hC : ¬ sn_C B k key l) (h : sn_P B k key v A1 A2 c l a1 a2 a3)
    (e1 : ∀ j, j < 4 * (B + l) ∨ 4 * (B + l) + 4 ≤ j → b1 j = a1 j) (e2 : ∀ w, w < 4 → b1 (4 * (B + l) + w) = if l < 3 then -1 else 0) (e3 : ∀ j, j ≠ B + l → b2 j = a2 j) (e4 : b2 (B + l) = if l = 3 then 0 ||| 256 else 0) :
    sn_P B k key v A1 A2 c (l + 1) b1 b2 (upd a3 (B + l) 1) := by
  have h' := h
  obtain ⟨_, _, _, _, _, q1, q2, q3, q4, q5⟩ := h
  refine sn_P_new hc h' e1 (fun w hw => ?_) e3 ?_ (fun j hj => ?_) (fun j hj hj4 => ?_) (fun i hi => ?_) (fun b4 i hi hi4 => ?_) (fun hC1 hl4 => ?_)
  · rw [e2 w hw]
    unfold sn_W0
    rw [if_neg (c := sn_C B k key l ∧ w = sn_dg k l) (fun z => hC z.1)]
  · rw [e4]
    unfold sn_A
    by_cases e : l = 3
    · rw [if_pos e, if_pos e, if_neg (by rw [← e]; exact hC)]
    · rw [if_neg e, if_neg e]
  · by_cases e : j = B + l
    · rw [e, pk_us]
      exact sn_10
    · rw [pk_un e]
      exact q1 j (by omega)
  · rw [pk_un (by omega)]
    exact q2 j (by omega) hj4
  · by_cases e : i = l
    · rw [e, pk_us]
    · rw [pk_un (by omega)]
      exact q3 i (by omega)
  · rw [pk_un (by omega)]
    exact q4 b4 i (by omega) hi4
  · exact absurd ⟨hC1.1, ((sn_pr_s (by omega)).mp hC1.2).1⟩ hC
theorem sn_P_cpl {k key c : Nat} {v : Int32} {A1 A2 a1 a2 a3 b1 b2 : Nat → Int32} (hT : sn_T1 k v A1) (hc : c ≤ 3) (hC : sn_C 4 k key 3) (h : sn_P 4 k key v A1 A2 c 3 a1 a2 a3)
    (e1 : ∀ j, j < 4 * (4 + 3) ∨ 4 * (4 + 3) + 4 ≤ j → b1 j = a1 j) (e2 : ∀ w, w < 4 → b1 (4 * (4 + 3) + w) = a1 (4 * 3 + w)) (e3 : ∀ j, j ≠ 4 + 3 → b2 j = a2 j) (e4 : b2 (4 + 3) = a2 3 ||| 256) :
    sn_P 4 k key v A1 A2 c (3 + 1) b1 b2 (upd (upd a3 (4 + 3) 1) 3 (a3 3 - 1)) := by
  have h' := h
  obtain ⟨p1, p2, _, _, _, q1, q2, q3, q4, q5⟩ := h
  have u3 : a3 3 = 2 := q5 hC (by omega)
  rw [u3, sn_21]
  refine sn_P_new hc h' e1 (fun w hw => ?_) e3 ?_ (fun j hj => ?_) (fun j hj hj4 => ?_) (fun i hi => ?_) (fun b4 i hi hi4 => absurd hi (by omega)) (fun hC1 hl4 => absurd hl4 (by omega))
  · rw [e2 w hw, p1 _ (by omega), hT.2 w hw]
    unfold sn_W0
    by_cases e : w = sn_dg k 3
    · rw [if_pos e, if_pos ⟨hC, e⟩, if_neg (by omega)]
    · rw [if_neg e, if_neg (fun z => e z.2), if_neg (by omega)]
  · rw [e4, p2 3 (by omega)]
    unfold sn_A
    rw [if_pos rfl, if_pos hC]
  · by_cases e : j = 3
    · rw [e, pk_us]
      exact sn_10
    · rw [pk_un e]
      by_cases e' : j = 4 + 3
      · rw [e', pk_us]
        exact sn_10
      · rw [pk_un e']
        exact q1 j (by omega)
  · rw [pk_un (by omega), pk_un (by omega)]
    exact q2 j (by omega) hj4
  · rw [pk_un (by omega)]
    by_cases e : i = 3
    · rw [e, pk_us]
    · rw [pk_un (by omega)]
      exact q3 i (by omega)
theorem sn_P_cpi {k key c l : Nat} {v : Int32} {A1 A2 a1 a2 a3 b1 b2 : Nat → Int32} (hT : sn_T1 k v A1) (hl : l < 3) (hc : c ≤ l) (hC : sn_C 4 k key l) (h : sn_P 4 k key v A1 A2 c l a1 a2 a3)
    (e1 : ∀ j, j < 4 * (4 + l) ∨ 4 * (4 + l) + 4 ≤ j → b1 j = a1 j) (e2 : ∀ w, w < 4 → b1 (4 * (4 + l) + w) = a1 (4 * l + w)) (e3 : ∀ j, j ≠ 4 + l → b2 j = a2 j) (e4 : b2 (4 + l) = 0) :
    sn_P 4 k key v A1 A2 c (l + 1) b1 b2 (upd (upd (upd a3 (4 + l) 1) (l + 1) (a3 (l + 1) + 1)) l (a3 l - 1)) := by
  have h' := h
  obtain ⟨p1, p2, _, _, _, q1, q2, q3, q4, q5⟩ := h
  have u3 : a3 l = 2 := q5 hC (by omega)
  have u4 : a3 (l + 1) = 1 := q4 rfl (l + 1) (by omega) (by omega)
  rw [u3, u4, sn_21, sn_11]
  refine sn_P_new hc h' e1 (fun w hw => ?_) e3 ?_ (fun j hj => ?_) (fun j hj hj4 => ?_) (fun i hi => ?_) (fun b4 i hi hi4 => ?_) (fun hC1 hl4 => ?_)
  · rw [e2 w hw, p1 _ (by omega), hT.1 l w hl hw]
    unfold sn_W0
    by_cases e : w = sn_dg k l
    · rw [if_pos e, if_pos ⟨hC, e⟩, if_pos hl]
    · rw [if_neg e, if_neg (fun z => e z.2), if_pos hl]
  · rw [e4]
    unfold sn_A
    rw [if_neg (by omega)]
  · by_cases e : j = l
    · rw [e, pk_us]
      exact sn_10
    · rw [pk_un e]
      by_cases e' : j = l + 1
      · rw [e', pk_us]
        exact sn_20
      · rw [pk_un e']
        by_cases e'' : j = 4 + l
        · rw [e'', pk_us]
          exact sn_10
        · rw [pk_un e'']
          exact q1 j (by omega)
  · rw [pk_un (by omega), pk_un (by omega), pk_un (by omega)]
    exact q2 j (by omega) hj4
  · rw [pk_un (by omega), pk_un (by omega)]
    by_cases e : i = l
    · rw [e, pk_us]
    · rw [pk_un (by omega)]
      exact q3 i (by omega)
  · rw [pk_un (by omega), pk_un (by omega), pk_un (by omega)]
    exact q4 b4 i (by omega) hi4
  · rw [pk_un (by omega), pk_us]
theorem sn_mk {post : Int32 → St2 → Prop} {a1 a2 a3 a4 a5 a6 a7 a8 : Nat → Int32} {B k key c l : Nat} {v : Int32} {A1 A2 : Nat → Int32} (hB : B = 0 ∨ B = 4) (hT : B = 4 → sn_T1 k v A1) (hl : l ≤ 3) (hc : c ≤ l)
    (h : sn_P B k key v A1 A2 c l a1 a2 a3) {x : Int32} (hx : x = if sn_C B k key l then nI l else -1)
    (H : ∀ b1 b2 b3 : Nat → Int32, sn_P B k key v A1 A2 c (l + 1) b1 b2 b3 → post (nI (B + l)) (b1, b2, b3, a4, a5, a6, a7, a8)) :
    wpX_ownNode post (a1, a2, a3, a4, a5, a6, a7, a8) x (nI l) := by
  have h' := h
  obtain ⟨p1, p2, p3, p4, p5, q1, q2, q3, q4, q5⟩ := h
  by_cases hC : sn_C B k key l
  · rw [if_pos hC] at hx
    rw [hx]
    have hu : ¬ a3 l = 1 := by
      rw [q5 hC (by omega)]
      exact sn_2n1
    have hB4 : B = 4 := hC.1
    subst hB4
    have hT' := hT rfl
    by_cases e : l = 3
    · subst e
      exact sn_cpl (n := 4 + 3) (by omega) (by omega) q1 (q2 _ (by omega) (by omega)) hu (fun b1 b2 e1 e2 e3 e4 => H _ _ _ (sn_P_cpl hT' hc hC h' e1 e2 e3 e4))
    · refine sn_cpi (n := 4 + l) (t := sn_dg k l) (ch := l + 1) (by omega) (by omega) (by omega) (by omega) (by omega) (sn_dg_lt k l) q1 (q2 _ (by omega) (by omega)) hu (fun w hw => ?_) (fun b1 b2 e1 e2 e3 e4 => H _ _ _ (sn_P_cpi hT' (by omega) hc hC h' e1 e2 e3 e4))
      rw [p1 _ (by omega)]
      exact hT'.1 l w (by omega) hw
  · rw [if_neg hC] at hx
    rw [hx]
    exact sn_fr (n := B + l) hl (by omega) q1 (q2 _ (by omega) (by omega)) (fun b1 b2 e1 e2 e3 e4 => H _ _ _ (sn_P_fr hB hl hc hC h' e1 e2 e3 e4))
theorem sn_mk_2 {post : Int32 → St2 → Prop} {a1 a2 a3 a4 a5 a6 a7 a8 : Nat → Int32} {B k key c l : Nat} {v : Int32} {A1 A2 : Nat → Int32} (hB : B = 0 ∨ B = 4) (hT : B = 4 → sn_T1 k v A1) (hl : l ≤ 3) (hc : c ≤ l)
    (h : sn_P B k key v A1 A2 c l a1 a2 a3) {x : Int32} (hx : x = if sn_C B k key l then nI l else -1)
    (H : ∀ b1 b2 b3 : Nat → Int32, sn_P B k key v A1 A2 c (l + 1) b1 b2 b3 → post (nI (B + l)) (b1, b2, b3, a4, a5, a6, a7, a8)) :
    wpX_ownNode_2 post (a1, a2, a3, a4, a5, a6, a7, a8) x (nI l) := by
  have h' := h
  obtain ⟨p1, p2, p3, p4, p5, q1, q2, q3, q4, q5⟩ := h
  by_cases hC : sn_C B k key l
  · rw [if_pos hC] at hx
    rw [hx]
    have hu : ¬ a3 l = 1 := by
      rw [q5 hC (by omega)]
      exact sn_2n1
    have hB4 : B = 4 := hC.1
    subst hB4
    have hT' := hT rfl
    by_cases e : l = 3
    · subst e
      exact sn_cpl_2 (n := 4 + 3) (by omega) (by omega) q1 (q2 _ (by omega) (by omega)) hu (fun b1 b2 e1 e2 e3 e4 => H _ _ _ (sn_P_cpl hT' hc hC h' e1 e2 e3 e4))
    · refine sn_cpi_2 (n := 4 + l) (t := sn_dg k l) (ch := l + 1) (by omega) (by omega) (by omega) (by omega) (by omega) (sn_dg_lt k l) q1 (q2 _ (by omega) (by omega)) hu (fun w hw => ?_) (fun b1 b2 e1 e2 e3 e4 => H _ _ _ (sn_P_cpi hT' (by omega) hc hC h' e1 e2 e3 e4))
      rw [p1 _ (by omega)]
      exact hT'.1 l w (by omega) hw
  · rw [if_neg hC] at hx
    rw [hx]
    exact sn_fr_2 (n := B + l) hl (by omega) q1 (q2 _ (by omega) (by omega)) (fun b1 b2 e1 e2 e3 e4 => H _ _ _ (sn_P_fr hB hl hc hC h' e1 e2 e3 e4))
theorem sn_path31 {post : Int32 → St2 → Prop} {a1 a2 a3 a4 a5 a6 a7 a8 : Nat → Int32} {B k key : Nat} {v : Int32} {A1 A2 : Nat → Int32} (hkey : key < 256) (hB : B = 0 ∨ B = 4) (hT : B = 4 → sn_T1 k v A1)
    (h : sn_P B k key v A1 A2 0 1 a1 a2 a3) (h7 : a7 0 = nI B)
    (H : ∀ b1 b2 b3 b7 : Nat → Int32, sn_P B k key v A1 A2 3 4 b1 b2 b3 → post (nI (B + 3)) (b1, b2, b3, a4, a5, a6, b7, a8)) :
    ∃ f, wX_ownPath_31 post (nI key) f 0 a1 a2 a3 a4 a5 a6 a7 a8 := by
  refine pk_loop (fun f l (s : (Nat → Int32) × (Nat → Int32) × (Nat → Int32) × (Nat → Int32)) => wX_ownPath_31 post (nI key) f (nI l) s.1 s.2.1 s.2.2.1 a4 a5 a6 s.2.2.2 a8)
    (fun l s => sn_P B k key v A1 A2 l (l + 1) s.1 s.2.1 s.2.2.1 ∧ s.2.2.2 l = nI (B + l)) 3 0 (a1, a2, a3, a7) (by omega) ⟨h, h7⟩ ?_ ?_
  · intro f s hs
    refine pk_le 3 3 (fun _ => ?_) (fun z => absurd z (by omega))
    rw [hs.2]
    exact H _ _ _ _ hs.1
  · intro f l s hl hs hw
    obtain ⟨b1, b2, b3, b7⟩ := s
    obtain ⟨hP, h7l⟩ := hs
    dsimp only at hP h7l
    have hd := sn_dg_lt key l
    have hBl : B + l < 400 := by omega
    refine pk_le 3 l (fun z => absurd z (by omega)) (fun _ => ⟨pk_in l 4 (by omega), sn_turn hkey hl ?_⟩)
    refine nm_r (e' := nI (4 * (B + l) + sn_dg key l)) (by rw [nI_clamp (by omega)]; show 4 * b7 l + _ = _; rw [h7l, sn_ix]) ?_
    rw [nI_1, nI_clamp (show 4 * (B + l) + sn_dg key l < 2 ^ 31 by omega), nI_clamp (show l + 1 < 2 ^ 31 by omega)]
    refine ⟨pk_in (4 * (B + l) + sn_dg key l) 1600 (by omega), ?_⟩
    refine sn_mk_2 (c := l) (l := l + 1) hB hT (by omega) (by omega) hP ?_ (fun c1 c2 c3 hc => ?_)
    · show b1 (4 * (B + l) + sn_dg key l) = _
      rw [hP.2.2.2.1 l _ (by omega) (by omega) hd]
      unfold sn_W0
      by_cases e : sn_C B k key (l + 1)
      · have e2 := (sn_pr_s (by omega)).mp e.2
        rw [if_pos e, if_pos ⟨⟨e.1, e2.1⟩, e2.2⟩, if_pos hl]
      · rw [if_neg e, if_neg (fun z => e ⟨z.1.1, (sn_pr_s (by omega)).mpr ⟨z.1.2, z.2⟩⟩), if_pos hl]
    · refine ⟨pk_in (4 * (B + l) + sn_dg key l) 1600 (by omega), nm_e ⟨pk_in (4 * (B + l) + sn_dg key l) 1600 (by omega), pk_in (l + 1) 4 (by omega), nm_e (nm_e ?_)⟩⟩
      exact hw (upd c1 (4 * (B + l) + sn_dg key l) (nI (B + (l + 1))), c2, c3, _) ⟨sn_P_red hl (by omega) hc, by show upd b7 (l + 1) _ (l + 1) = _; rw [pk_us, pk_us]⟩
theorem sn_path {post : Int32 → St2 → Prop} {a1 a2 a3 a4 a5 a6 a7 a8 : Nat → Int32} {B k key : Nat} {v : Int32} {A1 A2 : Nat → Int32} (hkey : key < 256) (hB : B = 0 ∨ B = 4) (hT : B = 4 → sn_T1 k v A1)
    (h : sn_P B k key v A1 A2 0 0 a1 a2 a3) (h5 : a5 0 = if sn_C B k key 0 then nI 0 else -1)
    (H : ∀ b1 b2 b3 b7 : Nat → Int32, sn_P B k key v A1 A2 3 4 b1 b2 b3 → post (nI (B + 3)) (b1, b2, b3, a4, upd a5 0 (nI B), a6, b7, a8)) :
    wpX_ownPath post (a1, a2, a3, a4, a5, a6, a7, a8) (nI key) := by
  refine sn_mk (c := 0) (l := 0) hB hT (by omega) (by omega) h h5 (fun b1 b2 b3 hb => nm_e (nm_e ?_))
  exact sn_path31 hkey hB hT hb (by rw [pk_us, pk_us]; rfl) H
/-- ways and marks behind a put -/
def sn_R (B k key : Nat) (v o : Int32) (A1 A2 a1 a2 : Nat → Int32) : Prop :=
  (∀ j, j < 4 * B → a1 j = A1 j) ∧ (∀ j, j < B → a2 j = A2 j) ∧ (∀ i w, i < 3 → w < 4 → a1 (4 * (B + i) + w) = sn_W B k key i w) ∧ (∀ w, w < 4 → a1 (4 * (B + 3) + w) = if w = sn_dg key 3 then o else if sn_C B k key 3 ∧ w = sn_dg k 3 then v else 0)
  ∧ (∀ i, i < 3 → a2 (B + i) = 0) ∧ a2 (B + 3) = ((if sn_C B k key 3 then A2 3 else 0) ||| 256) ||| ((1 : Int32) <<< (nI (sn_dg key 3) &&& 31))
/-- users behind a put -/
def sn_U (B : Nat) (a3 : Nat → Int32) : Prop := (∀ j, j < B + 4 → ¬ a3 j = 0) ∧ (∀ j, B + 4 ≤ j → j < 400 → a3 j = 0) ∧ (∀ i, i < 4 → a3 (B + i) = 1)
theorem sn_P_R {B k key : Nat} {v o : Int32} {A1 A2 b1 b2 b3 : Nat → Int32} (h : sn_P B k key v A1 A2 3 4 b1 b2 b3) :
    sn_R B k key v o A1 A2 (upd b1 (4 * (B + 3) + sn_dg key 3) o) (upd b2 (B + 3) (b2 (B + 3) ||| ((1 : Int32) <<< (nI (sn_dg key 3) &&& 31)))) := by
  obtain ⟨p1, p2, p3, p4, p5, _, _, _, _, _⟩ := h
  have hd := sn_dg_lt key 3
  refine ⟨fun j hj => ?_, fun j hj => ?_, fun i w hi hw => ?_, fun w hw => ?_, fun i hi => ?_, ?_⟩
  · rw [pk_un (by omega)]
    exact p1 j hj
  · rw [pk_un (by omega)]
    exact p2 j hj
  · rw [pk_un (by omega)]
    exact p3 i w hi hw
  · by_cases e : w = sn_dg key 3
    · rw [if_pos e, e, pk_us]
    · rw [if_neg e, pk_un (by omega), p4 3 w (by omega) (by omega) hw]
      unfold sn_W0
      rw [if_neg (show ¬ 3 < 3 by omega), if_neg (show ¬ 3 < 3 by omega)]
  · rw [pk_un (by omega), p5 i (by omega)]
    unfold sn_A
    rw [if_neg (by omega)]
  · rw [pk_us, p5 3 (by omega)]
    unfold sn_A
    rw [if_pos rfl]
theorem sn_put37 {post : Int32 → St2 → Prop} {a1 a2 a3 a4 a5 a6 a7 a8 : Nat → Int32} {B k key : Nat} {v o x3 δ : Int32} {A1 A2 : Nat → Int32} (hkey : key < 256) (hB : B = 0 ∨ B = 4) (hT : B = 4 → sn_T1 k v A1)
    (h : sn_P B k key v A1 A2 0 0 a1 a2 a3) (h5 : a5 0 = if sn_C B k key 0 then nI 0 else -1) (hδ : (x3 = 0 ∧ δ = 1) ∨ (¬ x3 = 0 ∧ δ = 0))
    (H : ∀ b1 b2 b3 b7 : Nat → Int32, sn_R B k key v o A1 A2 b1 b2 → sn_U B b3 → post (a6 0 + δ) (b1, b2, b3, a4, upd a5 0 (nI B), upd a6 0 (a6 0 + δ), b7, a8)) :
    wX_put_37 post (nI key) o x3 a1 a2 a3 a4 a5 a6 a7 a8 := by
  refine sn_path hkey hB hT h h5 (fun b1 b2 b3 b7 hP => ?_)
  have hd := sn_dg_lt key 3
  have hr := sn_P_R (o := o) hP
  obtain ⟨_, _, _, _, _, q1, q2, q3, _, _⟩ := hP
  have hU : sn_U B b3 := ⟨q1, q2, q3⟩
  have hn : B + 3 < 400 := by omega
  rw [sn_a3 hkey]
  refine ⟨sn_in hn hd, nm_r (e' := upd b1 (4 * (B + 3) + sn_dg key 3) o) (by rw [sn_cl hn hd]) ⟨pk_in (B + 3) 400 hn, pk_in (B + 3) 400 hn, nm_r (e' := upd b2 (B + 3) (b2 (B + 3) ||| ((1 : Int32) <<< (nI (sn_dg key 3) &&& 31)))) (by rw [nI_clamp (by omega)]) ?_⟩⟩
  have t := H _ _ _ b7 hr hU
  rcases hδ with ⟨e, ed⟩ | ⟨e, ed⟩
  · rw [ed] at t
    refine br_t e (nm_e ?_)
    rw [pk_us]
    exact t
  · rw [ed] at t
    refine br_f e (nm_e ?_)
    rw [pk_us]
    exact t
theorem sn_put {post : Int32 → St2 → Prop} {a1 a2 a3 a4 a5 a6 a7 a8 : Nat → Int32} {B k key : Nat} {v o δ : Int32} {A1 A2 X : Nat → Int32} {r : Option Int32} (hkey : key < 256) (hB : B = 0 ∨ B = 4) (hT : B = 4 → sn_T1 k v A1)
    (h : sn_P B k key v A1 A2 0 0 a1 a2 a3) (h5 : a5 0 = if sn_C B k key 0 then nI 0 else -1) (hX : sn_chain a1 key X) (h0 : a5 0 = X 0) (hr : sn_lk a1 a2 key (X 3) r) (h16 : a6 0 < 16)
    (hδ : (r = none ∧ δ = 1) ∨ (¬ r = none ∧ δ = 0))
    (H : ∀ b1 b2 b3 b7 : Nat → Int32, sn_R B k key v o A1 A2 b1 b2 → sn_U B b3 → post (a6 0 + δ) (b1, b2, b3, a4, upd a5 0 (nI B), upd a6 0 (a6 0 + δ), b7, a8)) :
    wpX_put post (a1, a2, a3, a4, a5, a6, a7, a8) (nI key) o := by
  refine br_f (nI_pos (by omega)) (br_t (nI_le (b := 255) (by omega) (by decide)) (sn_holds (m := 0) (by omega) hkey hX h0 hr (fun e => ?_) (fun e => ?_)))
  · rcases hδ with ⟨_, ed⟩ | ⟨e2, _⟩
    · exact br_t rfl (br_t h16 (sn_put37 hkey hB hT h h5 (Or.inl ⟨rfl, ed⟩) H))
    · exact absurd e e2
  · rcases hδ with ⟨e2, _⟩ | ⟨_, ed⟩
    · exact absurd e2 e
    · exact br_f sn_10 (sn_put37 hkey hB hT h h5 (Or.inr ⟨sn_10, ed⟩) H)
end
section
/-! the constructor, share, commit, giveBack, restore -/
theorem sn_init {post : St2 → Prop} {mc ms : Nat} (h1 : 8 ≤ mc) (h2 : 2444 ≤ ms)
    (H : ∀ b5 : Nat → Int32, (∀ j, j < 8 → b5 j = -1) → post (fun _ => 0, fun _ => 0, fun _ => 0, upd (fun _ => 0) 0 1, b5, fun _ => 0, fun _ => 0, fun _ => 0)) : wpX_init post mc ms () := by
  refine ⟨by omega, by omega, by omega, by omega, by omega, by omega, by omega, by omega, by omega, by omega, by omega, by omega, by omega, by omega, by omega, by omega, nm_e ?_⟩
  refine pk_loop (fun f i s => wX_init_79 post mc ms 8 2444 f (nI i) (fun _ => 0) (fun _ => 0) (fun _ => 0) (upd (fun _ => 0) 0 1) s (fun _ => 0) (fun _ => 0) (fun _ => 0)) (fun i s => ∀ j, j < i → s j = -1) 8 0 (fun _ => 0) (by omega) (fun j hj => absurd hj (by omega)) ?_ ?_
  · intro f s h
    exact pk_le 8 8 (fun _ => H s h) (fun z => absurd z (by omega))
  · intro f i s hi h hw
    refine pk_le 8 i (fun z => absurd z (by omega)) (fun _ => ⟨pk_in i 8 hi, nm_r (e' := upd s i (-1)) (by rw [nI_clamp (by omega)]) (nm_r (nI_1 i) (hw _ (fun j hj => ?_)))⟩)
    by_cases e : j = i
    · rw [e, pk_us]
    · rw [pk_un e]
      exact h j (by omega)
theorem sn_sh {post : St2 → Prop} {a1 a2 a3 a4 a5 a6 a7 a8 : Nat → Int32} {f t r : Nat} (hf : f < 8) (ht : t < 8) (hr : r < 400) (he : a5 f = nI r)
    (H : post (a1, a2, upd a3 r (a3 r + 1), a4, upd a5 t (nI r), upd a6 t (a6 f), a7, a8)) : wpX_share post (a1, a2, a3, a4, a5, a6, a7, a8) (nI f) (nI t) := by
  refine ⟨pk_in f 8 hf, pk_in t 8 ht, nm_r (e' := upd a5 t (nI r)) (by rw [nI_clamp (by omega), nI_clamp (by omega), he]) ⟨pk_in f 8 hf, pk_in t 8 ht, nm_r (e' := upd a6 t (a6 f)) (by rw [nI_clamp (by omega), nI_clamp (by omega)]) ⟨pk_in t 8 ht, ?_⟩⟩⟩
  rw [nI_clamp (show t < 2 ^ 31 by omega), pk_us, nI_clamp (show r < 2 ^ 31 by omega)]
  exact br_f (nI_pos (by omega)) ⟨pk_in t 8 ht, pk_in r 400 hr, pk_in r 400 hr, nm_e H⟩
theorem sn_commit {post : Int32 → St2 → Prop} {a1 a2 a3 a4 a5 a6 a7 a8 : Nat → Int32} {r : Nat} (h4 : a4 1 = 0) (h5 : a5 0 = nI r) (hr : r < 400)
    (H : post 0 (a1, a2, upd a3 r (a3 r + 1), upd a4 1 1, upd a5 1 (nI r), upd a6 1 (a6 0), a7, a8)) : wpX_commit post (a1, a2, a3, a4, a5, a6, a7, a8) := by
  have c1 : (1 : Int32).toNatClampNeg = 1 := pk_cl 1
  refine ⟨1, br_f (by decide) ⟨pk_in 1 8 (by omega), ?_⟩⟩
  rw [c1, show (1 : Int32) - 1 = 0 by decide]
  exact br_t h4 ⟨pk_in 1 8 (by omega), nm_e (sn_sh (f := 0) (t := 1) (by omega) (by omega) hr h5 H)⟩
/-- inner nodes lead a level on -/
def sn_lv (N : Nat) (a1 a2 : Nat → Int32) : Prop := N ≤ 8 ∧ ∀ n, n < N → (a2 n &&& 256) = 0 → n % 4 < 3 ∧ ∀ w, w < 4 → a1 (4 * n + w) = -1 ∨ ∃ j, j < N ∧ a1 (4 * n + w) = nI j ∧ j % 4 = n % 4 + 1
def sn_st (N d : Nat) (a8 : Nat → Int32) : Prop := ∀ i, i < d → ∃ j, j < N ∧ a8 i = nI j ∧ i ≤ 3 * (j % 4)
theorem sn_push {N d j : Nat} {b8 : Nat → Int32} (h : sn_st N d b8) (hj : j < N) (hd : d ≤ 3 * (j % 4)) : sn_st N (d + 1) (upd b8 d (nI j)) := by
  intro i hi
  by_cases e : i = d
  · refine ⟨j, hj, ?_, by omega⟩
    rw [e, pk_us]
  · rw [pk_un e]
    exact h i (by omega)
theorem sn_gb76 {post : St2 → Prop} {J : Int32 → Int32 → (Nat → Int32) → (Nat → Int32) → (Nat → Int32) → (Nat → Int32) → (Nat → Int32) → (Nat → Int32) → (Nat → Int32) → (Nat → Int32) → Prop} {a1 a2 a3 a4 a5 a6 a7 a8 : Nat → Int32} {N n d0 st : Nat}
    (hN : sn_lv N a1 a2) (hn : n < N) (hm : (a2 n &&& 256) = 0) (hd : d0 ≤ 3 * (n % 4)) (hst : sn_st N d0 a8) (H : ∀ (d : Nat) (b8 : Nat → Int32), sn_st N d b8 → J (nI d) (nI (st + 1)) a1 a2 a3 a4 a5 a6 a7 b8) :
    ∃ f, wX_giveBack_76 post J (nI st) (nI n) f (nI d0) 0 a1 a2 a3 a4 a5 a6 a7 a8 := by
  obtain ⟨hN8, hN2⟩ := hN
  obtain ⟨hn3, hw4⟩ := hN2 n hn hm
  have hn4 : n < 400 := by omega
  refine pk_loop (fun f w (s : Nat × (Nat → Int32)) => wX_giveBack_76 post J (nI st) (nI n) f (nI s.1) (nI w) a1 a2 a3 a4 a5 a6 a7 s.2) (fun w s => s.1 ≤ d0 + w ∧ sn_st N s.1 s.2) 4 0 (d0, a8) (by omega) ⟨Nat.le_refl _, hst⟩ ?_ ?_
  · intro f s h
    exact pk_le 4 4 (fun _ => nm_r (nI_1 st) (H s.1 s.2 h.2)) (fun z => absurd z (by omega))
  · intro f w s hw h k
    obtain ⟨d, b8⟩ := s
    obtain ⟨h1, h2⟩ := h
    have h1' : d ≤ d0 + w := h1
    refine pk_le 4 w (fun z => absurd z (by omega)) (fun _ => ⟨sn_in hn4 hw, ?_⟩)
    rw [sn_cl hn4 hw]
    rcases hw4 w hw with e | ⟨j, hj, e, ej⟩
    · exact br_t (by rw [e]; exact sn_neg) (nm_r (nI_1 w) (k (d, b8) ⟨by show d ≤ d0 + (w + 1); omega, h2⟩))
    · refine br_f (by rw [e]; exact nI_pos (by omega)) ⟨sn_in hn4 hw, pk_in d 16 (by omega), nm_r (e' := upd b8 d (nI j)) (by rw [nI_clamp (show d < 2 ^ 31 by omega), e]) (nm_r (nI_1 d) (nm_r (nI_1 w) ?_))⟩
      exact k (d + 1, upd b8 d (nI j)) ⟨by show d + 1 ≤ d0 + (w + 1); omega, sn_push h2 hj (by omega)⟩
theorem sn_gb16 {post : St2 → Prop} {a1 a2 a4 a5 a6 a7 : Nat → Int32} {N : Nat} (hN : sn_lv N a1 a2) (H : ∀ b3 b8 : Nat → Int32, post (a1, a2, b3, a4, a5, a6, a7, b8)) :
    ∀ (f st d : Nat) (a3 a8 : Nat → Int32), 400 - st < f → st ≤ 400 → d < 17 → sn_st N d a8 → wX_giveBack_16 post f (nI d) (nI st) a1 a2 a3 a4 a5 a6 a7 a8 := by
  intro f
  induction f with
  | zero => intro st d a3 a8 h; omega
  | succ f ih =>
    intro st d a3 a8 hf hst hd17 hs
    have h8 := hN.1
    have hdb : ∀ (d' : Nat) (b8 : Nat → Int32), sn_st N d' b8 → d' < 17 := by
      intro d' b8 hb
      by_cases e : d' < 17
      · exact e
      · obtain ⟨j, _, _, hj⟩ := hb 16 (by omega)
        omega
    refine pk_le 400 st (fun _ => H _ _) (fun hz => pk_le d 0 (fun _ => H _ _) (fun hd => ?_))
    obtain ⟨e, rfl⟩ : ∃ e, d = e + 1 := ⟨d - 1, by omega⟩
    obtain ⟨j, hj, ej, hj3⟩ := hs e (by omega)
    have hs' : sn_st N e a8 := fun i hi => hs i (by omega)
    refine nm_r (pk_m1 e) ⟨pk_in e 16 (by omega), nm_r (e' := nI j) (by rw [nI_clamp (by omega), ej]) ⟨pk_in j 400 (by omega), pk_in j 400 (by omega), nm_r (e' := upd a3 j (a3 j - 1)) (by rw [nI_clamp (by omega)]) ⟨pk_in j 400 (by omega), ?_⟩⟩⟩
    rw [nI_clamp (show j < 2 ^ 31 by omega)]
    refine br_c (fun _ => ⟨pk_in j 400 (by omega), br_c (fun hm => ?_) (fun _ => ?_)⟩) (fun _ => ?_)
    · exact sn_gb76 hN hj hm hj3 hs' (fun d b8 hb => ih (st + 1) d _ b8 (by omega) (by omega) (hdb d b8 hb) hb)
    · exact nm_r (nI_1 st) (ih (st + 1) e _ a8 (by omega) (by omega) (by omega) hs')
    · exact nm_r (nI_1 st) (ih (st + 1) e _ a8 (by omega) (by omega) (by omega) hs')
theorem sn_gb {post : St2 → Prop} {a1 a2 a3 a4 a5 a6 a7 a8 : Nat → Int32} {N r : Nat} (hN : sn_lv N a1 a2) (hr : r < N) (H : ∀ b3 b8 : Nat → Int32, post (a1, a2, b3, a4, a5, a6, a7, b8)) :
    wpX_giveBack post (a1, a2, a3, a4, a5, a6, a7, a8) (nI r) := by
  have h8 := hN.1
  refine br_t (nI_pos' (by omega)) (nm_e ⟨402, ?_⟩)
  exact sn_gb16 hN H 402 0 1 a3 (upd a8 0 (nI r)) (by omega) (by omega) (by omega) (sn_push (d := 0) (fun i hi => absurd hi (by omega)) hr (by omega))
theorem sn_restore {post : Int32 → St2 → Prop} {a1 a2 a3 a4 a5 a6 a7 a8 : Nat → Int32} {N r : Nat} (hN : sn_lv N a1 a2) (h41 : ¬ a4 1 = 0) (h50 : a5 0 = nI r) (hr : r < N) (h51 : a5 1 = nI 0)
    (H : ∀ b3 b8 : Nat → Int32, post (a6 1) (a1, a2, b3, a4, upd a5 0 (nI 0), upd a6 0 (a6 1), a7, b8)) : wpX_restore post (a1, a2, a3, a4, a5, a6, a7, a8) 0 := by
  refine br_f (by decide) (br_f (by decide) ?_)
  rw [show (0 : Int32) + 1 = nI 1 by decide, nI_clamp (show 1 < 2 ^ 31 by omega)]
  refine ⟨pk_in 1 8 (by omega), br_f h41 (nm_r h50 (sn_sh (f := 1) (t := 0) (by omega) (by omega) (by omega) h51 (sn_gb hN hr (fun b3 b8 => ?_))))⟩
  have t := H b3 b8
  show post (upd a6 0 (a6 1) 0) _
  rw [pk_us]
  exact t
end
section
/-! the two trees: the way of k (root 0), and behind the second put the way of key (root 4) -/
def sn_X (k q l : Nat) : Int32 := if sn_pr q l = sn_pr k l then nI l else -1
def sn_Y (k key q l : Nat) : Int32 := if sn_pr q l = sn_pr key l then nI (4 + l) else sn_X k q l
theorem sn_X_s {k q l : Nat} {v : Int32} {a1 : Nat → Int32} (hT : sn_T1 k v a1) (hl : l < 3) : (sn_X k q l = -1 ∧ sn_X k q (l + 1) = -1) ∨ (∃ n, n < 400 ∧ sn_X k q l = nI n ∧ sn_X k q (l + 1) = a1 (4 * n + sn_dg q l)) := by
  unfold sn_X
  have hs := sn_pr_s (q := q) (k := k) (l := l) (by omega)
  by_cases e : sn_pr q l = sn_pr k l
  · refine Or.inr ⟨l, by omega, by rw [if_pos e], ?_⟩
    rw [hT.1 l _ hl (sn_dg_lt q l)]
    by_cases g : sn_dg q l = sn_dg k l
    · rw [if_pos g, if_pos (hs.mpr ⟨e, g⟩)]
    · rw [if_neg g, if_neg (fun z => g (hs.mp z).2)]
  · refine Or.inl ⟨by rw [if_neg e], ?_⟩
    rw [if_neg (fun z => e (hs.mp z).1)]
theorem sn_X_ch {k q : Nat} {v : Int32} {a1 : Nat → Int32} (hT : sn_T1 k v a1) : sn_chain a1 q (sn_X k q) := by
  refine ⟨fun l hl => sn_X_s hT hl, ?_⟩
  unfold sn_X
  by_cases e : sn_pr q 3 = sn_pr k 3
  · exact Or.inr ⟨3, by omega, by rw [if_pos e]⟩
  · exact Or.inl (by rw [if_neg e])
theorem sn_X_0 {k q : Nat} (hq : q < 256) (hk : k < 256) : sn_X k q 0 = nI 0 := by
  unfold sn_X
  rw [if_pos (sn_pr_0 hq hk)]
theorem sn_X_lk {k q : Nat} {v : Int32} {a1 a2 : Nat → Int32} (hT : sn_T1 k v a1) (h2 : a2 3 = sn_m1 (sn_dg k 3)) : sn_lk a1 a2 q (sn_X k q 3) (if q = k then some v else none) := by
  unfold sn_X
  have hs := sn_pr_34 (q := q) (k := k)
  have hb := sn_hb1 (sn_dg_lt k 3) (sn_dg_lt q 3)
  rw [← h2] at hb
  by_cases e : sn_pr q 3 = sn_pr k 3
  · rw [if_pos e]
    by_cases g : sn_dg q 3 = sn_dg k 3
    · refine Or.inr ⟨3, by omega, rfl, hb.mpr g, ?_⟩
      rw [if_pos (hs.mpr ⟨e, g⟩), hT.2 _ (sn_dg_lt q 3), if_pos g]
    · exact Or.inl ⟨if_neg (fun z => g (hs.mp z).2), Or.inr ⟨3, by omega, rfl, fun z => g (hb.mp z)⟩⟩
  · rw [if_neg e]
    exact Or.inl ⟨if_neg (fun z => e (hs.mp z).1), Or.inl rfl⟩
theorem sn_R_T1 {k key : Nat} {v o : Int32} {A1 A2 a1 a2 : Nat → Int32} (h : sn_R 4 k key v o A1 A2 a1 a2) (hT : sn_T1 k v A1) : sn_T1 k v a1 := by
  refine ⟨fun i w hi hw => ?_, fun w hw => ?_⟩
  · rw [h.1 _ (by omega)]
    exact hT.1 i w hi hw
  · rw [h.1 _ (by omega)]
    exact hT.2 w hw
theorem sn_Y_ch {k key q : Nat} {v o : Int32} {A1 A2 a1 a2 : Nat → Int32} (h : sn_R 4 k key v o A1 A2 a1 a2) (hT : sn_T1 k v A1) : sn_chain a1 q (sn_Y k key q) := by
  have hT' := sn_R_T1 h hT
  refine ⟨fun l hl => ?_, ?_⟩
  · have hs := sn_pr_s (q := q) (k := key) (l := l) (by omega)
    have hs2 := sn_pr_s (q := q) (k := k) (l := l) (by omega)
    unfold sn_Y
    by_cases e : sn_pr q l = sn_pr key l
    · refine Or.inr ⟨4 + l, by omega, by rw [if_pos e], ?_⟩
      rw [h.2.2.1 l _ hl (sn_dg_lt q l)]
      unfold sn_W sn_X
      by_cases g : sn_dg q l = sn_dg key l
      · rw [if_pos (hs.mpr ⟨e, g⟩), if_pos g]
        rfl
      · rw [if_neg (fun z => g (hs.mp z).2), if_neg g]
        by_cases g2 : sn_pr q (l + 1) = sn_pr k (l + 1)
        · have g3 := hs2.mp g2
          rw [if_pos g2, if_pos ⟨⟨rfl, e ▸ g3.1⟩, g3.2⟩]
        · rw [if_neg g2, if_neg (fun z => g2 (hs2.mpr ⟨e.trans z.1.2, z.2⟩))]
    · rw [if_neg e, if_neg (fun z => e (hs.mp z).1)]
      exact sn_X_s hT' hl
  · unfold sn_Y
    by_cases e : sn_pr q 3 = sn_pr key 3
    · exact Or.inr ⟨7, by omega, by rw [if_pos e]⟩
    · rw [if_neg e]
      exact (sn_X_ch hT').2
theorem sn_Y_0 {k key q : Nat} (hq : q < 256) (hk : key < 256) : sn_Y k key q 0 = nI 4 := by
  unfold sn_Y
  rw [if_pos (sn_pr_0 hq hk)]
theorem sn_Y_lk {k key q : Nat} {v o : Int32} {A1 A2 a1 a2 : Nat → Int32} (h : sn_R 4 k key v o A1 A2 a1 a2) (hT : sn_T1 k v A1) (h2 : A2 3 = sn_m1 (sn_dg k 3)) :
    sn_lk a1 a2 q (sn_Y k key q 3) (if q = key then some o else if q = k then some v else none) := by
  have hT' := sn_R_T1 h hT
  have h23 : a2 3 = sn_m1 (sn_dg k 3) := by
    rw [h.2.1 3 (by omega)]
    exact h2
  have hs := sn_pr_34 (q := q) (k := key)
  have hs2 := sn_pr_34 (q := q) (k := k)
  have hw : a1 (4 * 7 + sn_dg q 3) = if sn_dg q 3 = sn_dg key 3 then o else if sn_C 4 k key 3 ∧ sn_dg q 3 = sn_dg k 3 then v else 0 := h.2.2.2.1 _ (sn_dg_lt q 3)
  have hm : a2 7 = ((if sn_C 4 k key 3 then A2 3 else 0) ||| 256) ||| ((1 : Int32) <<< (nI (sn_dg key 3) &&& 31)) := h.2.2.2.2.2
  unfold sn_Y
  by_cases e : sn_pr q 3 = sn_pr key 3
  · rw [if_pos e]
    by_cases c : sn_C 4 k key 3
    · rw [if_pos c, h2] at hm
      have hb := sn_hb2 (sn_dg_lt k 3) (sn_dg_lt key 3) (sn_dg_lt q 3)
      have hm' : a2 7 = sn_m2 (sn_dg k 3) (sn_dg key 3) := hm
      rw [← hm'] at hb
      by_cases g : sn_dg q 3 = sn_dg key 3
      · refine Or.inr ⟨7, by omega, rfl, hb.mpr (Or.inl g), ?_⟩
        rw [if_pos (hs.mpr ⟨e, g⟩), hw, if_pos g]
      · by_cases g2 : sn_dg q 3 = sn_dg k 3
        · refine Or.inr ⟨7, by omega, rfl, hb.mpr (Or.inr g2), ?_⟩
          rw [if_neg (fun z => g (hs.mp z).2), if_pos (hs2.mpr ⟨e.trans c.2, g2⟩), hw, if_neg g, if_pos ⟨c, g2⟩]
        · refine Or.inl ⟨?_, Or.inr ⟨7, by omega, rfl, fun z => ?_⟩⟩
          · rw [if_neg (fun z => g (hs.mp z).2), if_neg (fun z => g2 (hs2.mp z).2)]
          · rcases hb.mp z with z | z
            · exact g z
            · exact g2 z
    · rw [if_neg c] at hm
      have hb := sn_hb1 (sn_dg_lt key 3) (sn_dg_lt q 3)
      have hm' : a2 7 = sn_m1 (sn_dg key 3) := hm
      rw [← hm'] at hb
      by_cases g : sn_dg q 3 = sn_dg key 3
      · refine Or.inr ⟨7, by omega, rfl, hb.mpr g, ?_⟩
        rw [if_pos (hs.mpr ⟨e, g⟩), hw, if_pos g]
      · refine Or.inl ⟨?_, Or.inr ⟨7, by omega, rfl, fun z => g (hb.mp z)⟩⟩
        rw [if_neg (fun z => g (hs.mp z).2), if_neg (fun z => c ⟨rfl, e.symm.trans (hs2.mp z).1⟩)]
  · rw [if_neg e, if_neg (fun z => e (hs.mp z).1)]
    exact sn_X_lk hT' h23
theorem sn_XY {k key q l : Nat} (hl : l ≤ 3) (h : sn_X k q l = sn_Y k key q l) : ¬ sn_pr q l = sn_pr key l := by
  intro e
  unfold sn_Y at h
  rw [if_pos e] at h
  unfold sn_X at h
  by_cases g : sn_pr q l = sn_pr k l
  · rw [if_pos g, nI_eq (by omega) (by omega)] at h
    omega
  · rw [if_neg g] at h
    exact sn_ne1 (n := 4 + l) (by omega) h.symm
/-! levels, for giveBack -/
theorem sn_lv4 {k : Nat} {v : Int32} {a1 a2 : Nat → Int32} (hT : sn_T1 k v a1) (h2 : a2 3 = sn_m1 (sn_dg k 3)) : sn_lv 4 a1 a2 := by
  refine ⟨by omega, fun n hn hm => ?_⟩
  by_cases e : n = 3
  · rw [e, h2] at hm
    exact absurd hm (sn_m1M _ (sn_dg_lt k 3))
  · refine ⟨by omega, fun w hw => ?_⟩
    rw [hT.1 n w (by omega) hw]
    by_cases g : w = sn_dg k n
    · exact Or.inr ⟨n + 1, by omega, by rw [if_pos g], by omega⟩
    · exact Or.inl (by rw [if_neg g])
theorem sn_lv8 {k key : Nat} {v o : Int32} {A1 A2 a1 a2 : Nat → Int32} (h : sn_R 4 k key v o A1 A2 a1 a2) (hT : sn_T1 k v A1) (h2 : A2 3 = sn_m1 (sn_dg k 3)) : sn_lv 8 a1 a2 := by
  have hT' := sn_R_T1 h hT
  have h23 : a2 3 = sn_m1 (sn_dg k 3) := by
    rw [h.2.1 3 (by omega)]
    exact h2
  refine ⟨by omega, fun n hn hm => ?_⟩
  by_cases n4 : n < 4
  · obtain ⟨l1, l2⟩ := (sn_lv4 hT' h23).2 n n4 hm
    refine ⟨l1, fun w hw => ?_⟩
    rcases l2 w hw with e | ⟨j, hj, e, ej⟩
    · exact Or.inl e
    · exact Or.inr ⟨j, by omega, e, ej⟩
  · obtain ⟨i, rfl⟩ : ∃ i, n = 4 + i := ⟨n - 4, by omega⟩
    by_cases e : i = 3
    · subst e
      have hq : a2 (4 + 3) = ((if sn_C 4 k key 3 then A2 3 else 0) ||| 256) ||| ((1 : Int32) <<< (nI (sn_dg key 3) &&& 31)) := h.2.2.2.2.2
      by_cases c : sn_C 4 k key 3
      · rw [if_pos c, h2] at hq
        have hq' : a2 (4 + 3) = sn_m2 (sn_dg k 3) (sn_dg key 3) := hq
        rw [hq'] at hm
        exact absurd hm (sn_m2M _ (sn_dg_lt k 3) _ (sn_dg_lt key 3))
      · rw [if_neg c] at hq
        have hq' : a2 (4 + 3) = sn_m1 (sn_dg key 3) := hq
        rw [hq'] at hm
        exact absurd hm (sn_m1M _ (sn_dg_lt key 3))
    · refine ⟨by omega, fun w hw => ?_⟩
      rw [h.2.2.1 i w (by omega) hw]
      unfold sn_W
      by_cases g : w = sn_dg key i
      · exact Or.inr ⟨4 + i + 1, by omega, by rw [if_pos g], by omega⟩
      · rw [if_neg g]
        by_cases c : sn_C 4 k key i ∧ w = sn_dg k i
        · exact Or.inr ⟨i + 1, by omega, by rw [if_pos c], by omega⟩
        · exact Or.inl (by rw [if_neg c])
/-! what sharedLevel says -/
theorem sn_SLeq {a1 a2 a3 a4 a5 a6 a7 a8 : Nat → Int32} {k m0 m1 : Nat} {v p0 p1 : Int32} (hk : k < 256) (h0 : sn_mp p0 m0) (h1 : sn_mp p1 m1) (hT : sn_T1 k v a1) (h2 : a2 3 = sn_m1 (sn_dg k 3)) (e0 : a5 m0 = nI 0) (e1 : a5 m1 = nI 0) :
    sn_SL (a1, a2, a3, a4, a5, a6, a7, a8) p0 p1 False 0 := by
  intro q hq P hP
  rw [h0.2.2.1, h1.2.2.1]
  have x0 := sn_X_0 hq hk
  refine sn_shared h0.2.2.2 h1.2.2.2 hq (sn_X_ch hT) (sn_X_ch hT) (e0.trans x0.symm) (e1.trans x0.symm) (sn_X_lk hT h2) (sn_X_lk hT h2) (fun l hl _ => ?_) (fun z => absurd rfl z) (fun _ => ?_)
  · exact hP _ (Or.inr ⟨l, by omega, rfl, fun z => z.1⟩)
  · exact hP _ (Or.inr ⟨4, by omega, rfl, fun z => z.1⟩)
theorem sn_D5 {k key q : Nat} {v o : Int32} (h : ¬ (if q = k then some v else none) = (if q = key then some o else if q = k then some v else none)) : (key ≠ k ∨ o ≠ v) ∧ q = key := by
  by_cases e : q = key
  · refine ⟨?_, e⟩
    by_cases e2 : key = k
    · refine Or.inr (fun z => h ?_)
      rw [if_pos e, if_pos (e.trans e2), z]
    · exact Or.inl e2
  · rw [if_neg e] at h
    exact absurd rfl h
theorem sn_D4 {k key q : Nat} {v o : Int32} (h : (if q = k then some v else none) = (if q = key then some o else if q = k then some v else none)) : ¬ ((key ≠ k ∨ o ≠ v) ∧ q = key) := by
  rintro ⟨hD, e⟩
  rw [if_pos e] at h
  by_cases e2 : q = k
  · rw [if_pos e2] at h
    rcases hD with z | z
    · exact z (e.symm.trans e2)
    · exact z (Option.some.inj h).symm
  · rw [if_neg e2] at h
    exact absurd h.symm (Option.some_ne_none o)
theorem sn_SLa {a1 a2 a3 a4 a5 a6 a7 a8 : Nat → Int32} {A1 A2 : Nat → Int32} {k key : Nat} {v o : Int32} (hk : k < 256) (hkey : key < 256) (h : sn_R 4 k key v o A1 A2 a1 a2) (hT : sn_T1 k v A1) (h2 : A2 3 = sn_m1 (sn_dg k 3)) (e0 : a5 0 = nI 4) (e1 : a5 1 = nI 0) :
    sn_SL (a1, a2, a3, a4, a5, a6, a7, a8) (-1) 0 (key ≠ k ∨ o ≠ v) key := by
  intro q hq P hP
  have hT' := sn_R_T1 h hT
  have h23 : a2 3 = sn_m1 (sn_dg k 3) := by
    rw [h.2.1 3 (by omega)]
    exact h2
  rw [sn_mp1.2.2.1, sn_mp0.2.2.1]
  refine sn_shared (by omega) (by omega) hq (sn_Y_ch h hT) (sn_X_ch hT') (e0.trans (sn_Y_0 hq hkey).symm) (e1.trans (sn_X_0 hq hk).symm) (sn_Y_lk h hT h2) (sn_X_lk hT' h23) (fun l hl e => ?_) (fun z => ?_) (fun z => ?_)
  · exact hP _ (Or.inr ⟨l, by omega, rfl, fun z => sn_XY hl e.symm z.2⟩)
  · have t := sn_D5 (fun y => z y.symm)
    exact hP _ (Or.inl ⟨rfl, t.1, t.2⟩)
  · have t := sn_D4 z.symm
    exact hP _ (Or.inr ⟨4, by omega, rfl, fun y => t ⟨y.1, by have y2 := y.2; rw [sn_pr_4, sn_pr_4] at y2; exact y2⟩⟩)
theorem sn_SLb {a1 a2 a3 a4 a5 a6 a7 a8 : Nat → Int32} {A1 A2 : Nat → Int32} {k key : Nat} {v o : Int32} (hk : k < 256) (hkey : key < 256) (h : sn_R 4 k key v o A1 A2 a1 a2) (hT : sn_T1 k v A1) (h2 : A2 3 = sn_m1 (sn_dg k 3)) (e0 : a5 0 = nI 4) (e1 : a5 1 = nI 0) :
    sn_SL (a1, a2, a3, a4, a5, a6, a7, a8) 0 (-1) (key ≠ k ∨ o ≠ v) key := by
  intro q hq P hP
  have hT' := sn_R_T1 h hT
  have h23 : a2 3 = sn_m1 (sn_dg k 3) := by
    rw [h.2.1 3 (by omega)]
    exact h2
  rw [sn_mp1.2.2.1, sn_mp0.2.2.1]
  refine sn_shared (by omega) (by omega) hq (sn_X_ch hT') (sn_Y_ch h hT) (e1.trans (sn_X_0 hq hk).symm) (e0.trans (sn_Y_0 hq hkey).symm) (sn_X_lk hT' h23) (sn_Y_lk h hT h2) (fun l hl e => ?_) (fun z => ?_) (fun z => ?_)
  · exact hP _ (Or.inr ⟨l, by omega, rfl, fun z => sn_XY hl e z.2⟩)
  · have t := sn_D5 z
    exact hP _ (Or.inl ⟨rfl, t.1, t.2⟩)
  · have t := sn_D4 z
    exact hP _ (Or.inr ⟨4, by omega, rfl, fun y => t ⟨y.1, by have y2 := y.2; rw [sn_pr_4, sn_pr_4] at y2; exact y2⟩⟩)
end
section
/-! the law's own rows -/
theorem sn_end {post : Int32 → St0 → Prop} {mc ms kc ks : Nat} {a1 a2 a3 a4 a5 a6 a7 a8 : Nat → Int32} {k N r : Nat} {v z : Int32} (hp : post 1 ()) (hk : k < 256) (hT : sn_T1 k v a1) (h2 : a2 3 = sn_m1 (sn_dg k 3)) (hN : sn_lv N a1 a2) (hr : r < N)
    (h40 : ¬ a4 0 = 0) (h41 : ¬ a4 1 = 0) (h50 : a5 0 = nI r) (h51 : a5 1 = nI 0) (h61 : a6 1 = 1) :
    wL_lawOf_183 post mc ms v (nI k) z z kc ks a1 a2 a3 a4 a5 a6 a7 a8 := by
  refine br_t rfl (sn_restore hN h41 h50 hr h51 (fun b3 b8 => br_t h61 (sn_get (X := sn_X k k) sn_mp1 h40 hk (sn_X_ch hT) ?_ ?_ (br_t rfl ?_))))
  · rw [pk_us, sn_X_0 hk hk]
  · have t := sn_X_lk (q := k) hT h2
    rw [if_pos rfl] at t
    exact t
  · exact sn_ch sn_mp0 sn_mp1 h41 h40 (kk := 0) (by omega) (sn_SLeq hk sn_mp0 sn_mp1 hT h2 (by rw [pk_un (by omega)]; exact h51) (by rw [pk_us])) (fun d => d.elim) (fun _ => br_t rfl hp)
theorem sn_132 {post : Int32 → St0 → Prop} {mc ms kc ks : Nat} {a1 a2 a3 a4 a5 a6 a7 a8 : Nat → Int32} {k N r kk : Nat} {v x2 x4 z : Int32} {D : Prop} (hp : post 1 ()) (hk : k < 256) (hT : sn_T1 k v a1) (h2 : a2 3 = sn_m1 (sn_dg k 3)) (hN : sn_lv N a1 a2) (hr : r < N)
    (h40 : ¬ a4 0 = 0) (h41 : ¬ a4 1 = 0) (h50 : a5 0 = nI r) (h51 : a5 1 = nI 0) (h61 : a6 1 = 1) (hkk : kk < 256) (sa : sn_SL (a1, a2, a3, a4, a5, a6, a7, a8) (-1) 0 D kk) (sb : sn_SL (a1, a2, a3, a4, a5, a6, a7, a8) 0 (-1) D kk)
    (hz : (z = 0 ∧ ¬ D) ∨ (¬ z = 0 ∧ D)) (hx : D → x2 = nI kk) :
    wL_lawOf_132 post mc ms v x2 x4 (nI k) z kc ks a1 a2 a3 a4 a5 a6 a7 a8 := by
  have E : ∀ y : Int32, wL_lawOf_183 post mc ms v (nI k) y y kc ks a1 a2 a3 a4 a5 a6 a7 a8 := fun y => sn_end hp hk hT h2 hN hr h40 h41 h50 h51 h61
  refine sn_ch sn_mp1 sn_mp0 h40 h41 hkk sa (fun d => ?_) (fun d => ?_)
  · rcases hz with ⟨_, nd⟩ | ⟨hz0, _⟩
    · exact absurd d nd
    · have hx2 := hx d
      refine br_f hz0 (br_t rfl (sn_nc sn_mp0 sn_mp1 h41 h40 hkk sb x4 (fun _ g => br_f hz0 (br_f (by rw [hx2]; exact g) ?_)) (fun g => br_f hz0 (br_t (by rw [hx2]; exact Classical.byContradiction (fun t => g ⟨d, t⟩)) ?_))))
      · rw [hx2]
        exact E _
      · exact E 256
  · rcases hz with ⟨hz0, _⟩ | ⟨_, hd⟩
    · exact br_t hz0 (br_t rfl (sn_nc sn_mp0 sn_mp1 h41 h40 hkk sb x4 (fun d' _ => absurd d' d) (fun _ => br_t hz0 (E 256))))
    · exact absurd hd d
/-- the state behind the commit -/
def sn_S1 (k : Nat) (v : Int32) (a1 a2 a3 a4 a5 a6 : Nat → Int32) : Prop :=
  sn_T1 k v a1 ∧ a2 3 = sn_m1 (sn_dg k 3) ∧ (a3 0 = 2 ∧ (∀ i, 0 < i → i < 4 → a3 i = 1) ∧ ∀ j, 4 ≤ j → j < 400 → a3 j = 0) ∧ ¬ a4 0 = 0 ∧ ¬ a4 1 = 0 ∧ a5 0 = nI 0 ∧ a5 1 = nI 0 ∧ a6 0 = 1 ∧ a6 1 = 1
theorem sn_bad {post : Int32 → St0 → Prop} {mc ms kc ks : Nat} {a1 a2 a3 a4 a5 a6 a7 a8 : Nat → Int32} {k : Nat} {v x2 x3 x4 : Int32} (hp : post 1 ()) (hk : k < 256) (h : sn_S1 k v a1 a2 a3 a4 a5 a6) (hx : x2 < 0 ∨ ¬ x2 ≤ 255) :
    wL_lawOf_50 post mc ms v x2 x3 x4 (nI k) kc ks a1 a2 a3 a4 a5 a6 a7 a8 := by
  obtain ⟨hT, h2, _, h40, h41, h50, h51, h60, h61⟩ := h
  have lk := sn_X_lk (q := k) hT h2
  rw [if_pos rfl] at lk
  have K : wL_lawOf_131 post mc ms v x2 x4 (nI k) kc ks a1 a2 a3 a4 a5 a6 a7 a8 :=
    sn_132 (N := 4) (r := 0) (kk := 0) (D := False) hp hk hT h2 (sn_lv4 hT h2) (by omega) h40 h41 h50 h51 h61 (by omega) (sn_SLeq hk sn_mp1 sn_mp0 hT h2 h50 h51) (sn_SLeq hk sn_mp0 sn_mp1 hT h2 h51 h50) (Or.inl ⟨rfl, fun f => f⟩) (fun f => f.elim)
  refine br_t rfl ?_
  have G : ∀ Q : Prop, Q → wpX_get (fun r_114 => ((r_114 = v → Q) ∧ (¬ r_114 = v → post 0 ()))) (a1, a2, a3, a4, a5, a6, a7, a8) 0 (nI k) := fun Q hQ =>
    sn_get (X := sn_X k k) sn_mp0 h41 hk (sn_X_ch hT) (h51.trans (sn_X_0 hk hk).symm) lk (br_t rfl hQ)
  by_cases z : x2 < 0
  · exact br_t z (br_t rfl (G _ (sn_size sn_mp0 h41 (br_t h61 (br_t rfl K)))))
  · rcases hx with z' | z'
    · exact absurd z' z
    · exact br_f z (br_f z' (br_t rfl (G _ (sn_size sn_mp0 h41 (br_t h61 (br_t rfl K))))))
theorem sn_good {post : Int32 → St0 → Prop} {mc ms kc ks : Nat} {a1 a2 a3 a4 a5 a6 a7 a8 : Nat → Int32} {k key : Nat} {v x3 x4 z : Int32} (hp : post 1 ()) (hk : k < 256) (hkey : key < 256) (h : sn_S1 k v a1 a2 a3 a4 a5 a6)
    (hz : (key = k ∧ z = 1) ∨ (key ≠ k ∧ z = 2)) :
    wL_lawOf_73 post mc ms v (nI key) x3 x4 (nI k) 1 z kc ks a1 a2 a3 a4 a5 a6 a7 a8 := by
  obtain ⟨hT, h2, ⟨u0, u1, u2⟩, h40, h41, h50, h51, h60, h61⟩ := h
  have hC0 : sn_C 4 k key 0 := ⟨rfl, sn_pr_0 hkey hk⟩
  have hP : sn_P 4 k key v a1 a2 0 0 a1 a2 a3 := by
    refine ⟨fun _ _ => rfl, fun _ _ => rfl, fun i w hi => absurd hi (by omega), fun i w _ hi => absurd hi (by omega), fun i hi => absurd hi (by omega), fun j hj => ?_, u2, fun i hi => absurd hi (by omega), fun _ => u1, fun _ _ => u0⟩
    by_cases e : j = 0
    · rw [e, u0]
      exact sn_20
    · rw [u1 j (by omega) (by omega)]
      exact sn_10
  have main : ∀ δ : Int32, ((if key = k then some v else none : Option Int32) = none ∧ δ = 1) ∨ (¬ (if key = k then some v else none : Option Int32) = none ∧ δ = 0) → a6 0 + δ = z → wL_lawOf_73 post mc ms v (nI key) x3 x4 (nI k) 1 z kc ks a1 a2 a3 a4 a5 a6 a7 a8 := by
    intro δ hδ ez
    refine sn_put (B := 4) (k := k) (v := v) (A1 := a1) (A2 := a2) (X := sn_X k key) hkey (Or.inr rfl) (fun _ => hT) hP ?_ (sn_X_ch hT) (h50.trans (sn_X_0 hkey hk).symm) (sn_X_lk hT h2) ?_ hδ (fun b1 b2 b3 b7 hR hU => ?_)
    · rw [if_pos hC0]
      exact h50
    · rw [h60]
      decide
    · have hT' := sn_R_T1 hR hT
      have h23 : b2 3 = sn_m1 (sn_dg k 3) := by
        rw [hR.2.1 3 (by omega)]
        exact h2
      have lk := sn_X_lk (q := k) hT' h23
      rw [if_pos rfl] at lk
      have g50 : upd a5 0 (nI 4) 0 = nI 4 := pk_us
      have g51 : upd a5 0 (nI 4) 1 = nI 0 := by
        rw [pk_un (by omega)]
        exact h51
      have g61 : upd a6 0 (a6 0 + δ) 1 = 1 := by
        rw [pk_un (by omega)]
        exact h61
      have K : ∀ y : Int32, (y = 0 ∧ ¬ (key ≠ k ∨ x3 ≠ v)) ∨ (¬ y = 0 ∧ (key ≠ k ∨ x3 ≠ v)) → wL_lawOf_132 post mc ms v (nI key) x4 (nI k) y kc ks b1 b2 b3 a4 (upd a5 0 (nI 4)) (upd a6 0 (a6 0 + δ)) b7 a8 := fun y hy =>
        sn_132 (N := 8) (r := 4) hp hk hT' h23 (sn_lv8 hR hT h2) (by omega) h40 h41 g50 g51 g61 hkey (sn_SLa hk hkey hR hT h2 g50 g51) (sn_SLb hk hkey hR hT h2 g50 g51) hy (fun _ => rfl)
      refine br_t ez (sn_get (X := sn_X k k) sn_mp0 h41 hk (sn_X_ch hT') (g51.trans (sn_X_0 hk hk).symm) lk (br_t rfl (sn_size sn_mp0 h41 (br_t g61 (br_f sn_10 (pk_eq key k (fun e => br_c (fun g => ?_) (fun g => ?_)) (fun e => ?_)))))))
      · exact K 0 (Or.inl ⟨rfl, fun t => t.elim (fun t => t e) (fun t => t g)⟩)
      · exact K 1 (Or.inr ⟨sn_10, Or.inr g⟩)
      · exact K 1 (Or.inr ⟨sn_10, Or.inl e⟩)
  rcases hz with ⟨e, ez⟩ | ⟨e, ez⟩
  · refine main 0 (Or.inr ⟨?_, rfl⟩) ?_
    · rw [if_pos e]
      exact Option.some_ne_none v
    · rw [h60, ez]
      decide
  · refine main 1 (Or.inl ⟨?_, rfl⟩) ?_
    · rw [if_neg e]
    · rw [h60, ez]
      decide
theorem sn_S1_of {k : Nat} {v : Int32} {b1 b2 b3 b5 : Nat → Int32} (hR : sn_R 0 k k v v (fun _ => 0) (fun _ => 0) b1 b2) (hU : sn_U 0 b3) :
    sn_S1 k v b1 b2 (upd b3 0 (b3 0 + 1)) (upd (upd (fun _ => 0) 0 1) 1 1) (upd (upd b5 0 (nI 0)) 1 (nI 0)) (upd (upd (fun _ => 0) 0 (0 + 1)) 1 (upd (fun _ => 0) 0 (0 + 1) 0)) := by
  obtain ⟨_, _, r3, r4, _, r6⟩ := hR
  obtain ⟨_, v2, v3⟩ := hU
  have nC : ∀ l, ¬ sn_C 0 k k l := fun l z => absurd z.1 (by omega)
  refine ⟨⟨fun i w hi hw => ?_, fun w hw => ?_⟩, ?_, ⟨?_, fun i h0 hi => ?_, fun j hj hj4 => ?_⟩, ?_, ?_, ?_, ?_, ?_, ?_⟩
  · have t := r3 i w hi hw
    rw [Nat.zero_add] at t
    rw [t]
    unfold sn_W
    rw [if_neg (c := sn_C 0 k k i ∧ w = sn_dg k i) (fun z => nC i z.1), Nat.zero_add]
  · have t := r4 w hw
    rw [Nat.zero_add] at t
    rw [t, if_neg (c := sn_C 0 k k 3 ∧ w = sn_dg k 3) (fun z => nC 3 z.1)]
  · have t := r6
    rw [Nat.zero_add, if_neg (nC 3)] at t
    exact t
  · have t := v3 0 (by omega)
    rw [Nat.zero_add] at t
    rw [pk_us, t]
    exact sn_11
  · have t := v3 i hi
    rw [Nat.zero_add] at t
    rw [pk_un (by omega)]
    exact t
  · rw [pk_un (by omega)]
    exact v2 j (by omega) hj4
  · rw [pk_un (by omega), pk_us]
    exact sn_10
  · rw [pk_us]
    exact sn_10
  · rw [pk_un (by omega), pk_us]
  · rw [pk_us]
  · rw [pk_un (by omega), pk_us]
    decide
  · rw [pk_us, pk_us]
    decide
theorem sn_lawOf {post : Int32 → St0 → Prop} (hp : post 1 ()) (p0 p1 p2 p3 p4 : Int32) : wpL_lawOf post 9 2452 () p0 p1 p2 p3 p4 := by
  refine ⟨by omega, by omega, 8, 2444, by omega, by omega, sn_init (by omega) (by omega) (fun b5 hb5 => ?_)⟩
  obtain ⟨k, hk, ek⟩ := pk_andE p0 (m := 255) 8 (by decide)
  have hk' : k < 256 := hk
  refine nm_r ek ?_
  have nC : ∀ l, ¬ sn_C 0 k k l := fun l z => absurd z.1 (by omega)
  refine sn_put (B := 0) (k := k) (v := p1) (δ := 1) (A1 := fun _ => 0) (A2 := fun _ => 0) (X := fun _ => -1) (r := none) hk' (Or.inl rfl) (fun z => absurd z (by omega)) ?_ ?_ ⟨fun l _ => Or.inl ⟨rfl, rfl⟩, Or.inl rfl⟩ (hb5 0 (by omega)) (Or.inl ⟨rfl, Or.inl rfl⟩) (by show (0 : Int32) < 16; decide) (Or.inl ⟨rfl, rfl⟩) (fun b1 b2 b3 b7 hR hU => ?_)
  · exact ⟨fun _ _ => rfl, fun _ _ => rfl, fun i w hi => absurd hi (by omega), fun i w _ hi => absurd hi (by omega), fun i hi => absurd hi (by omega), fun j hj => absurd hj (by omega), fun _ _ _ => rfl, fun i hi => absurd hi (by omega), fun z => absurd z (by omega), fun z => absurd z (nC 0)⟩
  · rw [if_neg (nC 0)]
    exact hb5 0 (by omega)
  · refine sn_commit (r := 0) (by rw [pk_un (by omega)]) pk_us (by omega) (br_t rfl ?_)
    have S := sn_S1_of (b5 := b5) hR hU
    by_cases z : p2 < 0
    · exact br_t z (sn_bad hp hk' S (Or.inl z))
    · by_cases z2 : 255 < p2
      · exact br_f z (br_t z2 (sn_bad hp hk' S (Or.inr (Int32.not_le.mpr z2))))
      · obtain ⟨key, hkey, e⟩ := nI_of2 (M := 255) (n := 255) (by decide) z (Int32.not_lt.mp z2)
        rw [e] at z z2 ⊢
        refine br_f z (br_f z2 (br_f sn_10 (pk_eq key k (fun g => ?_) (fun g => ?_))))
        · exact sn_good hp hk' (by omega) S (Or.inl ⟨g, rfl⟩)
        · exact sn_good hp hk' (by omega) S (Or.inr ⟨g, rfl⟩)
theorem sn_cell {post : Int32 → Prop} {L i : Nat} {xs : Nat → Int32} (hL : L ≤ 5) (hi : i < 5) (h : ∀ x, post x) : wpL_cellAt post L xs () (nI i) :=
  pk_le L i (fun _ => h 0) (fun z => ⟨pk_in i L z, h _⟩)
theorem i_vc (xs : Nat → Int32) (L : Nat) (hL : L ≤ 5) : wpL_law (fun r => r = 1) L xs := by
  refine sn_cell (i := 0) hL (by omega) (fun p0 => sn_cell (i := 1) hL (by omega) (fun p1 => sn_cell (i := 2) hL (by omega) (fun p2 => sn_cell (i := 3) hL (by omega) (fun p3 => sn_cell (i := 4) hL (by omega) (fun p4 => ⟨9, 2452, by omega, by omega, ?_⟩)))))
  exact sn_lawOf (post := fun r_6 _ => r_6 = 1) rfl p0 p1 p2 p3 p4
end
