section
/-- one site as a set -/
def rf_v (t : Nat) : Int32 := (1 : Int32) <<< (nI t &&& 31)
theorem rf_b0 : ∀ i, i < 32 → ¬ (((0 : Int32) >>> (nI i &&& 31)) &&& 1) = 1 := by decide +kernel
theorem rf_bs : ∀ s, s < 8 → ∀ i, i < 8 → (((rf_v s >>> (nI i &&& 31)) &&& 1) = 1 ↔ i = s) := by decide +kernel
theorem rf_nz : ∀ t, t < 8 → ¬ rf_v t = 0 := by decide +kernel
theorem rf_new : ∀ t, t < 8 → rf_v t &&& ((0 : Int32) ^^^ (-1)) = rf_v t := by decide +kernel
theorem rf_or0 : ∀ t, t < 8 → (0 : Int32) ||| rf_v t = rf_v t := by decide +kernel
theorem rf_old : ∀ t, t < 8 → rf_v t &&& (rf_v t ^^^ (-1)) = 0 := by decide +kernel
theorem rf_nil : ∀ t, t < 8 → (0 : Int32) &&& (rf_v t ^^^ (-1)) = 0 := by decide +kernel
theorem rf_nil0 : (0 : Int32) &&& ((0 : Int32) ^^^ (-1)) = 0 := by decide +kernel
theorem rf_tl : ∀ k, k < 31 → (nI k + 1) &&& 31 = nI (k + 1) := by decide +kernel
/-- how many of the first n sites a set holds, as the loop counts them -/
def rf_bc (x : Int32) : Nat → Int32
  | 0 => 0
  | n + 1 => rf_bc x n + ((x >>> (nI n &&& 31)) &&& 1)
theorem rf_bc0 : rf_bc 0 8 = 0 := by decide +kernel
theorem rf_bc1 : ∀ s, s < 8 → rf_bc (rf_v s) 8 = 1 := by decide +kernel
theorem rf_fn (s f : Nat) : (12 + (2 * nI s)) + nI f = nI (12 + 2 * s + f) := by
  have h : (nI 12 + (nI 2 * nI s)) + nI f = nI (12 + 2 * s + f) := by rw [pk_mul, nI_add, nI_add]
  exact h
theorem rf_bad {x : Int32} (h0 : ¬ x = 0) (h1 : ¬ x = 1) : x < 0 ∨ ¬ x ≤ 1 := by
  by_cases h : x < 0
  · exact Or.inl h
  · refine Or.inr (fun hle => ?_)
    obtain ⟨j, hj, rfl⟩ := nI_of h
    have hj1 : j ≤ 1 := (nI_leI (b := 1) hj (by omega)).mp hle
    rcases (show j = 0 ∨ j = 1 by omega) with rfl | rfl
    · exact h0 rfl
    · exact h1 rfl
theorem rf_uS {a S : Nat → Int32} (h : ∀ i, i < 28 → a i = S i) (v : Nat) (x : Int32) : ∀ i, i < 28 → upd a v x i = upd S v x i := by
  intro i hi
  by_cases e : i = v
  · rw [e, pk_us, pk_us]
  · rw [pk_un e, pk_un e]
    exact h i hi
theorem rf_u0 {a : Nat → Int32} (h : ∀ i, i < 28 → a i = 0) (v : Nat) (x : Int32) : ∀ i, i < 28 → upd (upd a v x) v 0 i = 0 := by
  intro i hi
  by_cases e : i = v
  · rw [e, pk_us]
  · rw [pk_un e, pk_un e]
    exact h i hi
theorem rf_fill {s : Nat → Int32} {i : Nat} (h : ∀ j, j < i → s j = nI j) : ∀ j, j < i + 1 → upd s i (nI i) j = nI j := by
  intro j hj
  by_cases e : j = i
  · rw [e, pk_us]
  · rw [pk_un e]
    exact h j (by omega)
end
section
theorem rf_bv {ψ : Int32 → Prop} {n : Nat} (hn : n < 12) (h : ψ 0) : wpX_badVariable ψ () (nI n) :=
  br_f (nI_pos (by omega)) (br_t (nI_lt (b := 12) hn (by omega)) h)
theorem rf_bsit {ψ : Int32 → Prop} {n : Nat} (hn : n < 8) (h : ψ 0) : wpX_badSite ψ () (nI n) :=
  br_f (nI_pos (by omega)) (br_t (nI_lt (b := 8) hn (by omega)) h)
theorem rf_bf0 {ψ : Int32 → Prop} {n : Nat} (hn : n < 2) (h : ψ 0) : wpX_badField ψ () (nI n) :=
  br_f (nI_pos (by omega)) (br_t (nI_le (b := 1) (by omega) (by omega)) h)
theorem rf_bf1 {ψ : Int32 → Prop} {x : Int32} (hb : x < 0 ∨ ¬ x ≤ 1) (h : ψ 1) : wpX_badField ψ () x :=
  br_c (fun _ => h) (fun z => br_f (hb.resolve_left z) h)
theorem rf_fnode {ψ : Int32 → Prop} {a b : Int32} (h : ψ ((12 + (2 * a)) + b)) : wpX_fieldNode ψ () a b := h
theorem rf_bits {ψ : Int32 → Prop} {x : Int32} (h : ψ (rf_bc x 8)) : wpX_bits ψ () x :=
  pk_loop (σ := Unit) (fun n i _ => wX_bits_4 ψ x n (rf_bc x i) (nI i)) (fun _ _ => True) 8 0 () (by omega) trivial
    (fun n _ _ => pk_le 8 8 (fun _ => h) (fun z => absurd z (by omega)))
    (fun n i _ hi _ hw => pk_le 8 i (fun z => absurd z (by omega)) (fun _ => nm_e (nm_r (nI_1 i) (hw () trivial))))
theorem rf_init {post : St2 → Prop} {h0 tl lo st oc rg ac wk fc : Int32} {mc ms : Nat} (hmc : 24 ≤ mc) (hms : 490 ≤ ms)
    (H : ∀ a1 : Nat → Int32, (∀ i, i < 28 → a1 i = nI i) → post (h0, tl, lo, st, oc, rg, ac, wk, fc, a1, fun _ => 0, fun _ => 0, fun _ => 0, fun _ => 0, fun _ => 0, fun _ => 0, fun _ => 0, fun _ => 0, fun _ => 0, fun _ => 0, fun _ => 0, fun _ => 0, fun _ => 0, fun _ => 0, fun _ => 0, fun _ => 0, fun _ => 0, fun _ => 0, fun _ => 0, fun _ => 0, fun _ => 0, fun _ => 0, fun _ => 0)) :
    wpX_init post mc ms (h0, tl, lo, st, oc, rg, ac, wk, fc) := by
  refine ⟨by omega, by omega, by omega, by omega, by omega, by omega, by omega, by omega, by omega, by omega, by omega, by omega, by omega, by omega, by omega, by omega, by omega, by omega, by omega, by omega, by omega, by omega, by omega, by omega, by omega, by omega, by omega, by omega, by omega, by omega, by omega, by omega, by omega, by omega, by omega, by omega, by omega, by omega, by omega, by omega, by omega, by omega, by omega, by omega, by omega, by omega, by omega, by omega, ?_⟩
  exact pk_loop (fun n i s => wX_init_198 post mc ms 24 490 h0 tl lo st oc rg ac wk fc n (nI i) s (fun _ => 0) (fun _ => 0) (fun _ => 0) (fun _ => 0) (fun _ => 0) (fun _ => 0) (fun _ => 0) (fun _ => 0) (fun _ => 0) (fun _ => 0) (fun _ => 0) (fun _ => 0) (fun _ => 0) (fun _ => 0) (fun _ => 0) (fun _ => 0) (fun _ => 0) (fun _ => 0) (fun _ => 0) (fun _ => 0) (fun _ => 0) (fun _ => 0) (fun _ => 0)) (fun i s => ∀ j, j < i → s j = nI j) 28 0 (fun _ => 0) (by omega) (fun j hj => absurd hj (by omega))
    (fun n s h => pk_le 28 28 (fun _ => H s h) (fun z => absurd z (by omega)))
    (fun n i s hi h hw => pk_le 28 i (fun z => absurd z (by omega)) (fun _ => ⟨pk_in i 28 hi, nm_r (e' := upd s i (nI i)) (by rw [nI_clamp (show i < 2 ^ 31 by omega)]) (nm_r (nI_1 i) (hw (upd s i (nI i)) (rf_fill h)))⟩))
theorem rf_enq {post : St2 → Prop} {h0 tl lo st oc rg ac wk fc : Int32} {a1 a2 a3 a4 a5 a6 a7 a8 a9 a10 a11 a12 a13 a14 a15 a16 a17 a18 a19 a20 a21 a22 a23 a24 : Nat → Int32} {n k : Nat} (hn : n < 28) (hk : k < 31) (ht : tl = nI k) (h5 : a5 n = 0)
    (hp : post (h0, nI (k + 1), lo, st, oc, rg, ac, wk, fc, a1, a2, a3, a4, upd a5 n 1, upd a6 k (nI n), a7, a8, a9, a10, a11, a12, a13, a14, a15, a16, a17, a18, a19, a20, a21, a22, a23, a24)) : wpX_enqueue post (h0, tl, lo, st, oc, rg, ac, wk, fc, a1, a2, a3, a4, a5, a6, a7, a8, a9, a10, a11, a12, a13, a14, a15, a16, a17, a18, a19, a20, a21, a22, a23, a24) (nI n) := by
  subst ht
  unfold wpX_enqueue
  dsimp only
  rw [nI_clamp (show n < 2 ^ 31 by omega), nI_clamp (show k < 2 ^ 31 by omega)]
  exact ⟨pk_in n 28 hn, br_t h5 ⟨pk_in n 28 hn, nm_e ⟨pk_in k 32 (by omega), nm_e (nm_r (rf_tl k hk) hp)⟩⟩⟩
theorem rf_addS0 {post : St2 → Prop} {h0 tl lo st oc rg ac wk fc : Int32} {a1 a2 a3 a4 a5 a6 a7 a8 a9 a10 a11 a12 a13 a14 a15 a16 a17 a18 a19 a20 a21 a22 a23 a24 : Nat → Int32} {n : Nat} {V : Int32} (hn : n < 28) (h1 : a1 n = nI n) (hV : V &&& (a2 n ^^^ (-1)) = 0) (hp : post (h0, tl, lo, st, oc, rg, ac, wk, fc, a1, a2, a3, a4, a5, a6, a7, a8, a9, a10, a11, a12, a13, a14, a15, a16, a17, a18, a19, a20, a21, a22, a23, a24)) : wpX_addSites post (h0, tl, lo, st, oc, rg, ac, wk, fc, a1, a2, a3, a4, a5, a6, a7, a8, a9, a10, a11, a12, a13, a14, a15, a16, a17, a18, a19, a20, a21, a22, a23, a24) (nI n) V := by
  unfold wpX_addSites
  dsimp only
  rw [nI_clamp (show n < 2 ^ 31 by omega), h1]
  refine ⟨pk_in n 28 hn, nm_e ?_⟩
  rw [nI_clamp (show n < 2 ^ 31 by omega)]
  exact ⟨pk_in n 28 hn, nm_r (e' := 0) hV (br_t rfl hp)⟩
theorem rf_addS1 {post : St2 → Prop} {h0 tl lo st oc rg ac wk fc : Int32} {a1 a2 a3 a4 a5 a6 a7 a8 a9 a10 a11 a12 a13 a14 a15 a16 a17 a18 a19 a20 a21 a22 a23 a24 : Nat → Int32} {n k t : Nat} (hn : n < 28) (hk : k < 31) (htl : tl = nI k) (h1 : a1 n = nI n) (h2 : a2 n = 0) (h3 : a3 n = 0) (h5 : a5 n = 0) (ht : t < 8)
    (hp : post (h0, nI (k + 1), lo, st, oc, rg, ac, wk, fc, a1, upd a2 n (rf_v t), upd a3 n (rf_v t), a4, upd a5 n 1, upd a6 k (nI n), a7, a8, a9, a10, a11, a12, a13, a14, a15, a16, a17, a18, a19, a20, a21, a22, a23, a24)) : wpX_addSites post (h0, tl, lo, st, oc, rg, ac, wk, fc, a1, a2, a3, a4, a5, a6, a7, a8, a9, a10, a11, a12, a13, a14, a15, a16, a17, a18, a19, a20, a21, a22, a23, a24) (nI n) (rf_v t) := by
  unfold wpX_addSites
  dsimp only
  rw [nI_clamp (show n < 2 ^ 31 by omega), h1]
  refine ⟨pk_in n 28 hn, nm_e ?_⟩
  rw [nI_clamp (show n < 2 ^ 31 by omega), h2, h3]
  exact ⟨pk_in n 28 hn, nm_r (rf_new t ht) (br_f (rf_nz t ht) ⟨pk_in n 28 hn, pk_in n 28 hn, nm_r (e' := upd a2 n (rf_v t)) (by rw [rf_or0 t ht]) ⟨pk_in n 28 hn, pk_in n 28 hn, nm_r (e' := upd a3 n (rf_v t)) (by rw [rf_or0 t ht]) (rf_enq hn hk htl h5 hp)⟩⟩)⟩
/-- an edge that brings nothing new -/
theorem rf_edge0 {post : St2 → Prop} {h0 tl lo st oc rg ac wk fc : Int32} {a1 a2 a3 a4 a5 a6 a7 a8 a9 a10 a11 a12 a13 a14 a15 a16 a17 a18 a19 a20 a21 a22 a23 a24 : Nat → Int32} {a b : Nat} (ha : a < 28) (hb : b < 28) (hab : a ≠ b) (h1a : a1 a = nI a) (h1b : a1 b = nI b) (h4 : a4 a = 0) (hV : a2 a &&& (a2 b ^^^ (-1)) = 0)
    (hp : post (h0, tl, lo, st, oc, rg, ac, wk, fc, a1, a2, a3, upd a4 a (0 ||| ((1 : Int32) <<< (nI b &&& 31))), a5, a6, a7, a8, a9, a10, a11, a12, a13, a14, a15, a16, a17, a18, a19, a20, a21, a22, a23, a24)) : wpX_addEdge post (h0, tl, lo, st, oc, rg, ac, wk, fc, a1, a2, a3, a4, a5, a6, a7, a8, a9, a10, a11, a12, a13, a14, a15, a16, a17, a18, a19, a20, a21, a22, a23, a24) (nI a) (nI b) := by
  unfold wpX_addEdge
  dsimp only
  rw [nI_clamp (show a < 2 ^ 31 by omega), nI_clamp (show b < 2 ^ 31 by omega), h1a, h1b]
  refine ⟨pk_in a 28 ha, nm_e ⟨pk_in b 28 hb, nm_e (br_f (fun z => hab ((nI_eq (by omega) (by omega)).mp z)) ?_)⟩⟩
  rw [nI_clamp (show a < 2 ^ 31 by omega), h4]
  exact ⟨pk_in a 28 ha, br_f (rf_b0 b (by omega)) ⟨pk_in a 28 ha, pk_in a 28 ha, nm_e ⟨pk_in a 28 ha, rf_addS0 hb h1b hV hp⟩⟩⟩
/-- an edge that brings a set to a node that had none -/
theorem rf_edge1 {post : St2 → Prop} {h0 tl lo st oc rg ac wk fc : Int32} {a1 a2 a3 a4 a5 a6 a7 a8 a9 a10 a11 a12 a13 a14 a15 a16 a17 a18 a19 a20 a21 a22 a23 a24 : Nat → Int32} {a b k t : Nat} (ha : a < 28) (hb : b < 28) (hab : a ≠ b) (hk : k < 31) (htl : tl = nI k) (ht : t < 8) (h1a : a1 a = nI a) (h1b : a1 b = nI b) (h4 : a4 a = 0) (h2a : a2 a = rf_v t) (h2 : a2 b = 0) (h3 : a3 b = 0) (h5 : a5 b = 0)
    (hp : post (h0, nI (k + 1), lo, st, oc, rg, ac, wk, fc, a1, upd a2 b (rf_v t), upd a3 b (rf_v t), upd a4 a (0 ||| ((1 : Int32) <<< (nI b &&& 31))), upd a5 b 1, upd a6 k (nI b), a7, a8, a9, a10, a11, a12, a13, a14, a15, a16, a17, a18, a19, a20, a21, a22, a23, a24)) : wpX_addEdge post (h0, tl, lo, st, oc, rg, ac, wk, fc, a1, a2, a3, a4, a5, a6, a7, a8, a9, a10, a11, a12, a13, a14, a15, a16, a17, a18, a19, a20, a21, a22, a23, a24) (nI a) (nI b) := by
  unfold wpX_addEdge
  dsimp only
  rw [nI_clamp (show a < 2 ^ 31 by omega), nI_clamp (show b < 2 ^ 31 by omega), h1a, h1b]
  refine ⟨pk_in a 28 ha, nm_e ⟨pk_in b 28 hb, nm_e (br_f (fun z => hab ((nI_eq (by omega) (by omega)).mp z)) ?_)⟩⟩
  rw [nI_clamp (show a < 2 ^ 31 by omega), h4, h2a]
  exact ⟨pk_in a 28 ha, br_f (rf_b0 b (by omega)) ⟨pk_in a 28 ha, pk_in a 28 ha, nm_e ⟨pk_in a 28 ha, rf_addS1 hb hk htl h1b h2 h3 h5 ht hp⟩⟩⟩
/-- the loops over the sites: no site of the set lies ahead -/
theorem rf_eToS {post : St2 → Prop} {h0 tl lo st oc rg ac wk fc : Int32} {a1 a2 a3 a4 a5 a6 a7 a8 a9 a10 a11 a12 a13 a14 a15 a16 a17 a18 a19 a20 a21 a22 a23 a24 : Nat → Int32} {x1 x2 x3 : Int32} (hp : post (h0, tl, lo, st, oc, rg, ac, wk, fc, a1, a2, a3, a4, a5, a6, a7, a8, a9, a10, a11, a12, a13, a14, a15, a16, a17, a18, a19, a20, a21, a22, a23, a24)) : ∀ d i, i + d = 8 → (∀ j, i ≤ j → j < 8 → ¬ ((x1 >>> (nI j &&& 31)) &&& 1) = 1) → wX_edgesToFields_3 post x1 x2 x3 (d + 1) (nI i) h0 tl lo st oc rg ac wk fc a1 a2 a3 a4 a5 a6 a7 a8 a9 a10 a11 a12 a13 a14 a15 a16 a17 a18 a19 a20 a21 a22 a23 a24 := by
  intro d
  induction d with
  | zero =>
    intro i hi _
    exact pk_le 8 i (fun _ => hp) (fun z => absurd z (by omega))
  | succ d ih =>
    intro i hi hb
    exact pk_le 8 i (fun z => absurd z (by omega)) (fun _ => br_f (hb i (by omega) (by omega)) (nm_r (nI_1 i) (ih (i + 1) (by omega) (fun j h1 h2 => hb j (by omega) h2))))
theorem rf_eFromS {post : St2 → Prop} {h0 tl lo st oc rg ac wk fc : Int32} {a1 a2 a3 a4 a5 a6 a7 a8 a9 a10 a11 a12 a13 a14 a15 a16 a17 a18 a19 a20 a21 a22 a23 a24 : Nat → Int32} {x1 x2 x3 : Int32} (hp : post (h0, tl, lo, st, oc, rg, ac, wk, fc, a1, a2, a3, a4, a5, a6, a7, a8, a9, a10, a11, a12, a13, a14, a15, a16, a17, a18, a19, a20, a21, a22, a23, a24)) : ∀ d i, i + d = 8 → (∀ j, i ≤ j → j < 8 → ¬ ((x1 >>> (nI j &&& 31)) &&& 1) = 1) → wX_edgesFromFields_3 post x1 x2 x3 (d + 1) (nI i) h0 tl lo st oc rg ac wk fc a1 a2 a3 a4 a5 a6 a7 a8 a9 a10 a11 a12 a13 a14 a15 a16 a17 a18 a19 a20 a21 a22 a23 a24 := by
  intro d
  induction d with
  | zero =>
    intro i hi _
    exact pk_le 8 i (fun _ => hp) (fun z => absurd z (by omega))
  | succ d ih =>
    intro i hi hb
    exact pk_le 8 i (fun z => absurd z (by omega)) (fun _ => br_f (hb i (by omega) (by omega)) (nm_r (nI_1 i) (ih (i + 1) (by omega) (fun j h1 h2 => hb j (by omega) h2))))
/-- the loops over the sites: the set is one site, which lies ahead or is here -/
theorem rf_eToA {post : St2 → Prop} {h0 tl lo st oc rg ac wk fc : Int32} {a1 a2 a3 a4 a5 a6 a7 a8 a9 a10 a11 a12 a13 a14 a15 a16 a17 a18 a19 a20 a21 a22 a23 a24 : Nat → Int32} {h0' tl' lo' st' oc' rg' ac' wk' fc' : Int32} {a1' a2' a3' a4' a5' a6' a7' a8' a9' a10' a11' a12' a13' a14' a15' a16' a17' a18' a19' a20' a21' a22' a23' a24' : Nat → Int32} {s f : Nat} {x3 : Int32} (hs : s < 8) (H : ∀ ψ : St2 → Prop, ψ (h0', tl', lo', st', oc', rg', ac', wk', fc', a1', a2', a3', a4', a5', a6', a7', a8', a9', a10', a11', a12', a13', a14', a15', a16', a17', a18', a19', a20', a21', a22', a23', a24') → wpX_addEdge ψ (h0, tl, lo, st, oc, rg, ac, wk, fc, a1, a2, a3, a4, a5, a6, a7, a8, a9, a10, a11, a12, a13, a14, a15, a16, a17, a18, a19, a20, a21, a22, a23, a24) x3 (nI (12 + 2 * s + f))) (hp : post (h0', tl', lo', st', oc', rg', ac', wk', fc', a1', a2', a3', a4', a5', a6', a7', a8', a9', a10', a11', a12', a13', a14', a15', a16', a17', a18', a19', a20', a21', a22', a23', a24')) : ∀ d i, i + d = s → wX_edgesToFields_3 post (rf_v s) (nI f) x3 (d + (8 - s) + 1) (nI i) h0 tl lo st oc rg ac wk fc a1 a2 a3 a4 a5 a6 a7 a8 a9 a10 a11 a12 a13 a14 a15 a16 a17 a18 a19 a20 a21 a22 a23 a24 := by
  intro d
  induction d with
  | zero =>
    intro i hi
    have e : i = s := by omega
    subst e
    have t : wX_edgesToFields_3 post (rf_v i) (nI f) x3 (7 - i + 1) (nI (i + 1)) h0' tl' lo' st' oc' rg' ac' wk' fc' a1' a2' a3' a4' a5' a6' a7' a8' a9' a10' a11' a12' a13' a14' a15' a16' a17' a18' a19' a20' a21' a22' a23' a24' := rf_eToS hp (7 - i) (i + 1) (by omega) (fun j h1 h2 z => absurd ((rf_bs i hs j h2).mp z) (by omega))
    rw [show 0 + (8 - i) = 7 - i + 1 by omega]
    refine pk_le 8 i (fun z => absurd z (by omega)) (fun _ => br_t ((rf_bs i hs i hs).mpr rfl) (rf_fnode ?_))
    rw [rf_fn]
    exact H _ (nm_r (nI_1 i) t)
  | succ d ih =>
    intro i hi
    rw [show d + 1 + (8 - s) = d + (8 - s) + 1 by omega]
    exact pk_le 8 i (fun z => absurd z (by omega)) (fun _ => br_f (fun z => absurd ((rf_bs s hs i (by omega)).mp z) (by omega)) (nm_r (nI_1 i) (ih (i + 1) (by omega))))
theorem rf_eFromA {post : St2 → Prop} {h0 tl lo st oc rg ac wk fc : Int32} {a1 a2 a3 a4 a5 a6 a7 a8 a9 a10 a11 a12 a13 a14 a15 a16 a17 a18 a19 a20 a21 a22 a23 a24 : Nat → Int32} {h0' tl' lo' st' oc' rg' ac' wk' fc' : Int32} {a1' a2' a3' a4' a5' a6' a7' a8' a9' a10' a11' a12' a13' a14' a15' a16' a17' a18' a19' a20' a21' a22' a23' a24' : Nat → Int32} {s f : Nat} {x3 : Int32} (hs : s < 8) (H : ∀ ψ : St2 → Prop, ψ (h0', tl', lo', st', oc', rg', ac', wk', fc', a1', a2', a3', a4', a5', a6', a7', a8', a9', a10', a11', a12', a13', a14', a15', a16', a17', a18', a19', a20', a21', a22', a23', a24') → wpX_addEdge ψ (h0, tl, lo, st, oc, rg, ac, wk, fc, a1, a2, a3, a4, a5, a6, a7, a8, a9, a10, a11, a12, a13, a14, a15, a16, a17, a18, a19, a20, a21, a22, a23, a24) (nI (12 + 2 * s + f)) x3) (hp : post (h0', tl', lo', st', oc', rg', ac', wk', fc', a1', a2', a3', a4', a5', a6', a7', a8', a9', a10', a11', a12', a13', a14', a15', a16', a17', a18', a19', a20', a21', a22', a23', a24')) : ∀ d i, i + d = s → wX_edgesFromFields_3 post (rf_v s) (nI f) x3 (d + (8 - s) + 1) (nI i) h0 tl lo st oc rg ac wk fc a1 a2 a3 a4 a5 a6 a7 a8 a9 a10 a11 a12 a13 a14 a15 a16 a17 a18 a19 a20 a21 a22 a23 a24 := by
  intro d
  induction d with
  | zero =>
    intro i hi
    have e : i = s := by omega
    subst e
    have t : wX_edgesFromFields_3 post (rf_v i) (nI f) x3 (7 - i + 1) (nI (i + 1)) h0' tl' lo' st' oc' rg' ac' wk' fc' a1' a2' a3' a4' a5' a6' a7' a8' a9' a10' a11' a12' a13' a14' a15' a16' a17' a18' a19' a20' a21' a22' a23' a24' := rf_eFromS hp (7 - i) (i + 1) (by omega) (fun j h1 h2 z => absurd ((rf_bs i hs j h2).mp z) (by omega))
    rw [show 0 + (8 - i) = 7 - i + 1 by omega]
    refine pk_le 8 i (fun z => absurd z (by omega)) (fun _ => br_t ((rf_bs i hs i hs).mpr rfl) (rf_fnode ?_))
    rw [rf_fn]
    exact H _ (nm_r (nI_1 i) t)
  | succ d ih =>
    intro i hi
    rw [show d + 1 + (8 - s) = d + (8 - s) + 1 by omega]
    exact pk_le 8 i (fun z => absurd z (by omega)) (fun _ => br_f (fun z => absurd ((rf_bs s hs i (by omega)).mp z) (by omega)) (nm_r (nI_1 i) (ih (i + 1) (by omega))))
theorem rf_eTo {post : St2 → Prop} {h0 tl lo st oc rg ac wk fc : Int32} {a1 a2 a3 a4 a5 a6 a7 a8 a9 a10 a11 a12 a13 a14 a15 a16 a17 a18 a19 a20 a21 a22 a23 a24 : Nat → Int32} {h0' tl' lo' st' oc' rg' ac' wk' fc' : Int32} {a1' a2' a3' a4' a5' a6' a7' a8' a9' a10' a11' a12' a13' a14' a15' a16' a17' a18' a19' a20' a21' a22' a23' a24' : Nat → Int32} {s f : Nat} {x3 : Int32} (hs : s < 8) (H : ∀ ψ : St2 → Prop, ψ (h0', tl', lo', st', oc', rg', ac', wk', fc', a1', a2', a3', a4', a5', a6', a7', a8', a9', a10', a11', a12', a13', a14', a15', a16', a17', a18', a19', a20', a21', a22', a23', a24') → wpX_addEdge ψ (h0, tl, lo, st, oc, rg, ac, wk, fc, a1, a2, a3, a4, a5, a6, a7, a8, a9, a10, a11, a12, a13, a14, a15, a16, a17, a18, a19, a20, a21, a22, a23, a24) x3 (nI (12 + 2 * s + f))) (hp : post (h0', tl', lo', st', oc', rg', ac', wk', fc', a1', a2', a3', a4', a5', a6', a7', a8', a9', a10', a11', a12', a13', a14', a15', a16', a17', a18', a19', a20', a21', a22', a23', a24')) : wpX_edgesToFields post (h0, tl, lo, st, oc, rg, ac, wk, fc, a1, a2, a3, a4, a5, a6, a7, a8, a9, a10, a11, a12, a13, a14, a15, a16, a17, a18, a19, a20, a21, a22, a23, a24) (rf_v s) (nI f) x3 :=
  ⟨_, rf_eToA hs H hp s 0 (by omega)⟩
theorem rf_eFrom {post : St2 → Prop} {h0 tl lo st oc rg ac wk fc : Int32} {a1 a2 a3 a4 a5 a6 a7 a8 a9 a10 a11 a12 a13 a14 a15 a16 a17 a18 a19 a20 a21 a22 a23 a24 : Nat → Int32} {h0' tl' lo' st' oc' rg' ac' wk' fc' : Int32} {a1' a2' a3' a4' a5' a6' a7' a8' a9' a10' a11' a12' a13' a14' a15' a16' a17' a18' a19' a20' a21' a22' a23' a24' : Nat → Int32} {s f : Nat} {x3 : Int32} (hs : s < 8) (H : ∀ ψ : St2 → Prop, ψ (h0', tl', lo', st', oc', rg', ac', wk', fc', a1', a2', a3', a4', a5', a6', a7', a8', a9', a10', a11', a12', a13', a14', a15', a16', a17', a18', a19', a20', a21', a22', a23', a24') → wpX_addEdge ψ (h0, tl, lo, st, oc, rg, ac, wk, fc, a1, a2, a3, a4, a5, a6, a7, a8, a9, a10, a11, a12, a13, a14, a15, a16, a17, a18, a19, a20, a21, a22, a23, a24) (nI (12 + 2 * s + f)) x3) (hp : post (h0', tl', lo', st', oc', rg', ac', wk', fc', a1', a2', a3', a4', a5', a6', a7', a8', a9', a10', a11', a12', a13', a14', a15', a16', a17', a18', a19', a20', a21', a22', a23', a24')) : wpX_edgesFromFields post (h0, tl, lo, st, oc, rg, ac, wk, fc, a1, a2, a3, a4, a5, a6, a7, a8, a9, a10, a11, a12, a13, a14, a15, a16, a17, a18, a19, a20, a21, a22, a23, a24) (rf_v s) (nI f) x3 :=
  ⟨_, rf_eFromA hs H hp s 0 (by omega)⟩
theorem rf_eFrom0 {post : St2 → Prop} {h0 tl lo st oc rg ac wk fc : Int32} {a1 a2 a3 a4 a5 a6 a7 a8 a9 a10 a11 a12 a13 a14 a15 a16 a17 a18 a19 a20 a21 a22 a23 a24 : Nat → Int32} {x2 x3 : Int32} (hp : post (h0, tl, lo, st, oc, rg, ac, wk, fc, a1, a2, a3, a4, a5, a6, a7, a8, a9, a10, a11, a12, a13, a14, a15, a16, a17, a18, a19, a20, a21, a22, a23, a24)) : wpX_edgesFromFields post (h0, tl, lo, st, oc, rg, ac, wk, fc, a1, a2, a3, a4, a5, a6, a7, a8, a9, a10, a11, a12, a13, a14, a15, a16, a17, a18, a19, a20, a21, a22, a23, a24) 0 x2 x3 :=
  ⟨_, rf_eFromS hp 8 0 (by omega) (fun j _ h => rf_b0 j (by omega))⟩
/-- passing on from a node that no edge leaves -/
theorem rf_p120 {post : St2 → Prop} {h0 tl lo st oc rg ac wk fc : Int32} {a1 a2 a3 a4 a5 a6 a7 a8 a9 a10 a11 a12 a13 a14 a15 a16 a17 a18 a19 a20 a21 a22 a23 a24 : Nat → Int32} {x1 x2 : Int32} (hp : post (h0, tl, lo, st, oc, rg, ac, wk, fc, a1, a2, a3, a4, a5, a6, a7, a8, a9, a10, a11, a12, a13, a14, a15, a16, a17, a18, a19, a20, a21, a22, a23, a24)) : ∀ d i, i + d = 28 → wX_pass_120 post x1 x2 0 (d + 1) (nI i) h0 tl lo st oc rg ac wk fc a1 a2 a3 a4 a5 a6 a7 a8 a9 a10 a11 a12 a13 a14 a15 a16 a17 a18 a19 a20 a21 a22 a23 a24 := by
  intro d
  induction d with
  | zero =>
    intro i hi
    exact pk_le 28 i (fun _ => hp) (fun z => absurd z (by omega))
  | succ d ih =>
    intro i hi
    exact pk_le 28 i (fun z => absurd z (by omega)) (fun _ => br_f (rf_b0 i (by omega)) (nm_r (nI_1 i) (ih (i + 1) (by omega))))
theorem rf_p64e {post : St2 → Prop} {h0 tl lo st oc rg ac wk fc : Int32} {a1 a2 a3 a4 a5 a6 a7 a8 a9 a10 a11 a12 a13 a14 a15 a16 a17 a18 a19 a20 a21 a22 a23 a24 : Nat → Int32} {x2 : Int32} {n : Nat} (hn : n < 28) (h4 : a4 n = 0) (hp : post (h0, tl, lo, st, oc, rg, ac, wk, fc, a1, a2, a3, a4, a5, a6, a7, a8, a9, a10, a11, a12, a13, a14, a15, a16, a17, a18, a19, a20, a21, a22, a23, a24)) : vp_in (nI n) 28 ∧ (∀ y : Int32, y = a4 (nI n).toNatClampNeg → (∃ fu : Nat, wX_pass_120 post (nI n) x2 y fu 0 h0 tl lo st oc rg ac wk fc a1 a2 a3 a4 a5 a6 a7 a8 a9 a10 a11 a12 a13 a14 a15 a16 a17 a18 a19 a20 a21 a22 a23 a24)) := by
  rw [nI_clamp (show n < 2 ^ 31 by omega), h4]
  exact ⟨pk_in n 28 hn, nm_e ⟨29, rf_p120 hp 28 0 (by omega)⟩⟩
theorem rf_p64 {post : St2 → Prop} {h0 tl lo st oc rg ac wk fc : Int32} {a1 a2 a3 a4 a5 a6 a7 a8 a9 a10 a11 a12 a13 a14 a15 a16 a17 a18 a19 a20 a21 a22 a23 a24 : Nat → Int32} {x2 : Int32} {n : Nat} (hn : n < 28) (h4 : a4 n = 0) (hst : st = nI 0 ∨ (st = nI 1 ∧ a10 0 = nI 0 ∧ a1 0 = nI 0 ∧ n ≠ 0)) (hp : post (h0, tl, lo, st, oc, rg, ac, wk, fc, a1, a2, a3, a4, a5, a6, a7, a8, a9, a10, a11, a12, a13, a14, a15, a16, a17, a18, a19, a20, a21, a22, a23, a24)) : ∃ fu : Nat, wX_pass_64 post (nI n) x2 fu 0 h0 tl lo st oc rg ac wk fc a1 a2 a3 a4 a5 a6 a7 a8 a9 a10 a11 a12 a13 a14 a15 a16 a17 a18 a19 a20 a21 a22 a23 a24 := by
  rcases hst with rfl | ⟨rfl, e8, e1, hne⟩
  · exact ⟨1, pk_le 0 0 (fun _ => rf_p64e hn h4 hp) (fun z => absurd z (by omega))⟩
  · refine ⟨2, pk_le 1 0 (fun z => absurd z (by omega)) (fun _ => ⟨pk_in 0 20 (by omega), ?_⟩)⟩
    rw [sb_cl0, e8, nI_clamp (show 0 < 2 ^ 31 by omega), e1]
    exact ⟨pk_in 0 28 (by omega), br_f (fun z => hne ((nI_eq (by omega) (by omega)).mp z).symm) (nm_r (e' := nI 1) rfl (pk_le 1 1 (fun _ => rf_p64e hn h4 hp) (fun z => absurd z (by omega))))⟩
theorem rf_p16 {post : St2 → Prop} {h0 tl lo st oc rg ac wk fc : Int32} {a1 a2 a3 a4 a5 a6 a7 a8 a9 a10 a11 a12 a13 a14 a15 a16 a17 a18 a19 a20 a21 a22 a23 a24 : Nat → Int32} {x2 : Int32} {n : Nat} (hn : n < 28) (h4 : a4 n = 0) (hlo : lo = nI 0 ∨ (lo = nI 1 ∧ a8 0 = nI 3 ∧ a1 3 = nI 3 ∧ n ≠ 3)) (hst : st = nI 0 ∨ (st = nI 1 ∧ a10 0 = nI 0 ∧ a1 0 = nI 0 ∧ n ≠ 0)) (hp : post (h0, tl, lo, st, oc, rg, ac, wk, fc, a1, a2, a3, a4, a5, a6, a7, a8, a9, a10, a11, a12, a13, a14, a15, a16, a17, a18, a19, a20, a21, a22, a23, a24)) : ∃ fu : Nat, wX_pass_16 post (nI n) x2 fu 0 h0 tl lo st oc rg ac wk fc a1 a2 a3 a4 a5 a6 a7 a8 a9 a10 a11 a12 a13 a14 a15 a16 a17 a18 a19 a20 a21 a22 a23 a24 := by
  rcases hlo with rfl | ⟨rfl, e8, e1, hne⟩
  · exact ⟨1, pk_le 0 0 (fun _ => rf_p64 hn h4 hst hp) (fun z => absurd z (by omega))⟩
  · refine ⟨2, pk_le 1 0 (fun z => absurd z (by omega)) (fun _ => ⟨pk_in 0 20 (by omega), ?_⟩)⟩
    rw [sb_cl0, e8, nI_clamp (show 3 < 2 ^ 31 by omega), e1]
    exact ⟨pk_in 3 28 (by omega), br_f (fun z => hne ((nI_eq (by omega) (by omega)).mp z).symm) (nm_r (e' := nI 1) rfl (pk_le 1 1 (fun _ => rf_p64 hn h4 hst hp) (fun z => absurd z (by omega))))⟩
theorem rf_pass {post : St2 → Prop} {h0 tl lo st oc rg ac wk fc : Int32} {a1 a2 a3 a4 a5 a6 a7 a8 a9 a10 a11 a12 a13 a14 a15 a16 a17 a18 a19 a20 a21 a22 a23 a24 : Nat → Int32} {n : Nat} (hn : n < 28) (h4 : a4 n = 0) (hlo : lo = nI 0 ∨ (lo = nI 1 ∧ a8 0 = nI 3 ∧ a1 3 = nI 3 ∧ n ≠ 3)) (hst : st = nI 0 ∨ (st = nI 1 ∧ a10 0 = nI 0 ∧ a1 0 = nI 0 ∧ n ≠ 0)) (hp : post (h0, tl, lo, st, oc, rg, ac, wk, fc, a1, a2, upd a3 n 0, a4, a5, a6, a7, a8, a9, a10, a11, a12, a13, a14, a15, a16, a17, a18, a19, a20, a21, a22, a23, a24)) : wpX_pass post (h0, tl, lo, st, oc, rg, ac, wk, fc, a1, a2, a3, a4, a5, a6, a7, a8, a9, a10, a11, a12, a13, a14, a15, a16, a17, a18, a19, a20, a21, a22, a23, a24) (nI n) := by
  unfold wpX_pass
  dsimp only
  rw [nI_clamp (show n < 2 ^ 31 by omega)]
  exact ⟨pk_in n 28 hn, nm_e ⟨pk_in n 28 hn, nm_e (rf_p16 hn h4 hlo hst hp)⟩⟩
/-- passing on from node 3, which the one load reads -/
theorem rf_pass3 {post : St2 → Prop} {h0 tl lo st oc rg ac wk fc : Int32} {a1 a2 a3 a4 a5 a6 a7 a8 a9 a10 a11 a12 a13 a14 a15 a16 a17 a18 a19 a20 a21 a22 a23 a24 : Nat → Int32} {h0' tl' lo' st' oc' rg' ac' wk' fc' : Int32} {a1' a2' a3' a4' a5' a6' a7' a8' a9' a10' a11' a12' a13' a14' a15' a16' a17' a18' a19' a20' a21' a22' a23' a24' : Nat → Int32} {s g : Nat} (hs : s < 8) (hlo : lo = nI 1) (e7 : a7 0 = nI 2) (e8 : a8 0 = nI 3) (e9 : a9 0 = nI g) (e1 : a1 3 = nI 3) (e3 : a3 3 = rf_v s)
    (H : ∀ ψ : St2 → Prop, ψ (h0', tl', lo', st', oc', rg', ac', wk', fc', a1', a2', a3', a4', a5', a6', a7', a8', a9', a10', a11', a12', a13', a14', a15', a16', a17', a18', a19', a20', a21', a22', a23', a24') → wpX_addEdge ψ (h0, tl, lo, st, oc, rg, ac, wk, fc, a1, a2, upd a3 3 0, a4, a5, a6, a7, a8, a9, a10, a11, a12, a13, a14, a15, a16, a17, a18, a19, a20, a21, a22, a23, a24) (nI (12 + 2 * s + g)) (nI 2))
    (hlo' : lo' = nI 1) (h4' : a4' 3 = 0) (hst' : st' = nI 0 ∨ (st' = nI 1 ∧ a10' 0 = nI 0 ∧ a1' 0 = nI 0 ∧ 3 ≠ 0)) (hp : post (h0', tl', lo', st', oc', rg', ac', wk', fc', a1', a2', a3', a4', a5', a6', a7', a8', a9', a10', a11', a12', a13', a14', a15', a16', a17', a18', a19', a20', a21', a22', a23', a24')) : wpX_pass post (h0, tl, lo, st, oc, rg, ac, wk, fc, a1, a2, a3, a4, a5, a6, a7, a8, a9, a10, a11, a12, a13, a14, a15, a16, a17, a18, a19, a20, a21, a22, a23, a24) (nI 3) := by
  subst hlo
  subst hlo'
  unfold wpX_pass
  dsimp only
  rw [nI_clamp (show 3 < 2 ^ 31 by omega), e3]
  refine ⟨pk_in 3 28 (by omega), nm_e ⟨pk_in 3 28 (by omega), nm_e ⟨2, pk_le 1 0 (fun z => absurd z (by omega)) (fun _ => ⟨pk_in 0 20 (by omega), ?_⟩)⟩⟩⟩
  rw [sb_cl0, e8, nI_clamp (show 3 < 2 ^ 31 by omega), e1, e9, e7]
  exact ⟨pk_in 3 28 (by omega), br_t rfl ⟨pk_in 0 20 (by omega), pk_in 0 20 (by omega), rf_eFrom hs H (nm_r (e' := nI 1) rfl (pk_le 1 1 (fun _ => rf_p64 (by omega) h4' hst' hp) (fun z => absurd z (by omega))))⟩⟩
theorem rf_sv0 {post : St2 → Prop} {h0 tl lo st oc rg ac wk fc : Int32} {a1 a2 a3 a4 a5 a6 a7 a8 a9 a10 a11 a12 a13 a14 a15 a16 a17 a18 a19 a20 a21 a22 a23 a24 : Nat → Int32} {k i n : Nat} (hi : i < 600) (hh : h0 = nI k) (ht : tl = nI k) (hp : post (h0, tl, lo, st, oc, rg, ac, wk, fc, a1, a2, a3, a4, a5, a6, a7, a8, a9, a10, a11, a12, a13, a14, a15, a16, a17, a18, a19, a20, a21, a22, a23, a24)) : wX_solve_2 post (n + 1) (nI i) h0 tl lo st oc rg ac wk fc a1 a2 a3 a4 a5 a6 a7 a8 a9 a10 a11 a12 a13 a14 a15 a16 a17 a18 a19 a20 a21 a22 a23 a24 :=
  pk_le 600 i (fun z => absurd z (by omega)) (fun _ => br_t (hh.trans ht.symm) hp)
theorem rf_sv1 {post : St2 → Prop} {h0 tl lo st oc rg ac wk fc : Int32} {a1 a2 a3 a4 a5 a6 a7 a8 a9 a10 a11 a12 a13 a14 a15 a16 a17 a18 a19 a20 a21 a22 a23 a24 : Nat → Int32} {h0' tl' lo' st' oc' rg' ac' wk' fc' : Int32} {a1' a2' a3' a4' a5' a6' a7' a8' a9' a10' a11' a12' a13' a14' a15' a16' a17' a18' a19' a20' a21' a22' a23' a24' : Nat → Int32} {k k' i m n : Nat} (hi : i < 600) (hk : k < 31) (hk' : k' < 32) (hne : k ≠ k') (hh : h0 = nI k) (ht : tl = nI k') (h6 : a6 k = nI m) (hm : m < 28) (h1 : a1 m = nI m)
    (H : ∀ ψ : St2 → Prop, ψ (h0', tl', lo', st', oc', rg', ac', wk', fc', a1', a2', a3', a4', a5', a6', a7', a8', a9', a10', a11', a12', a13', a14', a15', a16', a17', a18', a19', a20', a21', a22', a23', a24') → wpX_pass ψ (nI (k + 1), tl, lo, st, oc, rg, ac, wk, fc, a1, a2, a3, a4, upd a5 m 0, a6, a7, a8, a9, a10, a11, a12, a13, a14, a15, a16, a17, a18, a19, a20, a21, a22, a23, a24) (nI m))
    (hp : wX_solve_2 post n (nI (i + 1)) h0' tl' lo' st' oc' rg' ac' wk' fc' a1' a2' a3' a4' a5' a6' a7' a8' a9' a10' a11' a12' a13' a14' a15' a16' a17' a18' a19' a20' a21' a22' a23' a24') : wX_solve_2 post (n + 1) (nI i) h0 tl lo st oc rg ac wk fc a1 a2 a3 a4 a5 a6 a7 a8 a9 a10 a11 a12 a13 a14 a15 a16 a17 a18 a19 a20 a21 a22 a23 a24 := by
  subst hh
  refine pk_le 600 i (fun z => absurd z (by omega)) (fun _ => pk_eq k k' (fun z => absurd z hne) (fun _ => ⟨pk_in k 32 (by omega), ?_⟩) rfl ht)
  rw [nI_clamp (show k < 2 ^ 31 by omega), h6]
  refine nm_e (nm_r (rf_tl k hk) ?_)
  rw [nI_clamp (show m < 2 ^ 31 by omega), h1]
  exact ⟨pk_in m 28 hm, nm_e ⟨pk_in m 28 hm, br_t rfl (H _ (nm_r (nI_1 i) hp))⟩⟩
theorem rf_solve0 {post : St2 → Prop} {h0 tl lo st oc rg ac wk fc : Int32} {a1 a2 a3 a4 a5 a6 a7 a8 a9 a10 a11 a12 a13 a14 a15 a16 a17 a18 a19 a20 a21 a22 a23 a24 : Nat → Int32} {k : Nat} (hh : h0 = nI k) (ht : tl = nI k) (hp : post (h0, tl, lo, st, oc, rg, ac, wk, fc, a1, a2, a3, a4, a5, a6, a7, a8, a9, a10, a11, a12, a13, a14, a15, a16, a17, a18, a19, a20, a21, a22, a23, a24)) : wpX_solve post (h0, tl, lo, st, oc, rg, ac, wk, fc, a1, a2, a3, a4, a5, a6, a7, a8, a9, a10, a11, a12, a13, a14, a15, a16, a17, a18, a19, a20, a21, a22, a23, a24) :=
  ⟨1, rf_sv0 (i := 0) (n := 0) (by omega) hh ht hp⟩
theorem rf_solve1 {post : St2 → Prop} {h0 tl lo st oc rg ac wk fc : Int32} {a1 a2 a3 a4 a5 a6 a7 a8 a9 a10 a11 a12 a13 a14 a15 a16 a17 a18 a19 a20 a21 a22 a23 a24 : Nat → Int32} {k m : Nat} (hk : k < 31) (hh : h0 = nI k) (ht : tl = nI (k + 1)) (h6 : a6 k = nI m) (hm : m < 28) (h1 : a1 m = nI m) (h4 : a4 m = 0)
    (hlo : lo = nI 0 ∨ (lo = nI 1 ∧ a8 0 = nI 3 ∧ a1 3 = nI 3 ∧ m ≠ 3)) (hst : st = nI 0 ∨ (st = nI 1 ∧ a10 0 = nI 0 ∧ a1 0 = nI 0 ∧ m ≠ 0))
    (hp : post (nI (k + 1), tl, lo, st, oc, rg, ac, wk, fc, a1, a2, upd a3 m 0, a4, upd a5 m 0, a6, a7, a8, a9, a10, a11, a12, a13, a14, a15, a16, a17, a18, a19, a20, a21, a22, a23, a24)) : wpX_solve post (h0, tl, lo, st, oc, rg, ac, wk, fc, a1, a2, a3, a4, a5, a6, a7, a8, a9, a10, a11, a12, a13, a14, a15, a16, a17, a18, a19, a20, a21, a22, a23, a24) :=
  ⟨2, rf_sv1 (i := 0) (n := 1) (by omega) hk (by omega) (by omega) hh ht h6 hm h1 (fun ψ hψ => rf_pass hm h4 hlo hst hψ) (rf_sv0 (i := 1) (n := 0) (by omega) rfl ht hp)⟩
end
section
/-- the picture between two calls: nothing is queued (head and tail at k), l loads, m stores (each 0 or 1), the sites are S, no edge leaves a node of E -/
def rf_Q (u : St2) (k l m g : Nat) (S : Nat → Int32) (E : Nat → Prop) : Prop := match u with
  | (h0, tl, lo, st, oc, rg, ac, wk, fc, a1, a2, a3, a4, a5, a6, a7, a8, a9, a10, a11, a12, a13, a14, a15, a16, a17, a18, a19, a20, a21, a22, a23, a24) => h0 = nI k ∧ tl = nI k ∧ lo = nI l ∧ st = nI m ∧ (∀ i, i < 28 → a1 i = nI i) ∧ (∀ i, i < 28 → a2 i = S i) ∧ (∀ i, i < 28 → a3 i = 0) ∧ (∀ i, i < 28 → E i → a4 i = 0) ∧ (∀ i, i < 28 → a5 i = 0) ∧ (m = 1 → a10 0 = nI 0) ∧ (l = 1 → a7 0 = nI 2 ∧ a8 0 = nI 3 ∧ a9 0 = nI g)
theorem rf_hst {st : Int32} {a1 a10 : Nat → Int32} {m n : Nat} (hm : m ≤ 1) (q4 : st = nI m) (q10 : m = 1 → a10 0 = nI 0) (h1 : a1 0 = nI 0) (hn : n ≠ 0) : st = nI 0 ∨ (st = nI 1 ∧ a10 0 = nI 0 ∧ a1 0 = nI 0 ∧ n ≠ 0) := by
  rcases (show m = 0 ∨ m = 1 by omega) with rfl | rfl
  · exact Or.inl q4
  · exact Or.inr ⟨q4, q10 rfl, h1, hn⟩
theorem rf_end {ψ : Int32 → Prop} {a1 a2 : Nat → Int32} {n : Nat} (hn : n < 28) (h1 : a1 n = nI n) (hp : ψ (rf_bc (a2 n) 8)) : vp_in (nI n) 28 ∧ (vp_in (a1 (nI n).toNatClampNeg) 28 ∧ (wpX_bits ψ () (a2 (a1 (nI n).toNatClampNeg).toNatClampNeg))) := by
  rw [nI_clamp (show n < 2 ^ 31 by omega), h1, nI_clamp (show n < 2 ^ 31 by omega)]
  exact ⟨pk_in n 28 hn, pk_in n 28 hn, rf_bits hp⟩
theorem rf_alloc {post : Int32 → St2 → Prop} {u : St2} {k g v t : Nat} {S : Nat → Int32} {E : Nat → Prop} (hq : rf_Q u k 0 0 g S E) (hk : k < 30) (hv : v < 12) (hE : E v) (hS : S v = 0) (ht : t < 8)
    (hp : ∀ r u', rf_Q u' (k + 1) 0 0 g (upd S v (rf_v t)) E → post r u') : wpX_alloc post u (nI v) (nI t) := by
  obtain ⟨h0, tl, lo, st, oc, rg, ac, wk, fc, a1, a2, a3, a4, a5, a6, a7, a8, a9, a10, a11, a12, a13, a14, a15, a16, a17, a18, a19, a20, a21, a22, a23, a24⟩ := u
  obtain ⟨q1, q2, q3, q4, q5, q6, q7, q8, q9, q10, q11⟩ := hq
  unfold wpX_alloc
  dsimp only
  refine rf_bv hv (br_t rfl (rf_bsit ht (br_t rfl ?_)))
  refine rf_addS1 (k := k) (t := t) (by omega) (by omega) q2 (q5 v (by omega)) ((q6 v (by omega)).trans hS) (q7 v (by omega)) (q9 v (by omega)) ht ?_
  dsimp only
  refine rf_solve1 (k := k) (m := v) (by omega) q1 rfl pk_us (by omega) (q5 v (by omega)) (q8 v (by omega) hE) (Or.inl q3) (Or.inl q4) ?_
  dsimp only
  exact rf_end (by omega) (q5 v (by omega)) (hp _ _ ⟨rfl, rfl, q3, q4, q5, rf_uS q6 _ _, rf_u0 q7 _ _, q8, rf_u0 q9 _ _, fun z => absurd z (by omega), fun z => absurd z (by omega)⟩)
theorem rf_storeB {post : Int32 → St2 → Prop} {h0 tl lo st oc rg ac wk fc : Int32} {a1 a2 a3 a4 a5 a6 a7 a8 a9 a10 a11 a12 a13 a14 a15 a16 a17 a18 a19 a20 a21 a22 a23 a24 : Nat → Int32} {x : Int32} (hb : x < 0 ∨ ¬ x ≤ 1) (hp : post (-1) (h0, tl, lo, st, oc, rg, ac, wk, fc, a1, a2, a3, a4, a5, a6, a7, a8, a9, a10, a11, a12, a13, a14, a15, a16, a17, a18, a19, a20, a21, a22, a23, a24)) : wpX_store post (h0, tl, lo, st, oc, rg, ac, wk, fc, a1, a2, a3, a4, a5, a6, a7, a8, a9, a10, a11, a12, a13, a14, a15, a16, a17, a18, a19, a20, a21, a22, a23, a24) (nI 0) x (nI 1) := by
  unfold wpX_store
  dsimp only
  exact rf_bv (n := 0) (by omega) (br_t rfl (rf_bv (n := 1) (by omega) (br_t rfl (rf_bf1 hb (br_f (by decide) hp)))))
theorem rf_store {post : Int32 → St2 → Prop} {u : St2} {k g s t f : Nat} {S : Nat → Int32} {E : Nat → Prop} (hq : rf_Q u k 0 0 g S E) (hk : k < 30) (hs : s < 8) (ht : t < 8) (hf : f < 2) (hS0 : S 0 = rf_v s) (hS1 : S 1 = rf_v t) (hSn : S (12 + 2 * s + f) = 0) (hE1 : E 1) (hEn : E (12 + 2 * s + f))
    (hp : ∀ u', rf_Q u' (k + 1) 0 1 g (upd S (12 + 2 * s + f) (rf_v t)) (fun i => E i ∧ i ≠ 1) → post 0 u') : wpX_store post u (nI 0) (nI f) (nI 1) := by
  obtain ⟨h0, tl, lo, st, oc, rg, ac, wk, fc, a1, a2, a3, a4, a5, a6, a7, a8, a9, a10, a11, a12, a13, a14, a15, a16, a17, a18, a19, a20, a21, a22, a23, a24⟩ := u
  obtain ⟨q1, q2, q3, q4, q5, q6, q7, q8, q9, q10, q11⟩ := hq
  subst q4
  unfold wpX_store
  dsimp only
  refine rf_bv (n := 0) (by omega) (br_t rfl (rf_bv (n := 1) (by omega) (br_t rfl (rf_bf0 hf (br_t rfl ?_)))))
  rw [nI_clamp (show 0 < 2 ^ 31 by omega)]
  refine pk_lt 0 20 (fun _ => ⟨pk_in 0 20 (by omega), nm_e ⟨pk_in 0 20 (by omega), nm_e ⟨pk_in 0 20 (by omega), nm_e (nm_r (e' := nI 1) rfl ⟨pk_in 0 28 (by omega), ?_⟩)⟩⟩⟩) (fun z => absurd z (by omega))
  rw [q5 0 (by omega), nI_clamp (show 0 < 2 ^ 31 by omega), q6 0 (by omega), hS0]
  refine ⟨pk_in 0 28 (by omega), rf_eTo hs (fun ψ hψ => rf_edge1 (a := 1) (b := 12 + 2 * s + f) (k := k) (t := t) (by omega) (by omega) (by omega) (by omega) q2 ht (q5 1 (by omega)) (q5 _ (by omega)) (q8 1 (by omega) hE1) ((q6 1 (by omega)).trans hS1) ((q6 _ (by omega)).trans hSn) (q7 _ (by omega)) (q9 _ (by omega)) hψ) ?_⟩
  dsimp only
  refine rf_solve1 (k := k) (m := 12 + 2 * s + f) (by omega) q1 rfl pk_us (by omega) (q5 _ (by omega)) ((pk_un (by omega)).trans (q8 _ (by omega) hEn)) (Or.inl q3) (Or.inr ⟨rfl, pk_us, q5 0 (by omega), by omega⟩) ?_
  dsimp only
  exact hp _ ⟨rfl, rfl, q3, rfl, q5, rf_uS q6 _ _, rf_u0 q7 _ _, fun i hi hE => (pk_un hE.2).trans (q8 i hi hE.1), rf_u0 q9 _ _, fun _ => pk_us, fun z => absurd z (by omega)⟩
theorem rf_loadB {post : Int32 → St2 → Prop} {h0 tl lo st oc rg ac wk fc : Int32} {a1 a2 a3 a4 a5 a6 a7 a8 a9 a10 a11 a12 a13 a14 a15 a16 a17 a18 a19 a20 a21 a22 a23 a24 : Nat → Int32} {x : Int32} (hb : x < 0 ∨ ¬ x ≤ 1) (hp : post (-1) (h0, tl, lo, st, oc, rg, ac, wk, fc, a1, a2, a3, a4, a5, a6, a7, a8, a9, a10, a11, a12, a13, a14, a15, a16, a17, a18, a19, a20, a21, a22, a23, a24)) : wpX_load post (h0, tl, lo, st, oc, rg, ac, wk, fc, a1, a2, a3, a4, a5, a6, a7, a8, a9, a10, a11, a12, a13, a14, a15, a16, a17, a18, a19, a20, a21, a22, a23, a24) (nI 2) (nI 3) x := by
  unfold wpX_load
  dsimp only
  exact rf_bv (n := 2) (by omega) (br_t rfl (rf_bv (n := 3) (by omega) (br_t rfl (rf_bf1 hb (br_f (by decide) hp)))))
theorem rf_load {post : Int32 → St2 → Prop} {u : St2} {k m g0 g : Nat} {S : Nat → Int32} {E : Nat → Prop} (hq : rf_Q u k 0 m g0 S E) (hg : g < 2) (hS3 : S 3 = 0) (hS2 : S 2 = 0)
    (hp : ∀ u', rf_Q u' k 1 m g S E → post 0 u') : wpX_load post u (nI 2) (nI 3) (nI g) := by
  obtain ⟨h0, tl, lo, st, oc, rg, ac, wk, fc, a1, a2, a3, a4, a5, a6, a7, a8, a9, a10, a11, a12, a13, a14, a15, a16, a17, a18, a19, a20, a21, a22, a23, a24⟩ := u
  obtain ⟨q1, q2, q3, q4, q5, q6, q7, q8, q9, q10, q11⟩ := hq
  subst q3
  unfold wpX_load
  dsimp only
  refine rf_bv (n := 2) (by omega) (br_t rfl (rf_bv (n := 3) (by omega) (br_t rfl (rf_bf0 hg (br_t rfl ?_)))))
  rw [nI_clamp (show 0 < 2 ^ 31 by omega)]
  refine pk_lt 0 20 (fun _ => ⟨pk_in 0 20 (by omega), nm_e ⟨pk_in 0 20 (by omega), nm_e ⟨pk_in 0 20 (by omega), nm_e (nm_r (e' := nI 1) rfl ⟨pk_in 3 28 (by omega), ?_⟩)⟩⟩⟩) (fun z => absurd z (by omega))
  rw [nI_clamp (show 3 < 2 ^ 31 by omega), q5 3 (by omega), nI_clamp (show 3 < 2 ^ 31 by omega), q6 3 (by omega), hS3]
  refine ⟨pk_in 3 28 (by omega), rf_eFrom0 ?_⟩
  dsimp only
  refine rf_solve0 q1 q2 ?_
  dsimp only
  refine rf_end (n := 2) (by omega) (q5 2 (by omega)) ?_
  rw [q6 2 (by omega), hS2, rf_bc0]
  exact hp _ ⟨q1, q2, rfl, q4, q5, q6, q7, q8, q9, q10, fun _ => ⟨pk_us, pk_us, pk_us⟩⟩
/-- copy(3, 0), no load made -/
theorem rf_copyA {post : Int32 → St2 → Prop} {u : St2} {k m g s : Nat} {S : Nat → Int32} {E : Nat → Prop} (hq : rf_Q u k 0 m g S E) (hm : m ≤ 1) (hk : k < 29) (hs : s < 8) (hS0 : S 0 = rf_v s) (hS3 : S 3 = 0) (hE0 : E 0) (hE3 : E 3)
    (hp : ∀ u', rf_Q u' (k + 1) 0 m g (upd S 3 (rf_v s)) (fun i => E i ∧ i ≠ 0) → post 1 u') : wpX_copy post u (nI 3) (nI 0) := by
  obtain ⟨h0, tl, lo, st, oc, rg, ac, wk, fc, a1, a2, a3, a4, a5, a6, a7, a8, a9, a10, a11, a12, a13, a14, a15, a16, a17, a18, a19, a20, a21, a22, a23, a24⟩ := u
  obtain ⟨q1, q2, q3, q4, q5, q6, q7, q8, q9, q10, q11⟩ := hq
  unfold wpX_copy
  dsimp only
  refine rf_bv (n := 3) (by omega) (br_t rfl (rf_bv (n := 0) (by omega) (br_t rfl ?_)))
  refine rf_edge1 (a := 0) (b := 3) (k := k) (t := s) (by omega) (by omega) (by omega) (by omega) q2 hs (q5 0 (by omega)) (q5 3 (by omega)) (q8 0 (by omega) hE0) ((q6 0 (by omega)).trans hS0) ((q6 3 (by omega)).trans hS3) (q7 3 (by omega)) (q9 3 (by omega)) ?_
  dsimp only
  refine rf_solve1 (k := k) (m := 3) (by omega) q1 rfl pk_us (by omega) (q5 3 (by omega)) ((pk_un (by omega)).trans (q8 3 (by omega) hE3)) (Or.inl q3) (rf_hst hm q4 q10 (q5 0 (by omega)) (by omega)) ?_
  dsimp only
  refine rf_end (n := 3) (by omega) (q5 3 (by omega)) ?_
  rw [pk_us, rf_bc1 s hs]
  exact hp _ ⟨rfl, rfl, q3, q4, q5, rf_uS q6 _ _, rf_u0 q7 _ _, fun i hi hE => (pk_un hE.2).trans (q8 i hi hE.1), rf_u0 q9 _ _, q10, q11⟩
/-- copy(3, 0), a load made, its field empty -/
theorem rf_copyB {post : Int32 → St2 → Prop} {u : St2} {k m g s : Nat} {S : Nat → Int32} {E : Nat → Prop} (hq : rf_Q u k 1 m g S E) (hm : m ≤ 1) (hk : k < 29) (hs : s < 8) (hg : g < 2) (hS0 : S 0 = rf_v s) (hS3 : S 3 = 0) (hS2 : S 2 = 0) (hSg : S (12 + 2 * s + g) = 0) (hE0 : E 0) (hE3 : E 3) (hEg : E (12 + 2 * s + g))
    (hp : ∀ u', rf_Q u' (k + 1) 1 m g (upd S 3 (rf_v s)) (fun i => E i ∧ i ≠ 0 ∧ i ≠ 12 + 2 * s + g) → post 1 u') : wpX_copy post u (nI 3) (nI 0) := by
  obtain ⟨h0, tl, lo, st, oc, rg, ac, wk, fc, a1, a2, a3, a4, a5, a6, a7, a8, a9, a10, a11, a12, a13, a14, a15, a16, a17, a18, a19, a20, a21, a22, a23, a24⟩ := u
  obtain ⟨q1, q2, q3, q4, q5, q6, q7, q8, q9, q10, q11⟩ := hq
  obtain ⟨e7, e8, e9⟩ := q11 rfl
  unfold wpX_copy
  dsimp only
  refine rf_bv (n := 3) (by omega) (br_t rfl (rf_bv (n := 0) (by omega) (br_t rfl ?_)))
  refine rf_edge1 (a := 0) (b := 3) (k := k) (t := s) (by omega) (by omega) (by omega) (by omega) q2 hs (q5 0 (by omega)) (q5 3 (by omega)) (q8 0 (by omega) hE0) ((q6 0 (by omega)).trans hS0) ((q6 3 (by omega)).trans hS3) (q7 3 (by omega)) (q9 3 (by omega)) ?_
  dsimp only
  have hV : upd a2 3 (rf_v s) (12 + 2 * s + g) &&& (upd a2 3 (rf_v s) 2 ^^^ (-1)) = 0 := by
    rw [pk_un (show 12 + 2 * s + g ≠ 3 by omega), pk_un (show 2 ≠ 3 by omega), q6 _ (by omega), q6 2 (by omega), hSg, hS2]
    exact rf_nil0
  refine ⟨2, rf_sv1 (i := 0) (n := 1) (k := k) (k' := k + 1) (m := 3) (by omega) (by omega) (by omega) (by omega) q1 rfl pk_us (by omega) (q5 3 (by omega))
    (fun ψ hψ => rf_pass3 (s := s) (g := g) hs q3 e7 e8 e9 (q5 3 (by omega)) pk_us
      (fun ψ' hψ' => rf_edge0 (a := 12 + 2 * s + g) (b := 2) (by omega) (by omega) (by omega) (q5 _ (by omega)) (q5 2 (by omega)) ((pk_un (by omega)).trans (q8 _ (by omega) hEg)) hV hψ')
      q3 ((pk_un (by omega)).trans ((pk_un (by omega)).trans (q8 3 (by omega) hE3))) (rf_hst hm q4 q10 (q5 0 (by omega)) (by omega)) hψ)
    (rf_sv0 (i := 1) (n := 0) (k := k + 1) (by omega) rfl rfl ?_)⟩
  dsimp only
  refine rf_end (n := 3) (by omega) (q5 3 (by omega)) ?_
  rw [pk_us, rf_bc1 s hs]
  exact hp _ ⟨rfl, rfl, q3, q4, q5, rf_uS q6 _ _, rf_u0 q7 _ _, fun i hi hE => (pk_un hE.2.2).trans ((pk_un hE.2.1).trans (q8 i hi hE.1)), rf_u0 q9 _ _, q10, q11⟩
/-- copy(3, 0), a load made, its field holds a site -/
theorem rf_copyC {post : Int32 → St2 → Prop} {u : St2} {k m g s t : Nat} {S : Nat → Int32} {E : Nat → Prop} (hq : rf_Q u k 1 m g S E) (hm : m ≤ 1) (hk : k < 29) (hs : s < 8) (ht : t < 8) (hg : g < 2) (hS0 : S 0 = rf_v s) (hS3 : S 3 = 0) (hS2 : S 2 = 0) (hSg : S (12 + 2 * s + g) = rf_v t) (hE0 : E 0) (hE3 : E 3) (hE2 : E 2) (hEg : E (12 + 2 * s + g))
    (hp : ∀ u', rf_Q u' (k + 2) 1 m g (upd (upd S 3 (rf_v s)) 2 (rf_v t)) (fun i => E i ∧ i ≠ 0 ∧ i ≠ 12 + 2 * s + g) → post 1 u') : wpX_copy post u (nI 3) (nI 0) := by
  obtain ⟨h0, tl, lo, st, oc, rg, ac, wk, fc, a1, a2, a3, a4, a5, a6, a7, a8, a9, a10, a11, a12, a13, a14, a15, a16, a17, a18, a19, a20, a21, a22, a23, a24⟩ := u
  obtain ⟨q1, q2, q3, q4, q5, q6, q7, q8, q9, q10, q11⟩ := hq
  obtain ⟨e7, e8, e9⟩ := q11 rfl
  unfold wpX_copy
  dsimp only
  refine rf_bv (n := 3) (by omega) (br_t rfl (rf_bv (n := 0) (by omega) (br_t rfl ?_)))
  refine rf_edge1 (a := 0) (b := 3) (k := k) (t := s) (by omega) (by omega) (by omega) (by omega) q2 hs (q5 0 (by omega)) (q5 3 (by omega)) (q8 0 (by omega) hE0) ((q6 0 (by omega)).trans hS0) ((q6 3 (by omega)).trans hS3) (q7 3 (by omega)) (q9 3 (by omega)) ?_
  dsimp only
  refine ⟨3, rf_sv1 (i := 0) (n := 2) (k := k) (k' := k + 1) (m := 3) (by omega) (by omega) (by omega) (by omega) q1 rfl pk_us (by omega) (q5 3 (by omega))
    (fun ψ hψ => rf_pass3 (s := s) (g := g) hs q3 e7 e8 e9 (q5 3 (by omega)) pk_us
      (fun ψ' hψ' => rf_edge1 (a := 12 + 2 * s + g) (b := 2) (k := k + 1) (t := t) (by omega) (by omega) (by omega) (by omega) rfl ht (q5 _ (by omega)) (q5 2 (by omega)) ((pk_un (by omega)).trans (q8 _ (by omega) hEg)) ((pk_un (by omega)).trans ((q6 _ (by omega)).trans hSg)) ((pk_un (by omega)).trans ((q6 2 (by omega)).trans hS2)) (rf_u0 q7 _ _ 2 (by omega)) (rf_u0 q9 _ _ 2 (by omega)) hψ')
      q3 ((pk_un (by omega)).trans ((pk_un (by omega)).trans (q8 3 (by omega) hE3))) (rf_hst hm q4 q10 (q5 0 (by omega)) (by omega)) hψ)
    (rf_sv1 (i := 1) (n := 1) (k := k + 1) (k' := k + 2) (m := 2) (by omega) (by omega) (by omega) (by omega) rfl rfl pk_us (by omega) (q5 2 (by omega))
      (fun ψ hψ => rf_pass (n := 2) (by omega) ((pk_un (by omega)).trans ((pk_un (by omega)).trans (q8 2 (by omega) hE2))) (Or.inr ⟨q3, e8, q5 3 (by omega), by omega⟩) (rf_hst hm q4 q10 (q5 0 (by omega)) (by omega)) hψ)
      (rf_sv0 (i := 2) (n := 0) (k := k + 2) (by omega) rfl rfl ?_))⟩
  dsimp only
  refine rf_end (n := 3) (by omega) (q5 3 (by omega)) ?_
  rw [pk_un (show 3 ≠ 2 by omega), pk_us, rf_bc1 s hs]
  exact hp _ ⟨rfl, rfl, q3, q4, q5, rf_uS (rf_uS q6 _ _) _ _, rf_u0 (rf_u0 q7 _ _) _ _, fun i hi hE => (pk_un hE.2.2).trans ((pk_un hE.2.1).trans (q8 i hi hE.1)), rf_u0 (rf_u0 q9 _ _) _ _, q10, q11⟩
/-- copy(1, 2), which brings nothing new -/
theorem rf_copyZ {post : Int32 → St2 → Prop} {u : St2} {k l m g : Nat} {S : Nat → Int32} {E : Nat → Prop} (hq : rf_Q u k l m g S E) (hE2 : E 2) (hV : S 2 &&& (S 1 ^^^ (-1)) = 0)
    (hp : ∀ r u', rf_Q u' k l m g S (fun i => E i ∧ i ≠ 2) → post r u') : wpX_copy post u (nI 1) (nI 2) := by
  obtain ⟨h0, tl, lo, st, oc, rg, ac, wk, fc, a1, a2, a3, a4, a5, a6, a7, a8, a9, a10, a11, a12, a13, a14, a15, a16, a17, a18, a19, a20, a21, a22, a23, a24⟩ := u
  obtain ⟨q1, q2, q3, q4, q5, q6, q7, q8, q9, q10, q11⟩ := hq
  unfold wpX_copy
  dsimp only
  refine rf_bv (n := 1) (by omega) (br_t rfl (rf_bv (n := 2) (by omega) (br_t rfl ?_)))
  refine rf_edge0 (a := 2) (b := 1) (by omega) (by omega) (by omega) (q5 2 (by omega)) (q5 1 (by omega)) (q8 2 (by omega) hE2) (by rw [q6 2 (by omega), q6 1 (by omega)]; exact hV) ?_
  dsimp only
  refine rf_solve0 q1 q2 ?_
  dsimp only
  exact rf_end (n := 1) (by omega) (q5 1 (by omega)) (hp _ _ ⟨q1, q2, q3, q4, q5, q6, q7, fun i hi hE => (pk_un hE.2).trans (q8 i hi hE.1), q9, q10, q11⟩)
theorem rf_pt {ψ : Int32 → Prop} {u : St2} {k l m g v : Nat} {S : Nat → Int32} {E : Nat → Prop} (hq : rf_Q u k l m g S E) (hv : v < 12) (hp : ψ (S v)) : wpX_pointsTo ψ u (nI v) := by
  obtain ⟨h0, tl, lo, st, oc, rg, ac, wk, fc, a1, a2, a3, a4, a5, a6, a7, a8, a9, a10, a11, a12, a13, a14, a15, a16, a17, a18, a19, a20, a21, a22, a23, a24⟩ := u
  obtain ⟨q1, q2, q3, q4, q5, q6, q7, q8, q9, q10, q11⟩ := hq
  unfold wpX_pointsTo
  dsimp only
  refine rf_bv hv (br_t rfl ?_)
  rw [nI_clamp (show v < 2 ^ 31 by omega), q5 v (by omega), nI_clamp (show v < 2 ^ 31 by omega), q6 v (by omega)]
  exact ⟨pk_in v 28 (by omega), pk_in v 28 (by omega), hp⟩
theorem rf_holds {ψ : Int32 → Prop} {u : St2} {k l m g s f : Nat} {S : Nat → Int32} {E : Nat → Prop} (hq : rf_Q u k l m g S E) (hs : s < 8) (hf : f < 2) (hp : ψ (S (12 + 2 * s + f))) : wpX_holds ψ u (nI s) (nI f) := by
  obtain ⟨h0, tl, lo, st, oc, rg, ac, wk, fc, a1, a2, a3, a4, a5, a6, a7, a8, a9, a10, a11, a12, a13, a14, a15, a16, a17, a18, a19, a20, a21, a22, a23, a24⟩ := u
  obtain ⟨q1, q2, q3, q4, q5, q6, q7, q8, q9, q10, q11⟩ := hq
  unfold wpX_holds
  dsimp only
  refine rf_bsit hs (br_t rfl (rf_bf0 hf (br_t rfl ?_)))
  rw [rf_fn, nI_clamp (show 12 + 2 * s + f < 2 ^ 31 by omega), q5 _ (by omega), nI_clamp (show 12 + 2 * s + f < 2 ^ 31 by omega), q6 _ (by omega)]
  exact ⟨pk_in (12 + 2 * s + f) 28 (by omega), pk_in (12 + 2 * s + f) 28 (by omega), hp⟩
theorem rf_holdsB {ψ : Int32 → Prop} {h0 tl lo st oc rg ac wk fc : Int32} {a1 a2 a3 a4 a5 a6 a7 a8 a9 a10 a11 a12 a13 a14 a15 a16 a17 a18 a19 a20 a21 a22 a23 a24 : Nat → Int32} {x : Int32} {s : Nat} (hs : s < 8) (hb : x < 0 ∨ ¬ x ≤ 1) (hp : ψ (-1)) : wpX_holds ψ (h0, tl, lo, st, oc, rg, ac, wk, fc, a1, a2, a3, a4, a5, a6, a7, a8, a9, a10, a11, a12, a13, a14, a15, a16, a17, a18, a19, a20, a21, a22, a23, a24) (nI s) x := by
  unfold wpX_holds
  dsimp only
  exact rf_bsit hs (br_t rfl (rf_bf1 hb (br_f (by decide) hp)))
end
section
/-- the field of the store: bad, or good and its node holds t -/
def rf_F (x2 x7 : Int32) (s t : Nat) (S : Nat → Int32) : Prop := (x7 = 0 ∧ (x2 < 0 ∨ ¬ x2 ≤ 1)) ∨ (x7 = 1 ∧ ∃ f : Nat, f < 2 ∧ x2 = nI f ∧ S (12 + 2 * s + f) = rf_v t)
theorem rf_Fu {x2 x7 : Int32} {s t : Nat} {S S' : Nat → Int32} (h : rf_F x2 x7 s t S) (hS : ∀ i, 12 ≤ i → S' i = S i) : rf_F x2 x7 s t S' := by
  rcases h with h | ⟨h7, f, hf, h2, hSf⟩
  · exact Or.inl h
  · exact Or.inr ⟨h7, f, hf, h2, (hS _ (by omega)).trans hSf⟩
theorem rf_L212 {post : Int32 → St0 → Prop} {mc ms kc ks : Nat} {z0 z1 : Int32} {h0 tl lo st oc rg ac wk fc : Int32} {a1 a2 a3 a4 a5 a6 a7 a8 a9 a10 a11 a12 a13 a14 a15 a16 a17 a18 a19 a20 a21 a22 a23 a24 : Nat → Int32} {k l m g s t : Nat} {S : Nat → Int32} {E : Nat → Prop} (hq : rf_Q (h0, tl, lo, st, oc, rg, ac, wk, fc, a1, a2, a3, a4, a5, a6, a7, a8, a9, a10, a11, a12, a13, a14, a15, a16, a17, a18, a19, a20, a21, a22, a23, a24) k l m g S E) (hE2 : E 2) (hV : S 2 &&& (S 1 ^^^ (-1)) = 0) (hS1 : S 1 = rf_v t) (hS0 : S 0 = rf_v s) (hz : z1 = z0) (hp : post 1 ()) : wL_lawOf_212 post mc ms (nI s) (nI t) z0 z1 kc ks h0 tl lo st oc rg ac wk fc a1 a2 a3 a4 a5 a6 a7 a8 a9 a10 a11 a12 a13 a14 a15 a16 a17 a18 a19 a20 a21 a22 a23 a24 := by
  unfold wL_lawOf_212
  refine br_t hz (rf_copyZ hq hE2 hV (fun r u' hq' => ?_))
  obtain ⟨h0', tl', lo', st', oc', rg', ac', wk', fc', a1', a2', a3', a4', a5', a6', a7', a8', a9', a10', a11', a12', a13', a14', a15', a16', a17', a18', a19', a20', a21', a22', a23', a24'⟩ := u'
  exact rf_pt (v := 1) hq' (by omega) (br_t hS1 (rf_pt (v := 0) hq' (by omega) (br_t hS0 hp)))
theorem rf_L169 {post : Int32 → St0 → Prop} {mc ms kc ks : Nat} {x2 x7 z0 z1 : Int32} {h0 tl lo st oc rg ac wk fc : Int32} {a1 a2 a3 a4 a5 a6 a7 a8 a9 a10 a11 a12 a13 a14 a15 a16 a17 a18 a19 a20 a21 a22 a23 a24 : Nat → Int32} {k l m g s t : Nat} {S : Nat → Int32} {E : Nat → Prop} (hq : rf_Q (h0, tl, lo, st, oc, rg, ac, wk, fc, a1, a2, a3, a4, a5, a6, a7, a8, a9, a10, a11, a12, a13, a14, a15, a16, a17, a18, a19, a20, a21, a22, a23, a24) k l m g S E) (hs : s < 8) (hE2 : E 2) (hV : S 2 &&& (S 1 ^^^ (-1)) = 0) (hS1 : S 1 = rf_v t) (hS0 : S 0 = rf_v s) (hS3 : S 3 = rf_v s) (hF : rf_F x2 x7 s t S) (hz : z1 = z0) (hp : post 1 ()) : wL_lawOf_169 post mc ms x2 (nI s) (nI t) x7 z0 z1 kc ks h0 tl lo st oc rg ac wk fc a1 a2 a3 a4 a5 a6 a7 a8 a9 a10 a11 a12 a13 a14 a15 a16 a17 a18 a19 a20 a21 a22 a23 a24 := by
  unfold wL_lawOf_169
  refine br_t hz (rf_pt (v := 3) hq (by omega) (br_t hS3 ?_))
  rcases hF with ⟨rfl, hb⟩ | ⟨rfl, f, hf, rfl, hSf⟩
  · exact rf_holdsB hs hb (br_t rfl (rf_L212 hq hE2 hV hS1 hS0 rfl hp))
  · exact rf_holds hq hs hf (br_f (by decide) (rf_L212 hq hE2 hV hS1 hS0 hSf hp))
theorem rf_L134 {post : Int32 → St0 → Prop} {mc ms kc ks : Nat} {x2 x7 x9 z0 z1 : Int32} {h0 tl lo st oc rg ac wk fc : Int32} {a1 a2 a3 a4 a5 a6 a7 a8 a9 a10 a11 a12 a13 a14 a15 a16 a17 a18 a19 a20 a21 a22 a23 a24 : Nat → Int32} {k l m g s t : Nat} {S : Nat → Int32} {E : Nat → Prop} (hq : rf_Q (h0, tl, lo, st, oc, rg, ac, wk, fc, a1, a2, a3, a4, a5, a6, a7, a8, a9, a10, a11, a12, a13, a14, a15, a16, a17, a18, a19, a20, a21, a22, a23, a24) k l m g S E) (hm : m ≤ 1) (hk : k < 29) (hs : s < 8) (ht : t < 8) (hE : ∀ i, i ≠ 1 → E i) (hS0 : S 0 = rf_v s) (hS1 : S 1 = rf_v t) (hS2 : S 2 = 0) (hS3 : S 3 = 0) (hF : rf_F x2 x7 s t S)
    (hG : (l = 0 ∧ x9 = 0) ∨ (l = 1 ∧ g < 2 ∧ ((x9 = 0 ∧ S (12 + 2 * s + g) = 0) ∨ (x9 = 1 ∧ S (12 + 2 * s + g) = rf_v t)))) (hz : z1 = z0) (hp : post 1 ()) : wL_lawOf_134 post mc ms x2 (nI s) (nI t) x7 x9 z0 z1 kc ks h0 tl lo st oc rg ac wk fc a1 a2 a3 a4 a5 a6 a7 a8 a9 a10 a11 a12 a13 a14 a15 a16 a17 a18 a19 a20 a21 a22 a23 a24 := by
  have hV : upd S 3 (rf_v s) 2 &&& (upd S 3 (rf_v s) 1 ^^^ (-1)) = 0 := by
    rw [pk_un (show 2 ≠ 3 by omega), pk_un (show 1 ≠ 3 by omega), hS2, hS1]
    exact rf_nil t ht
  have hV' : upd (upd S 3 (rf_v s)) 2 (rf_v t) 2 &&& (upd (upd S 3 (rf_v s)) 2 (rf_v t) 1 ^^^ (-1)) = 0 := by
    rw [pk_us, pk_un (show 1 ≠ 2 by omega), pk_un (show 1 ≠ 3 by omega), hS1]
    exact rf_old t ht
  have hF1 : rf_F x2 x7 s t (upd S 3 (rf_v s)) := rf_Fu hF (fun i hi => pk_un (by omega))
  have hF2 : rf_F x2 x7 s t (upd (upd S 3 (rf_v s)) 2 (rf_v t)) := rf_Fu hF1 (fun i hi => pk_un (by omega))
  unfold wL_lawOf_134
  refine br_t hz ?_
  rcases hG with ⟨rfl, rfl⟩ | ⟨rfl, hg, ⟨rfl, hSg⟩ | ⟨rfl, hSg⟩⟩
  · refine rf_copyA hq hm hk hs hS0 hS3 (hE 0 (by omega)) (hE 3 (by omega)) (fun u' hq' => ?_)
    obtain ⟨h0', tl', lo', st', oc', rg', ac', wk', fc', a1', a2', a3', a4', a5', a6', a7', a8', a9', a10', a11', a12', a13', a14', a15', a16', a17', a18', a19', a20', a21', a22', a23', a24'⟩ := u'
    exact br_t rfl (rf_pt (v := 2) hq' (by omega) (br_t rfl (rf_L169 hq' hs ⟨hE 2 (by omega), by omega⟩ hV ((pk_un (by omega)).trans hS1) ((pk_un (by omega)).trans hS0) pk_us hF1 ((pk_un (by omega)).trans hS2) hp)))
  · refine rf_copyB hq hm hk hs hg hS0 hS3 hS2 hSg (hE 0 (by omega)) (hE 3 (by omega)) (hE _ (by omega)) (fun u' hq' => ?_)
    obtain ⟨h0', tl', lo', st', oc', rg', ac', wk', fc', a1', a2', a3', a4', a5', a6', a7', a8', a9', a10', a11', a12', a13', a14', a15', a16', a17', a18', a19', a20', a21', a22', a23', a24'⟩ := u'
    exact br_t rfl (rf_pt (v := 2) hq' (by omega) (br_t rfl (rf_L169 hq' hs ⟨hE 2 (by omega), by omega, by omega⟩ hV ((pk_un (by omega)).trans hS1) ((pk_un (by omega)).trans hS0) pk_us hF1 ((pk_un (by omega)).trans hS2) hp)))
  · refine rf_copyC hq hm hk hs ht hg hS0 hS3 hS2 hSg (hE 0 (by omega)) (hE 3 (by omega)) (hE 2 (by omega)) (hE _ (by omega)) (fun u' hq' => ?_)
    obtain ⟨h0', tl', lo', st', oc', rg', ac', wk', fc', a1', a2', a3', a4', a5', a6', a7', a8', a9', a10', a11', a12', a13', a14', a15', a16', a17', a18', a19', a20', a21', a22', a23', a24'⟩ := u'
    exact br_t rfl (rf_pt (v := 2) hq' (by omega) (br_f (by decide) (rf_L169 hq' hs ⟨hE 2 (by omega), by omega, by omega⟩ hV' ((pk_un (by omega)).trans ((pk_un (by omega)).trans hS1)) ((pk_un (by omega)).trans ((pk_un (by omega)).trans hS0)) ((pk_un (by omega)).trans pk_us) hF2 pk_us hp)))
theorem rf_L114 {post : Int32 → St0 → Prop} {mc ms kc ks : Nat} {x2 x3 x7 x8 z0 : Int32} {h0 tl lo st oc rg ac wk fc : Int32} {a1 a2 a3 a4 a5 a6 a7 a8 a9 a10 a11 a12 a13 a14 a15 a16 a17 a18 a19 a20 a21 a22 a23 a24 : Nat → Int32} {k m g0 s t : Nat} {S : Nat → Int32} {E : Nat → Prop} (hq : rf_Q (h0, tl, lo, st, oc, rg, ac, wk, fc, a1, a2, a3, a4, a5, a6, a7, a8, a9, a10, a11, a12, a13, a14, a15, a16, a17, a18, a19, a20, a21, a22, a23, a24) k 0 m g0 S E) (hm : m ≤ 1) (hk : k < 29) (hs : s < 8) (ht : t < 8) (hE : ∀ i, i ≠ 1 → E i) (hS0 : S 0 = rf_v s) (hS1 : S 1 = rf_v t) (hS2 : S 2 = 0) (hS3 : S 3 = 0) (hF : rf_F x2 x7 s t S)
    (hG : (x8 = 0 ∧ (x3 < 0 ∨ ¬ x3 ≤ 1) ∧ z0 = 0) ∨ (x8 = 1 ∧ ∃ g : Nat, g < 2 ∧ x3 = nI g ∧ ((z0 = 0 ∧ S (12 + 2 * s + g) = 0) ∨ (z0 = 1 ∧ S (12 + 2 * s + g) = rf_v t)))) (hp : post 1 ()) : wL_lawOf_114 post mc ms x2 x3 (nI s) (nI t) x7 x8 z0 kc ks h0 tl lo st oc rg ac wk fc a1 a2 a3 a4 a5 a6 a7 a8 a9 a10 a11 a12 a13 a14 a15 a16 a17 a18 a19 a20 a21 a22 a23 a24 := by
  unfold wL_lawOf_114
  rcases hG with ⟨rfl, hb, rfl⟩ | ⟨rfl, g, hg, rfl, hG⟩
  · exact rf_loadB hb (br_t rfl (rf_L134 hq hm hk hs ht hE hS0 hS1 hS2 hS3 hF (Or.inl ⟨rfl, rfl⟩) rfl hp))
  · refine rf_load hq hg hS3 hS2 (fun u' hq' => ?_)
    obtain ⟨h0', tl', lo', st', oc', rg', ac', wk', fc', a1', a2', a3', a4', a5', a6', a7', a8', a9', a10', a11', a12', a13', a14', a15', a16', a17', a18', a19', a20', a21', a22', a23', a24'⟩ := u'
    exact br_f (by decide) (rf_L134 hq' hm hk hs ht hE hS0 hS1 hS2 hS3 hF (Or.inr ⟨rfl, hg, hG⟩) rfl hp)
theorem rf_L89 {post : Int32 → St0 → Prop} {mc ms kc ks : Nat} {x2 x3 x7 x8 z0 z1 : Int32} {h0 tl lo st oc rg ac wk fc : Int32} {a1 a2 a3 a4 a5 a6 a7 a8 a9 a10 a11 a12 a13 a14 a15 a16 a17 a18 a19 a20 a21 a22 a23 a24 : Nat → Int32} {k m g0 s t : Nat} {S : Nat → Int32} {E : Nat → Prop} (hq : rf_Q (h0, tl, lo, st, oc, rg, ac, wk, fc, a1, a2, a3, a4, a5, a6, a7, a8, a9, a10, a11, a12, a13, a14, a15, a16, a17, a18, a19, a20, a21, a22, a23, a24) k 0 m g0 S E) (hm : m ≤ 1) (hk : k < 29) (hs : s < 8) (ht : t < 8) (hE : ∀ i, i ≠ 1 → E i) (hS0 : S 0 = rf_v s) (hS1 : S 1 = rf_v t) (hS2 : S 2 = 0) (hS3 : S 3 = 0) (hF : rf_F x2 x7 s t S)
    (hN : ∀ g : Nat, g < 2 → ¬ (x7 = 1 ∧ x2 = nI g) → S (12 + 2 * s + g) = 0)
    (hG : (x8 = 0 ∧ (x3 < 0 ∨ ¬ x3 ≤ 1)) ∨ (x8 = 1 ∧ ∃ g : Nat, g < 2 ∧ x3 = nI g)) (hz : z1 = z0) (hp : post 1 ()) : wL_lawOf_89 post mc ms x2 x3 (nI s) (nI t) x7 x8 z0 z1 kc ks h0 tl lo st oc rg ac wk fc a1 a2 a3 a4 a5 a6 a7 a8 a9 a10 a11 a12 a13 a14 a15 a16 a17 a18 a19 a20 a21 a22 a23 a24 := by
  unfold wL_lawOf_89
  refine br_t hz ?_
  unfold wL_lawOf_113
  have hF' := hF
  rcases hG with ⟨rfl, hb⟩ | ⟨rfl, g, hg, rfl⟩
  · have L := rf_L114 (mc := mc) (ms := ms) (kc := kc) (ks := ks) hq hm hk hs ht hE hS0 hS1 hS2 hS3 hF (Or.inl ⟨rfl, hb, rfl⟩) hp
    exact br_c (fun _ => L) (fun _ => br_t rfl L)
  · rcases hF with ⟨rfl, hb⟩ | ⟨rfl, f, hf, rfl, hSf⟩
    · exact br_t rfl (rf_L114 hq hm hk hs ht hE hS0 hS1 hS2 hS3 hF' (Or.inr ⟨rfl, g, hg, rfl, Or.inl ⟨rfl, hN g hg (fun z => absurd z.1 (by decide))⟩⟩) hp)
    · refine br_f (by decide) (br_f (by decide) (pk_eq f g (fun e => ?_) (fun e => ?_)))
      · subst e
        exact rf_L114 hq hm hk hs ht hE hS0 hS1 hS2 hS3 hF' (Or.inr ⟨rfl, f, hg, rfl, Or.inr ⟨rfl, hSf⟩⟩) hp
      · exact rf_L114 hq hm hk hs ht hE hS0 hS1 hS2 hS3 hF' (Or.inr ⟨rfl, g, hg, rfl, Or.inl ⟨rfl, hN g hg (fun z => e ((nI_eq (by omega) (by omega)).mp z.2))⟩⟩) hp
theorem rf_L51 {post : Int32 → St0 → Prop} {mc ms kc ks : Nat} {x2 x3 x7 x8 : Int32} {h0 tl lo st oc rg ac wk fc : Int32} {a1 a2 a3 a4 a5 a6 a7 a8 a9 a10 a11 a12 a13 a14 a15 a16 a17 a18 a19 a20 a21 a22 a23 a24 : Nat → Int32} {s t : Nat} (hq : rf_Q (h0, tl, lo, st, oc, rg, ac, wk, fc, a1, a2, a3, a4, a5, a6, a7, a8, a9, a10, a11, a12, a13, a14, a15, a16, a17, a18, a19, a20, a21, a22, a23, a24) 0 0 0 0 (fun _ => 0) (fun _ => True)) (hs : s < 8) (ht : t < 8)
    (hF : (x7 = 0 ∧ (x2 < 0 ∨ ¬ x2 ≤ 1)) ∨ (x7 = 1 ∧ ∃ f : Nat, f < 2 ∧ x2 = nI f))
    (hG : (x8 = 0 ∧ (x3 < 0 ∨ ¬ x3 ≤ 1)) ∨ (x8 = 1 ∧ ∃ g : Nat, g < 2 ∧ x3 = nI g)) (hp : post 1 ()) : wL_lawOf_51 post mc ms x2 x3 (nI s) (nI t) x7 x8 kc ks h0 tl lo st oc rg ac wk fc a1 a2 a3 a4 a5 a6 a7 a8 a9 a10 a11 a12 a13 a14 a15 a16 a17 a18 a19 a20 a21 a22 a23 a24 := by
  have s0 : upd (upd (fun _ => 0) 0 (rf_v s)) 1 (rf_v t) 0 = rf_v s := by rw [pk_un (show 0 ≠ 1 by omega), pk_us]
  have s1 : upd (upd (fun _ => 0) 0 (rf_v s)) 1 (rf_v t) 1 = rf_v t := pk_us
  have sn : ∀ i, 2 ≤ i → upd (upd (fun _ => 0) 0 (rf_v s)) 1 (rf_v t) i = 0 := fun i hi => by rw [pk_un (show i ≠ 1 by omega), pk_un (show i ≠ 0 by omega)]
  unfold wL_lawOf_51
  refine rf_alloc (v := 0) (t := s) hq (by omega) (by omega) trivial rfl hs (fun r u1 h1 => ?_)
  obtain ⟨h0, tl, lo, st, oc, rg, ac, wk, fc, a1, a2, a3, a4, a5, a6, a7, a8, a9, a10, a11, a12, a13, a14, a15, a16, a17, a18, a19, a20, a21, a22, a23, a24⟩ := u1
  refine rf_alloc (v := 1) (t := t) h1 (by omega) (by omega) trivial (pk_un (by omega)) ht (fun r u2 h2 => ?_)
  obtain ⟨h0, tl, lo, st, oc, rg, ac, wk, fc, a1, a2, a3, a4, a5, a6, a7, a8, a9, a10, a11, a12, a13, a14, a15, a16, a17, a18, a19, a20, a21, a22, a23, a24⟩ := u2
  rcases hF with ⟨rfl, hb⟩ | ⟨rfl, f, hf, rfl⟩
  · exact rf_storeB hb (br_t rfl (rf_L89 h2 (by omega) (by omega) hs ht (fun _ _ => trivial) s0 s1 (sn 2 (by omega)) (sn 3 (by omega)) (Or.inl ⟨rfl, hb⟩) (fun g _ _ => sn _ (by omega)) hG rfl hp))
  · refine rf_store h2 (by omega) hs ht hf s0 s1 (sn _ (by omega)) trivial trivial (fun u3 h3 => ?_)
    obtain ⟨h0, tl, lo, st, oc, rg, ac, wk, fc, a1, a2, a3, a4, a5, a6, a7, a8, a9, a10, a11, a12, a13, a14, a15, a16, a17, a18, a19, a20, a21, a22, a23, a24⟩ := u3
    exact br_f (by decide) (rf_L89 h3 (by omega) (by omega) hs ht (fun i hi => ⟨trivial, hi⟩) ((pk_un (by omega)).trans s0) ((pk_un (by omega)).trans s1) ((pk_un (by omega)).trans (sn 2 (by omega))) ((pk_un (by omega)).trans (sn 3 (by omega))) (Or.inr ⟨rfl, f, hf, rfl, pk_us⟩) (fun g hg hn => by
      have e : g ≠ f := fun e => hn ⟨rfl, by rw [e]⟩
      exact (pk_un (by omega)).trans (sn _ (by omega))) hG rfl hp)
theorem rf_L35 {post : Int32 → St0 → Prop} {mc ms kc ks : Nat} {x2 x3 x7 : Int32} {h0 tl lo st oc rg ac wk fc : Int32} {a1 a2 a3 a4 a5 a6 a7 a8 a9 a10 a11 a12 a13 a14 a15 a16 a17 a18 a19 a20 a21 a22 a23 a24 : Nat → Int32} {s t : Nat} (hq : rf_Q (h0, tl, lo, st, oc, rg, ac, wk, fc, a1, a2, a3, a4, a5, a6, a7, a8, a9, a10, a11, a12, a13, a14, a15, a16, a17, a18, a19, a20, a21, a22, a23, a24) 0 0 0 0 (fun _ => 0) (fun _ => True)) (hs : s < 8) (ht : t < 8)
    (hF : (x7 = 0 ∧ (x2 < 0 ∨ ¬ x2 ≤ 1)) ∨ (x7 = 1 ∧ ∃ f : Nat, f < 2 ∧ x2 = nI f)) (hp : post 1 ()) : wL_lawOf_35 post mc ms x2 x3 (nI s) (nI t) x7 kc ks h0 tl lo st oc rg ac wk fc a1 a2 a3 a4 a5 a6 a7 a8 a9 a10 a11 a12 a13 a14 a15 a16 a17 a18 a19 a20 a21 a22 a23 a24 := by
  unfold wL_lawOf_35
  unfold wL_lawOf_46
  exact br_c (fun e => rf_L51 hq hs ht hF (Or.inr ⟨rfl, 0, by omega, e⟩) hp) (fun e0 => br_c (fun e => rf_L51 hq hs ht hF (Or.inr ⟨rfl, 1, by omega, e⟩) hp) (fun e1 => rf_L51 hq hs ht hF (Or.inl ⟨rfl, rf_bad e0 e1⟩) hp))
theorem rf_lawOf (x y f g : Int32) : wpL_lawOf (fun r _ => r = 1) 25 523 () x y f g := by
  obtain ⟨s, hs, es⟩ := pk_andE x (m := 7) 3 (by decide)
  obtain ⟨t, ht, et⟩ := pk_andE y (m := 7) 3 (by decide)
  refine ⟨by omega, by omega, 24, 490, by omega, by omega, rf_init (by omega) (by omega) (fun a1 h1 => nm_r es (nm_r et ?_))⟩
  have hq : rf_Q (0, 0, 0, 0, 0, 0, 0, 0, 0, a1, fun _ => 0, fun _ => 0, fun _ => 0, fun _ => 0, fun _ => 0, fun _ => 0, fun _ => 0, fun _ => 0, fun _ => 0, fun _ => 0, fun _ => 0, fun _ => 0, fun _ => 0, fun _ => 0, fun _ => 0, fun _ => 0, fun _ => 0, fun _ => 0, fun _ => 0, fun _ => 0, fun _ => 0, fun _ => 0, fun _ => 0) 0 0 0 0 (fun _ => 0) (fun _ => True) :=
    ⟨rfl, rfl, rfl, rfl, h1, fun _ _ => rfl, fun _ _ => rfl, fun _ _ _ => rfl, fun _ _ => rfl, fun z => absurd z (by omega), fun z => absurd z (by omega)⟩
  exact br_c (fun e => rf_L35 hq hs ht (Or.inr ⟨rfl, 0, by omega, e⟩) rfl) (fun e0 => br_c (fun e => rf_L35 hq hs ht (Or.inr ⟨rfl, 1, by omega, e⟩) rfl) (fun e1 => rf_L35 hq hs ht (Or.inl ⟨rfl, rf_bad e0 e1⟩) rfl))
theorem rf_cell {ψ : Int32 → Prop} {L : Nat} {xs : Nat → Int32} (hL : L ≤ 4) (i : Nat) (hi : i < 4) (h : ∀ x, ψ x) : wpL_cellAt ψ L xs () (nI i) :=
  pk_le L i (fun _ => h 0) (fun z => ⟨pk_in i L z, h _⟩)
theorem i_vc (xs : Nat → Int32) (L : Nat) (hL : L ≤ 4) : wpL_law (fun r => r = 1) L xs :=
  rf_cell hL 0 (by omega) (fun x => rf_cell hL 1 (by omega) (fun y => rf_cell hL 2 (by omega) (fun f => rf_cell hL 3 (by omega) (fun g => ⟨25, 523, by omega, by omega, rf_lawOf x y f g⟩))))
end
