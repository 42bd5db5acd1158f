section
/-- an array by its first four cells, 0 behind them -/
def pt_v (a b c d : Int32) : Nat → Int32 := fun i => if i = 0 then a else if i = 1 then b else if i = 2 then c else if i = 3 then d else 0
theorem pt_z : (fun _ => 0 : Nat → Int32) = pt_v 0 0 0 0 := by
  funext i
  show (0 : Int32) = if i = 0 then 0 else if i = 1 then 0 else if i = 2 then 0 else if i = 3 then 0 else 0
  repeat (split; rfl)
  rfl
theorem pt_w0 {a b c d x y : Int32} {k : Nat} (hk : k = 0) (hx : x = y) : upd (pt_v a b c d) k x = pt_v y b c d := by
  subst hk hx
  funext i
  unfold upd pt_v
  by_cases h : i = 0
  · rw [if_pos h, if_pos h]
  · rw [if_neg h, if_neg h, if_neg h]
theorem pt_w1 {a b c d x y : Int32} {k : Nat} (hk : k = 1) (hx : x = y) : upd (pt_v a b c d) k x = pt_v a y c d := by
  subst hk hx
  funext i
  unfold upd pt_v
  by_cases h : i = 1
  · subst h; rfl
  · rw [if_neg h, if_neg h, if_neg h]
theorem pt_w2 {a b c d x y : Int32} {k : Nat} (hk : k = 2) (hx : x = y) : upd (pt_v a b c d) k x = pt_v a b y d := by
  subst hk hx
  funext i
  unfold upd pt_v
  by_cases h : i = 2
  · subst h; rfl
  · rw [if_neg h, if_neg h, if_neg h]
theorem pt_w3 {a b c d x y : Int32} {k : Nat} (hk : k = 3) (hx : x = y) : upd (pt_v a b c d) k x = pt_v a b c y := by
  subst hk hx
  funext i
  unfold upd pt_v
  by_cases h : i = 3
  · subst h; rfl
  · rw [if_neg h, if_neg h, if_neg h]
theorem pt_is (c : Int32) {e : Int32} (h : e = c) : e = c := h
/-- the found set: bit 0 and bit 400 (place 6, bit 16) -/
def pt_G (b0 b1 : Bool) (i : Nat) : Int64 := if i = 0 then (if b0 then 1 else 0) else if i = 6 then (if b1 then 65536 else 0) else 0
theorem pt_fillL {s : Nat → Int64} {i k : Nat} (hk : k = i) (h : ∀ j, j < i → s j = 0) : ∀ j, j < i + 1 → vp_updL s k 0 j = 0 := by
  intro j hj
  rw [hk]
  by_cases e : j = i
  · rw [e, pk_uLs]
  · rw [pk_uLn e]
    exact h j (by omega)
theorem pt_G0 (i : Nat) : pt_G false false i = 0 := by
  unfold pt_G
  split
  · rfl
  · split <;> rfl
theorem pt_put0 {g : Nat → Int64} {b0 b1 : Bool} (hg : ∀ i, i < 125 → g i = pt_G b0 b1 i) {k : Nat} {w : Int64} (hk : k = 0) (hw : w = 1) : ∀ i, i < 125 → vp_updL g k (g k ||| w) i = pt_G true b1 i := by
  intro i hi
  subst hk hw
  by_cases e : i = 0
  · rw [e, pk_uLs, hg 0 (by omega)]
    cases b0 <;> cases b1 <;> decide
  · rw [pk_uLn e, hg i hi]
    unfold pt_G
    rw [if_neg e, if_neg e]
theorem pt_put1 {g : Nat → Int64} {b0 b1 : Bool} (hg : ∀ i, i < 125 → g i = pt_G b0 b1 i) {k : Nat} {w : Int64} (hk : k = 6) (hw : w = 65536) : ∀ i, i < 125 → vp_updL g k (g k ||| w) i = pt_G b0 true i := by
  intro i hi
  subst hk hw
  by_cases e : i = 6
  · rw [e, pk_uLs, hg 6 (by omega)]
    cases b0 <;> cases b1 <;> decide
  · rw [pk_uLn e, hg i hi]
    unfold pt_G
    rw [if_neg e, if_neg e]
/-- the bit that is read for number k -/
abbrev pt_b (x : Int64) (k : Nat) : Int64 := ((x.toUInt64 >>> ((nI k &&& 63).toInt64.toUInt64 &&& Int64.toUInt64 63)).toInt64) &&& 1
theorem pt_tabT : ∀ i, i < 125 → ∀ j, j < 64 → pt_b (pt_G true true i) (64 * i + j) = if 64 * i + j = 0 ∨ 64 * i + j = 400 then 1 else 0 := by decide +kernel
theorem pt_tabF : ∀ i, i < 125 → ∀ j, j < 64 → pt_b (pt_G true false i) (64 * i + j) = if 64 * i + j = 0 then 1 else 0 := by decide +kernel
theorem pt_ix {k : Nat} (hk : k < 8000) : nI k >>> ((6 : Int32) &&& 31) = nI (k / 64) := pk_shrN (by omega) _ 6 (by decide)
theorem pt_bT {g : Nat → Int64} (hg : ∀ i, i < 125 → g i = pt_G true true i) {k : Nat} (hk : k < 8000) : pt_b (g (nI k >>> ((6 : Int32) &&& 31)).toNatClampNeg) k = if k = 0 ∨ k = 400 then 1 else 0 := by
  rw [pt_ix hk, nI_clamp (by omega), hg (k / 64) (by omega)]
  have t := pt_tabT (k / 64) (by omega) (k % 64) (by omega)
  rw [show 64 * (k / 64) + k % 64 = k by omega] at t
  exact t
theorem pt_bF {g : Nat → Int64} (hg : ∀ i, i < 125 → g i = pt_G true false i) {k : Nat} (hk : k < 8000) : pt_b (g (nI k >>> ((6 : Int32) &&& 31)).toNatClampNeg) k = if k = 0 then 1 else 0 := by
  rw [pt_ix hk, nI_clamp (by omega), hg (k / 64) (by omega)]
  have t := pt_tabF (k / 64) (by omega) (k % 64) (by omega)
  rw [show 64 * (k / 64) + k % 64 = k by omega] at t
  exact t
/-- how many numbers below k are found -/
def pt_c (two : Bool) (k : Nat) : Int32 := if k = 0 then 0 else if k ≤ 400 then 1 else if two then 2 else 1
theorem pt_cT {g : Nat → Int64} (hg : ∀ i, i < 125 → g i = pt_G true true i) {k : Nat} (hk : k < 8000) {s : Int32} (h : s = pt_c true k) : s + (pt_b (g (nI k >>> ((6 : Int32) &&& 31)).toNatClampNeg) k).toInt32 = pt_c true (k + 1) := by
  rw [pt_bT hg hk, h]
  unfold pt_c
  by_cases h0 : k = 0
  · subst h0; decide
  · by_cases h4 : k = 400
    · subst h4; decide
    · rw [if_neg (show ¬ (k = 0 ∨ k = 400) by omega), if_neg h0, if_neg (show ¬ k + 1 = 0 by omega)]
      by_cases h5 : k ≤ 400
      · rw [if_pos h5, if_pos (show k + 1 ≤ 400 by omega)]; rfl
      · rw [if_neg h5, if_neg (show ¬ k + 1 ≤ 400 by omega)]; rfl
theorem pt_cF {g : Nat → Int64} (hg : ∀ i, i < 125 → g i = pt_G true false i) {k : Nat} (hk : k < 8000) {s : Int32} (h : s = pt_c false k) : s + (pt_b (g (nI k >>> ((6 : Int32) &&& 31)).toNatClampNeg) k).toInt32 = pt_c false (k + 1) := by
  rw [pt_bF hg hk, h]
  unfold pt_c
  by_cases h0 : k = 0
  · subst h0; decide
  · rw [if_neg h0, if_neg h0, if_neg (show ¬ k + 1 = 0 by omega)]
    by_cases h5 : k ≤ 400
    · rw [if_pos h5]
      by_cases h6 : k + 1 ≤ 400
      · rw [if_pos h6]; rfl
      · rw [if_neg h6]; rfl
    · rw [if_neg h5, if_neg (show ¬ k + 1 ≤ 400 by omega)]; rfl
theorem pt_clear {post : St2 → Prop} {f0_nodeCount f0_pendingCount f0_tokenCount f0_compiled f0_isWhole f0_variableSet f0_codeEnd : Int32} {a1 a2 a3 a4 a5 a6 a7 a8 a9 a10 a11 a12 a13 a14 a15 : Nat → Int32} {a16 : Nat → Int64} (hp : ∀ g : Nat → Int64, (∀ i, i < 125 → g i = pt_G false false i) → post (f0_nodeCount, f0_pendingCount, f0_tokenCount, f0_compiled, f0_isWhole, f0_variableSet, f0_codeEnd, a1, a2, a3, a4, a5, a6, a7, a8, a9, a10, a11, a12, a13, a14, a15, g)) : wpX_clearFound post (f0_nodeCount, f0_pendingCount, f0_tokenCount, f0_compiled, f0_isWhole, f0_variableSet, f0_codeEnd, a1, a2, a3, a4, a5, a6, a7, a8, a9, a10, a11, a12, a13, a14, a15, a16) :=
  pk_loop (fun n i s => wX_clearFound_2 post f0_nodeCount f0_pendingCount f0_tokenCount f0_compiled f0_isWhole f0_variableSet f0_codeEnd n (nI i) a1 a2 a3 a4 a5 a6 a7 a8 a9 a10 a11 a12 a13 a14 a15 s) (fun i s => ∀ j, j < i → s j = 0) 125 0 a16 (by omega) (fun j hj => absurd hj (by omega))
    (fun n s h => pk_le 125 125 (fun _ => hp s (fun i hi => by rw [h i hi, pt_G0])) (fun z => absurd z (by omega)))
    (fun n i s hi h hw => pk_le 125 i (fun z => absurd z (by omega)) (fun _ => ⟨pk_in i 125 hi, nm_e (nm_r (nI_1 i) (hw _ (pt_fillL (nI_clamp (by omega)) h)))⟩))
theorem pt_countT {post : Int32 → Prop} {f0_nodeCount f0_pendingCount f0_tokenCount f0_compiled f0_isWhole f0_variableSet f0_codeEnd : Int32} {a1 a2 a3 a4 a5 a6 a7 a8 a9 a10 a11 a12 a13 a14 a15 : Nat → Int32} {a16 : Nat → Int64} (hg : ∀ i, i < 125 → a16 i = pt_G true true i) (hp : post 2) : wpX_foundCount post (f0_nodeCount, f0_pendingCount, f0_tokenCount, f0_compiled, f0_isWhole, f0_variableSet, f0_codeEnd, a1, a2, a3, a4, a5, a6, a7, a8, a9, a10, a11, a12, a13, a14, a15, a16) :=
  pk_loop (fun n i s => wX_foundCount_4 post f0_nodeCount f0_pendingCount f0_tokenCount f0_compiled f0_isWhole f0_variableSet f0_codeEnd a1 a2 a3 a4 a5 a6 a7 a8 a9 a10 a11 a12 a13 a14 a15 a16 n s (nI i)) (fun i s => s = pt_c true i) 8000 0 0 (by omega) rfl
    (fun n s h => pk_le 8000 8000 (fun _ => by rw [h]; exact hp) (fun z => absurd z (by omega)))
    (fun n i s hi h hw => pk_le 8000 i (fun z => absurd z (by omega)) (fun _ => ⟨pk_in (i / 64) 125 (by omega) (pt_ix hi), nm_r (pt_cT hg hi h) (nm_r (nI_1 i) (hw _ rfl))⟩))
theorem pt_countF {post : Int32 → Prop} {f0_nodeCount f0_pendingCount f0_tokenCount f0_compiled f0_isWhole f0_variableSet f0_codeEnd : Int32} {a1 a2 a3 a4 a5 a6 a7 a8 a9 a10 a11 a12 a13 a14 a15 : Nat → Int32} {a16 : Nat → Int64} (hg : ∀ i, i < 125 → a16 i = pt_G true false i) (hp : post 1) : wpX_foundCount post (f0_nodeCount, f0_pendingCount, f0_tokenCount, f0_compiled, f0_isWhole, f0_variableSet, f0_codeEnd, a1, a2, a3, a4, a5, a6, a7, a8, a9, a10, a11, a12, a13, a14, a15, a16) :=
  pk_loop (fun n i s => wX_foundCount_4 post f0_nodeCount f0_pendingCount f0_tokenCount f0_compiled f0_isWhole f0_variableSet f0_codeEnd a1 a2 a3 a4 a5 a6 a7 a8 a9 a10 a11 a12 a13 a14 a15 a16 n s (nI i)) (fun i s => s = pt_c false i) 8000 0 0 (by omega) rfl
    (fun n s h => pk_le 8000 8000 (fun _ => by rw [h]; exact hp) (fun z => absurd z (by omega)))
    (fun n i s hi h hw => pk_le 8000 i (fun z => absurd z (by omega)) (fun _ => ⟨pk_in (i / 64) 125 (by omega) (pt_ix hi), nm_r (pt_cF hg hi h) (nm_r (nI_1 i) (hw _ rfl))⟩))
theorem pt_bindF {post : Int32 → St2 → Prop} {f0_nodeCount f0_pendingCount f0_tokenCount f0_compiled f0_isWhole f0_variableSet f0_codeEnd : Int32} {a1 a2 a3 a4 a5 a6 a7 a8 a9 a10 a11 a12 a13 a14 a15 : Nat → Int32} {a16 : Nat → Int64} (hg : ∀ i, i < 125 → a16 i = pt_G true false i) (hp : post (-3) (f0_nodeCount, f0_pendingCount, f0_tokenCount, f0_compiled, f0_isWhole, f0_variableSet, f0_codeEnd, a1, a2, a3, a4, a5, a6, a7, a8, a9, a10, a11, a12, a13, a14, a15, a16)) : ∃ n, wX_binding_49 post 0 f0_nodeCount f0_pendingCount f0_tokenCount f0_compiled f0_isWhole f0_variableSet f0_codeEnd a1 a2 a3 a4 a5 a6 a7 a8 a9 a10 a11 a12 a13 a14 a15 a16 n 1 0 :=
  pk_loop (fun n i s => wX_binding_49 post 0 f0_nodeCount f0_pendingCount f0_tokenCount f0_compiled f0_isWhole f0_variableSet f0_codeEnd a1 a2 a3 a4 a5 a6 a7 a8 a9 a10 a11 a12 a13 a14 a15 a16 n s (nI i)) (fun i s => s = if i = 0 then 1 else 0) 8000 0 1 (by omega) rfl
    (fun n s h => pk_le 8000 8000 (fun _ => hp) (fun z => absurd z (by omega)))
    (fun n i s hi h hw => pk_le 8000 i (fun z => absurd z (by omega)) (fun _ => ⟨pk_in (i / 64) 125 (by omega) (pt_ix hi), by
      have t := pt_bF hg hi
      by_cases h0 : i = 0
      · subst h0
        subst h
        exact br_f (by intro z; exact absurd (t.symm.trans z) (by decide)) (br_f (by decide) (nm_r (pt_is 0 (by decide)) (nm_r (nI_1 0) (hw _ rfl))))
      · rw [if_neg h0] at t h
        exact br_t t (nm_r (nI_1 i) (hw _ (by rw [h, if_neg (show ¬ i + 1 = 0 by omega)])))⟩))
theorem pt_bindT {post : Int32 → St2 → Prop} {f0_nodeCount f0_pendingCount f0_tokenCount f0_compiled f0_isWhole f0_variableSet f0_codeEnd : Int32} {a1 a2 a3 a4 a5 a6 a7 a8 a9 a10 a11 a12 a13 a14 a15 : Nat → Int32} {a16 : Nat → Int64} (hg : ∀ i, i < 125 → a16 i = pt_G true true i) (hp : post 1 (f0_nodeCount, f0_pendingCount, f0_tokenCount, f0_compiled, f0_isWhole, f0_variableSet, f0_codeEnd, a1, a2, a3, a4, a5, a6, a7, a8, a9, a10, a11, a12, a13, a14, a15, a16)) : ∃ n, wX_binding_49 post 0 f0_nodeCount f0_pendingCount f0_tokenCount f0_compiled f0_isWhole f0_variableSet f0_codeEnd a1 a2 a3 a4 a5 a6 a7 a8 a9 a10 a11 a12 a13 a14 a15 a16 n 1 0 :=
  pk_loop (fun n i s => wX_binding_49 post 0 f0_nodeCount f0_pendingCount f0_tokenCount f0_compiled f0_isWhole f0_variableSet f0_codeEnd a1 a2 a3 a4 a5 a6 a7 a8 a9 a10 a11 a12 a13 a14 a15 a16 n s (nI i)) (fun i s => s = if i = 0 then 1 else 0) 400 0 1 (by omega) rfl
    (fun n s h => pk_le 8000 400 (fun z => absurd z (by omega)) (fun _ => ⟨pk_in 6 125 (by omega) (pt_ix (by omega)), by
      have t := pt_bT hg (show 400 < 8000 by omega)
      subst h
      exact br_f (by intro z; exact absurd (t.symm.trans z) (by decide)) (br_t (by decide) (br_t rfl ⟨by decide, by rw [show nI 400 / 400 = 1 by decide]; exact hp⟩))⟩))
    (fun n i s hi h hw => pk_le 8000 i (fun z => absurd z (by omega)) (fun _ => ⟨pk_in (i / 64) 125 (by omega) (pt_ix (by omega)), by
      have t := pt_bT hg (show i < 8000 by omega)
      by_cases h0 : i = 0
      · subst h0
        subst h
        exact br_f (by intro z; exact absurd (t.symm.trans z) (by decide)) (br_f (by decide) (nm_r (pt_is 0 (by decide)) (nm_r (nI_1 0) (hw _ rfl))))
      · rw [if_neg h0] at h
        rw [if_neg (show ¬ (i = 0 ∨ i = 400) by omega)] at t
        exact br_t t (nm_r (nI_1 i) (hw _ (by rw [h, if_neg (show ¬ i + 1 = 0 by omega)])))⟩))
end
section
theorem pt_init {post : St2 → Prop} (hp : post (0, 0, 0, 0, 0, 0, 0, (pt_v 0 0 0 0), (pt_v 0 0 0 0), (pt_v 0 0 0 0), (pt_v 0 0 0 0), (pt_v 0 0 0 0), (pt_v 0 0 0 0), (pt_v 0 0 0 0), (pt_v 0 0 0 0), (pt_v 0 0 0 0), (pt_v 0 0 0 0), (pt_v 0 0 0 0), (pt_v 0 0 0 0), (pt_v 0 0 0 0), (pt_v 0 0 0 0), (pt_v 0 0 0 0), (fun _ => 0))) : wpX_init post 16 667 (0, 0, 0, 0, 0, 0, 0) := by
  rw [← pt_z] at hp
  exact ⟨by decide, by decide, by decide, by decide, by decide, by decide, by decide, by decide, by decide, by decide, by decide, by decide, by decide, by decide, by decide, by decide, by decide, by decide, by decide, by decide, by decide, by decide, by decide, by decide, by decide, by decide, by decide, by decide, by decide, by decide, by decide, by decide, hp⟩
theorem pt_n0 {post : Int32 → St2 → Prop} {f0_pendingCount f0_tokenCount f0_compiled f0_isWhole f0_variableSet f0_codeEnd : Int32} {a5 a6 a7 a8 a9 a10 a11 a12 a13 a14 a15 : Nat → Int32} {a16 : Nat → Int64} (hp : post 0 (1, f0_pendingCount, f0_tokenCount, f0_compiled, f0_isWhole, f0_variableSet, f0_codeEnd, (pt_v 0 0 0 0), (pt_v 3 0 0 0), (pt_v 0 0 0 0), (pt_v 0 0 0 0), a5, a6, a7, a8, a9, a10, a11, a12, a13, a14, a15, a16)) : wpX_constant post (0, f0_pendingCount, f0_tokenCount, f0_compiled, f0_isWhole, f0_variableSet, f0_codeEnd, (pt_v 0 0 0 0), (pt_v 0 0 0 0), (pt_v 0 0 0 0), (pt_v 0 0 0 0), a5, a6, a7, a8, a9, a10, a11, a12, a13, a14, a15, a16) 3 := by
  repeat (first
      | refine br_t (by decide +kernel) ?_
      | refine br_f (by decide +kernel) ?_
      | refine And.intro (vp_in_iff.mpr (by decide +kernel)) ?_
      | refine nm_r (pt_is 0 (by decide +kernel)) ?_
      | refine nm_r (pt_is 1 (by decide +kernel)) ?_
      | refine nm_r (pt_is 2 (by decide +kernel)) ?_
      | refine nm_r (pt_is 3 (by decide +kernel)) ?_
      | refine nm_r (pt_is 4 (by decide +kernel)) ?_
      | refine nm_r (pt_is (-1) (by decide +kernel)) ?_
      | refine nm_r (pt_is 20 (by decide +kernel)) ?_
      | refine nm_r (pt_is 400 (by decide +kernel)) ?_
      | refine nm_r (pt_is 5 (by decide +kernel)) ?_
      | refine nm_r (pt_w0 (by decide +kernel) (by first | exact pt_is 0 (by decide +kernel) | exact pt_is 1 (by decide +kernel) | exact pt_is 2 (by decide +kernel) | exact pt_is 3 (by decide +kernel) | exact pt_is 4 (by decide +kernel) | exact pt_is (-1) (by decide +kernel) | exact pt_is 20 (by decide +kernel) | exact pt_is 400 (by decide +kernel) | exact pt_is 5 (by decide +kernel))) ?_
      | refine nm_r (pt_w1 (by decide +kernel) (by first | exact pt_is 0 (by decide +kernel) | exact pt_is 1 (by decide +kernel) | exact pt_is 2 (by decide +kernel) | exact pt_is 3 (by decide +kernel) | exact pt_is 4 (by decide +kernel) | exact pt_is (-1) (by decide +kernel) | exact pt_is 20 (by decide +kernel) | exact pt_is 400 (by decide +kernel) | exact pt_is 5 (by decide +kernel))) ?_
      | refine nm_r (pt_w2 (by decide +kernel) (by first | exact pt_is 0 (by decide +kernel) | exact pt_is 1 (by decide +kernel) | exact pt_is 2 (by decide +kernel) | exact pt_is 3 (by decide +kernel) | exact pt_is 4 (by decide +kernel) | exact pt_is (-1) (by decide +kernel) | exact pt_is 20 (by decide +kernel) | exact pt_is 400 (by decide +kernel) | exact pt_is 5 (by decide +kernel))) ?_
      | refine nm_r (pt_w3 (by decide +kernel) (by first | exact pt_is 0 (by decide +kernel) | exact pt_is 1 (by decide +kernel) | exact pt_is 2 (by decide +kernel) | exact pt_is 3 (by decide +kernel) | exact pt_is 4 (by decide +kernel) | exact pt_is (-1) (by decide +kernel) | exact pt_is 20 (by decide +kernel) | exact pt_is 400 (by decide +kernel) | exact pt_is 5 (by decide +kernel))) ?_
      | refine Exists.intro 30 ?_)
  exact hp
theorem pt_n1 {post : Int32 → St2 → Prop} {f0_pendingCount f0_tokenCount f0_compiled f0_isWhole f0_variableSet f0_codeEnd : Int32} {a5 a6 a7 a8 a9 a10 a11 a12 a13 a14 a15 : Nat → Int32} {a16 : Nat → Int64} (hp : post 1 (2, f0_pendingCount, f0_tokenCount, f0_compiled, f0_isWhole, f0_variableSet, f0_codeEnd, (pt_v 0 0 0 0), (pt_v 3 5 0 0), (pt_v 0 0 0 0), (pt_v 0 1 0 0), a5, a6, a7, a8, a9, a10, a11, a12, a13, a14, a15, a16)) : wpX_constant post (1, f0_pendingCount, f0_tokenCount, f0_compiled, f0_isWhole, f0_variableSet, f0_codeEnd, (pt_v 0 0 0 0), (pt_v 3 0 0 0), (pt_v 0 0 0 0), (pt_v 0 0 0 0), a5, a6, a7, a8, a9, a10, a11, a12, a13, a14, a15, a16) 5 := by
  repeat (first
      | refine br_t (by decide +kernel) ?_
      | refine br_f (by decide +kernel) ?_
      | refine And.intro (vp_in_iff.mpr (by decide +kernel)) ?_
      | refine nm_r (pt_is 0 (by decide +kernel)) ?_
      | refine nm_r (pt_is 1 (by decide +kernel)) ?_
      | refine nm_r (pt_is 2 (by decide +kernel)) ?_
      | refine nm_r (pt_is 3 (by decide +kernel)) ?_
      | refine nm_r (pt_is 4 (by decide +kernel)) ?_
      | refine nm_r (pt_is (-1) (by decide +kernel)) ?_
      | refine nm_r (pt_is 20 (by decide +kernel)) ?_
      | refine nm_r (pt_is 400 (by decide +kernel)) ?_
      | refine nm_r (pt_is 5 (by decide +kernel)) ?_
      | refine nm_r (pt_w0 (by decide +kernel) (by first | exact pt_is 0 (by decide +kernel) | exact pt_is 1 (by decide +kernel) | exact pt_is 2 (by decide +kernel) | exact pt_is 3 (by decide +kernel) | exact pt_is 4 (by decide +kernel) | exact pt_is (-1) (by decide +kernel) | exact pt_is 20 (by decide +kernel) | exact pt_is 400 (by decide +kernel) | exact pt_is 5 (by decide +kernel))) ?_
      | refine nm_r (pt_w1 (by decide +kernel) (by first | exact pt_is 0 (by decide +kernel) | exact pt_is 1 (by decide +kernel) | exact pt_is 2 (by decide +kernel) | exact pt_is 3 (by decide +kernel) | exact pt_is 4 (by decide +kernel) | exact pt_is (-1) (by decide +kernel) | exact pt_is 20 (by decide +kernel) | exact pt_is 400 (by decide +kernel) | exact pt_is 5 (by decide +kernel))) ?_
      | refine nm_r (pt_w2 (by decide +kernel) (by first | exact pt_is 0 (by decide +kernel) | exact pt_is 1 (by decide +kernel) | exact pt_is 2 (by decide +kernel) | exact pt_is 3 (by decide +kernel) | exact pt_is 4 (by decide +kernel) | exact pt_is (-1) (by decide +kernel) | exact pt_is 20 (by decide +kernel) | exact pt_is 400 (by decide +kernel) | exact pt_is 5 (by decide +kernel))) ?_
      | refine nm_r (pt_w3 (by decide +kernel) (by first | exact pt_is 0 (by decide +kernel) | exact pt_is 1 (by decide +kernel) | exact pt_is 2 (by decide +kernel) | exact pt_is 3 (by decide +kernel) | exact pt_is 4 (by decide +kernel) | exact pt_is (-1) (by decide +kernel) | exact pt_is 20 (by decide +kernel) | exact pt_is 400 (by decide +kernel) | exact pt_is 5 (by decide +kernel))) ?_
      | refine Exists.intro 30 ?_)
  exact hp
theorem pt_n2 {post : Int32 → St2 → Prop} {f0_pendingCount f0_tokenCount f0_compiled f0_isWhole f0_variableSet f0_codeEnd : Int32} {a5 a6 a7 a8 a9 a10 a11 a12 a13 a14 a15 : Nat → Int32} {a16 : Nat → Int64} (hp : post 2 (3, f0_pendingCount, f0_tokenCount, f0_compiled, f0_isWhole, f0_variableSet, f0_codeEnd, (pt_v 0 0 20 0), (pt_v 3 5 0 0), (pt_v 0 0 0 0), (pt_v 0 1 2 0), a5, a6, a7, a8, a9, a10, a11, a12, a13, a14, a15, a16)) : wpX_one post (2, f0_pendingCount, f0_tokenCount, f0_compiled, f0_isWhole, f0_variableSet, f0_codeEnd, (pt_v 0 0 0 0), (pt_v 3 5 0 0), (pt_v 0 0 0 0), (pt_v 0 1 0 0), a5, a6, a7, a8, a9, a10, a11, a12, a13, a14, a15, a16) 0 := by
  repeat (first
      | refine br_t (by decide +kernel) ?_
      | refine br_f (by decide +kernel) ?_
      | refine And.intro (vp_in_iff.mpr (by decide +kernel)) ?_
      | refine nm_r (pt_is 0 (by decide +kernel)) ?_
      | refine nm_r (pt_is 1 (by decide +kernel)) ?_
      | refine nm_r (pt_is 2 (by decide +kernel)) ?_
      | refine nm_r (pt_is 3 (by decide +kernel)) ?_
      | refine nm_r (pt_is 4 (by decide +kernel)) ?_
      | refine nm_r (pt_is (-1) (by decide +kernel)) ?_
      | refine nm_r (pt_is 20 (by decide +kernel)) ?_
      | refine nm_r (pt_is 400 (by decide +kernel)) ?_
      | refine nm_r (pt_is 5 (by decide +kernel)) ?_
      | refine nm_r (pt_w0 (by decide +kernel) (by first | exact pt_is 0 (by decide +kernel) | exact pt_is 1 (by decide +kernel) | exact pt_is 2 (by decide +kernel) | exact pt_is 3 (by decide +kernel) | exact pt_is 4 (by decide +kernel) | exact pt_is (-1) (by decide +kernel) | exact pt_is 20 (by decide +kernel) | exact pt_is 400 (by decide +kernel) | exact pt_is 5 (by decide +kernel))) ?_
      | refine nm_r (pt_w1 (by decide +kernel) (by first | exact pt_is 0 (by decide +kernel) | exact pt_is 1 (by decide +kernel) | exact pt_is 2 (by decide +kernel) | exact pt_is 3 (by decide +kernel) | exact pt_is 4 (by decide +kernel) | exact pt_is (-1) (by decide +kernel) | exact pt_is 20 (by decide +kernel) | exact pt_is 400 (by decide +kernel) | exact pt_is 5 (by decide +kernel))) ?_
      | refine nm_r (pt_w2 (by decide +kernel) (by first | exact pt_is 0 (by decide +kernel) | exact pt_is 1 (by decide +kernel) | exact pt_is 2 (by decide +kernel) | exact pt_is 3 (by decide +kernel) | exact pt_is 4 (by decide +kernel) | exact pt_is (-1) (by decide +kernel) | exact pt_is 20 (by decide +kernel) | exact pt_is 400 (by decide +kernel) | exact pt_is 5 (by decide +kernel))) ?_
      | refine nm_r (pt_w3 (by decide +kernel) (by first | exact pt_is 0 (by decide +kernel) | exact pt_is 1 (by decide +kernel) | exact pt_is 2 (by decide +kernel) | exact pt_is 3 (by decide +kernel) | exact pt_is 4 (by decide +kernel) | exact pt_is (-1) (by decide +kernel) | exact pt_is 20 (by decide +kernel) | exact pt_is 400 (by decide +kernel) | exact pt_is 5 (by decide +kernel))) ?_
      | refine Exists.intro 30 ?_)
  exact hp
theorem pt_n3 {post : Int32 → St2 → Prop} {f0_pendingCount f0_tokenCount f0_compiled f0_isWhole f0_variableSet f0_codeEnd : Int32} {a5 a6 a7 a8 a9 a10 a11 a12 a13 a14 a15 : Nat → Int32} {a16 : Nat → Int64} (hp : post 3 (4, f0_pendingCount, f0_tokenCount, f0_compiled, f0_isWhole, f0_variableSet, f0_codeEnd, (pt_v 0 0 20 20), (pt_v 3 5 0 1), (pt_v 0 0 0 0), (pt_v 0 1 2 3), a5, a6, a7, a8, a9, a10, a11, a12, a13, a14, a15, a16)) : wpX_one post (3, f0_pendingCount, f0_tokenCount, f0_compiled, f0_isWhole, f0_variableSet, f0_codeEnd, (pt_v 0 0 20 0), (pt_v 3 5 0 0), (pt_v 0 0 0 0), (pt_v 0 1 2 0), a5, a6, a7, a8, a9, a10, a11, a12, a13, a14, a15, a16) 1 := by
  repeat (first
      | refine br_t (by decide +kernel) ?_
      | refine br_f (by decide +kernel) ?_
      | refine And.intro (vp_in_iff.mpr (by decide +kernel)) ?_
      | refine nm_r (pt_is 0 (by decide +kernel)) ?_
      | refine nm_r (pt_is 1 (by decide +kernel)) ?_
      | refine nm_r (pt_is 2 (by decide +kernel)) ?_
      | refine nm_r (pt_is 3 (by decide +kernel)) ?_
      | refine nm_r (pt_is 4 (by decide +kernel)) ?_
      | refine nm_r (pt_is (-1) (by decide +kernel)) ?_
      | refine nm_r (pt_is 20 (by decide +kernel)) ?_
      | refine nm_r (pt_is 400 (by decide +kernel)) ?_
      | refine nm_r (pt_is 5 (by decide +kernel)) ?_
      | refine nm_r (pt_w0 (by decide +kernel) (by first | exact pt_is 0 (by decide +kernel) | exact pt_is 1 (by decide +kernel) | exact pt_is 2 (by decide +kernel) | exact pt_is 3 (by decide +kernel) | exact pt_is 4 (by decide +kernel) | exact pt_is (-1) (by decide +kernel) | exact pt_is 20 (by decide +kernel) | exact pt_is 400 (by decide +kernel) | exact pt_is 5 (by decide +kernel))) ?_
      | refine nm_r (pt_w1 (by decide +kernel) (by first | exact pt_is 0 (by decide +kernel) | exact pt_is 1 (by decide +kernel) | exact pt_is 2 (by decide +kernel) | exact pt_is 3 (by decide +kernel) | exact pt_is 4 (by decide +kernel) | exact pt_is (-1) (by decide +kernel) | exact pt_is 20 (by decide +kernel) | exact pt_is 400 (by decide +kernel) | exact pt_is 5 (by decide +kernel))) ?_
      | refine nm_r (pt_w2 (by decide +kernel) (by first | exact pt_is 0 (by decide +kernel) | exact pt_is 1 (by decide +kernel) | exact pt_is 2 (by decide +kernel) | exact pt_is 3 (by decide +kernel) | exact pt_is 4 (by decide +kernel) | exact pt_is (-1) (by decide +kernel) | exact pt_is 20 (by decide +kernel) | exact pt_is 400 (by decide +kernel) | exact pt_is 5 (by decide +kernel))) ?_
      | refine nm_r (pt_w3 (by decide +kernel) (by first | exact pt_is 0 (by decide +kernel) | exact pt_is 1 (by decide +kernel) | exact pt_is 2 (by decide +kernel) | exact pt_is 3 (by decide +kernel) | exact pt_is 4 (by decide +kernel) | exact pt_is (-1) (by decide +kernel) | exact pt_is 20 (by decide +kernel) | exact pt_is 400 (by decide +kernel) | exact pt_is 5 (by decide +kernel))) ?_
      | refine Exists.intro 30 ?_)
  exact hp
end
section
theorem pt_e00 {post : Int32 → St2 → Prop} {f0_pendingCount f0_tokenCount f0_compiled f0_isWhole f0_variableSet f0_codeEnd : Int32} {a7 a8 a9 a10 a11 a12 a13 a14 a15 : Nat → Int32} {a16 : Nat → Int64} (hp : ∀ (q : Int32) (r s : Nat → Int32), post 4 (4, q, f0_tokenCount, f0_compiled, f0_isWhole, f0_variableSet, f0_codeEnd, (pt_v 0 0 20 20), (pt_v 3 5 0 1), (pt_v 0 0 0 0), (pt_v 0 1 2 3), r, s, a7, a8, a9, a10, a11, a12, a13, a14, a15, a16)) : wpX_equate post (4, f0_pendingCount, f0_tokenCount, f0_compiled, f0_isWhole, f0_variableSet, f0_codeEnd, (pt_v 0 0 20 20), (pt_v 3 5 0 1), (pt_v 0 0 0 0), (pt_v 0 1 2 3), (pt_v 0 0 0 0), (pt_v 0 0 0 0), a7, a8, a9, a10, a11, a12, a13, a14, a15, a16) 0 0 := by
  repeat (first
      | refine br_t (by decide +kernel) ?_
      | refine br_f (by decide +kernel) ?_
      | refine And.intro (vp_in_iff.mpr (by decide +kernel)) ?_
      | refine nm_r (pt_is 0 (by decide +kernel)) ?_
      | refine nm_r (pt_is 1 (by decide +kernel)) ?_
      | refine nm_r (pt_is 2 (by decide +kernel)) ?_
      | refine nm_r (pt_is 3 (by decide +kernel)) ?_
      | refine nm_r (pt_is 4 (by decide +kernel)) ?_
      | refine nm_r (pt_is (-1) (by decide +kernel)) ?_
      | refine nm_r (pt_is 20 (by decide +kernel)) ?_
      | refine nm_r (pt_is 400 (by decide +kernel)) ?_
      | refine nm_r (pt_is 5 (by decide +kernel)) ?_
      | refine nm_r (pt_w0 (by decide +kernel) (by first | exact pt_is 0 (by decide +kernel) | exact pt_is 1 (by decide +kernel) | exact pt_is 2 (by decide +kernel) | exact pt_is 3 (by decide +kernel) | exact pt_is 4 (by decide +kernel) | exact pt_is (-1) (by decide +kernel) | exact pt_is 20 (by decide +kernel) | exact pt_is 400 (by decide +kernel) | exact pt_is 5 (by decide +kernel))) ?_
      | refine nm_r (pt_w1 (by decide +kernel) (by first | exact pt_is 0 (by decide +kernel) | exact pt_is 1 (by decide +kernel) | exact pt_is 2 (by decide +kernel) | exact pt_is 3 (by decide +kernel) | exact pt_is 4 (by decide +kernel) | exact pt_is (-1) (by decide +kernel) | exact pt_is 20 (by decide +kernel) | exact pt_is 400 (by decide +kernel) | exact pt_is 5 (by decide +kernel))) ?_
      | refine nm_r (pt_w2 (by decide +kernel) (by first | exact pt_is 0 (by decide +kernel) | exact pt_is 1 (by decide +kernel) | exact pt_is 2 (by decide +kernel) | exact pt_is 3 (by decide +kernel) | exact pt_is 4 (by decide +kernel) | exact pt_is (-1) (by decide +kernel) | exact pt_is 20 (by decide +kernel) | exact pt_is 400 (by decide +kernel) | exact pt_is 5 (by decide +kernel))) ?_
      | refine nm_r (pt_w3 (by decide +kernel) (by first | exact pt_is 0 (by decide +kernel) | exact pt_is 1 (by decide +kernel) | exact pt_is 2 (by decide +kernel) | exact pt_is 3 (by decide +kernel) | exact pt_is 4 (by decide +kernel) | exact pt_is (-1) (by decide +kernel) | exact pt_is 20 (by decide +kernel) | exact pt_is 400 (by decide +kernel) | exact pt_is 5 (by decide +kernel))) ?_
      | refine Exists.intro 30 ?_)
  exact hp _ _ _
theorem pt_e01 {post : Int32 → St2 → Prop} {f0_pendingCount f0_tokenCount f0_compiled f0_isWhole f0_variableSet f0_codeEnd : Int32} {a7 a8 a9 a10 a11 a12 a13 a14 a15 : Nat → Int32} {a16 : Nat → Int64} (hp : ∀ (q : Int32) (r s : Nat → Int32), post 2 (4, q, f0_tokenCount, f0_compiled, f0_isWhole, f0_variableSet, f0_codeEnd, (pt_v 0 0 20 20), (pt_v 3 5 0 1), (pt_v 0 0 0 0), (pt_v 0 0 2 2), r, s, a7, a8, a9, a10, a11, a12, a13, a14, a15, a16)) : wpX_equate post (4, f0_pendingCount, f0_tokenCount, f0_compiled, f0_isWhole, f0_variableSet, f0_codeEnd, (pt_v 0 0 20 20), (pt_v 3 5 0 1), (pt_v 0 0 0 0), (pt_v 0 1 2 3), (pt_v 0 0 0 0), (pt_v 0 0 0 0), a7, a8, a9, a10, a11, a12, a13, a14, a15, a16) 0 1 := by
  repeat (first
      | refine br_t (by decide +kernel) ?_
      | refine br_f (by decide +kernel) ?_
      | refine And.intro (vp_in_iff.mpr (by decide +kernel)) ?_
      | refine nm_r (pt_is 0 (by decide +kernel)) ?_
      | refine nm_r (pt_is 1 (by decide +kernel)) ?_
      | refine nm_r (pt_is 2 (by decide +kernel)) ?_
      | refine nm_r (pt_is 3 (by decide +kernel)) ?_
      | refine nm_r (pt_is 4 (by decide +kernel)) ?_
      | refine nm_r (pt_is (-1) (by decide +kernel)) ?_
      | refine nm_r (pt_is 20 (by decide +kernel)) ?_
      | refine nm_r (pt_is 400 (by decide +kernel)) ?_
      | refine nm_r (pt_is 5 (by decide +kernel)) ?_
      | refine nm_r (pt_w0 (by decide +kernel) (by first | exact pt_is 0 (by decide +kernel) | exact pt_is 1 (by decide +kernel) | exact pt_is 2 (by decide +kernel) | exact pt_is 3 (by decide +kernel) | exact pt_is 4 (by decide +kernel) | exact pt_is (-1) (by decide +kernel) | exact pt_is 20 (by decide +kernel) | exact pt_is 400 (by decide +kernel) | exact pt_is 5 (by decide +kernel))) ?_
      | refine nm_r (pt_w1 (by decide +kernel) (by first | exact pt_is 0 (by decide +kernel) | exact pt_is 1 (by decide +kernel) | exact pt_is 2 (by decide +kernel) | exact pt_is 3 (by decide +kernel) | exact pt_is 4 (by decide +kernel) | exact pt_is (-1) (by decide +kernel) | exact pt_is 20 (by decide +kernel) | exact pt_is 400 (by decide +kernel) | exact pt_is 5 (by decide +kernel))) ?_
      | refine nm_r (pt_w2 (by decide +kernel) (by first | exact pt_is 0 (by decide +kernel) | exact pt_is 1 (by decide +kernel) | exact pt_is 2 (by decide +kernel) | exact pt_is 3 (by decide +kernel) | exact pt_is 4 (by decide +kernel) | exact pt_is (-1) (by decide +kernel) | exact pt_is 20 (by decide +kernel) | exact pt_is 400 (by decide +kernel) | exact pt_is 5 (by decide +kernel))) ?_
      | refine nm_r (pt_w3 (by decide +kernel) (by first | exact pt_is 0 (by decide +kernel) | exact pt_is 1 (by decide +kernel) | exact pt_is 2 (by decide +kernel) | exact pt_is 3 (by decide +kernel) | exact pt_is 4 (by decide +kernel) | exact pt_is (-1) (by decide +kernel) | exact pt_is 20 (by decide +kernel) | exact pt_is 400 (by decide +kernel) | exact pt_is 5 (by decide +kernel))) ?_
      | refine Exists.intro 30 ?_)
  exact hp _ _ _
theorem pt_e02 {post : Int32 → St2 → Prop} {f0_pendingCount f0_tokenCount f0_compiled f0_isWhole f0_variableSet f0_codeEnd : Int32} {a7 a8 a9 a10 a11 a12 a13 a14 a15 : Nat → Int32} {a16 : Nat → Int64} (hp : ∀ (q : Int32) (r s : Nat → Int32), post 3 (4, q, f0_tokenCount, f0_compiled, f0_isWhole, f0_variableSet, f0_codeEnd, (pt_v 0 0 20 20), (pt_v 3 5 0 1), (pt_v 0 0 0 0), (pt_v 0 1 0 3), r, s, a7, a8, a9, a10, a11, a12, a13, a14, a15, a16)) : wpX_equate post (4, f0_pendingCount, f0_tokenCount, f0_compiled, f0_isWhole, f0_variableSet, f0_codeEnd, (pt_v 0 0 20 20), (pt_v 3 5 0 1), (pt_v 0 0 0 0), (pt_v 0 1 2 3), (pt_v 0 0 0 0), (pt_v 0 0 0 0), a7, a8, a9, a10, a11, a12, a13, a14, a15, a16) 0 2 := by
  repeat (first
      | refine br_t (by decide +kernel) ?_
      | refine br_f (by decide +kernel) ?_
      | refine And.intro (vp_in_iff.mpr (by decide +kernel)) ?_
      | refine nm_r (pt_is 0 (by decide +kernel)) ?_
      | refine nm_r (pt_is 1 (by decide +kernel)) ?_
      | refine nm_r (pt_is 2 (by decide +kernel)) ?_
      | refine nm_r (pt_is 3 (by decide +kernel)) ?_
      | refine nm_r (pt_is 4 (by decide +kernel)) ?_
      | refine nm_r (pt_is (-1) (by decide +kernel)) ?_
      | refine nm_r (pt_is 20 (by decide +kernel)) ?_
      | refine nm_r (pt_is 400 (by decide +kernel)) ?_
      | refine nm_r (pt_is 5 (by decide +kernel)) ?_
      | refine nm_r (pt_w0 (by decide +kernel) (by first | exact pt_is 0 (by decide +kernel) | exact pt_is 1 (by decide +kernel) | exact pt_is 2 (by decide +kernel) | exact pt_is 3 (by decide +kernel) | exact pt_is 4 (by decide +kernel) | exact pt_is (-1) (by decide +kernel) | exact pt_is 20 (by decide +kernel) | exact pt_is 400 (by decide +kernel) | exact pt_is 5 (by decide +kernel))) ?_
      | refine nm_r (pt_w1 (by decide +kernel) (by first | exact pt_is 0 (by decide +kernel) | exact pt_is 1 (by decide +kernel) | exact pt_is 2 (by decide +kernel) | exact pt_is 3 (by decide +kernel) | exact pt_is 4 (by decide +kernel) | exact pt_is (-1) (by decide +kernel) | exact pt_is 20 (by decide +kernel) | exact pt_is 400 (by decide +kernel) | exact pt_is 5 (by decide +kernel))) ?_
      | refine nm_r (pt_w2 (by decide +kernel) (by first | exact pt_is 0 (by decide +kernel) | exact pt_is 1 (by decide +kernel) | exact pt_is 2 (by decide +kernel) | exact pt_is 3 (by decide +kernel) | exact pt_is 4 (by decide +kernel) | exact pt_is (-1) (by decide +kernel) | exact pt_is 20 (by decide +kernel) | exact pt_is 400 (by decide +kernel) | exact pt_is 5 (by decide +kernel))) ?_
      | refine nm_r (pt_w3 (by decide +kernel) (by first | exact pt_is 0 (by decide +kernel) | exact pt_is 1 (by decide +kernel) | exact pt_is 2 (by decide +kernel) | exact pt_is 3 (by decide +kernel) | exact pt_is 4 (by decide +kernel) | exact pt_is (-1) (by decide +kernel) | exact pt_is 20 (by decide +kernel) | exact pt_is 400 (by decide +kernel) | exact pt_is 5 (by decide +kernel))) ?_
      | refine Exists.intro 30 ?_)
  exact hp _ _ _
theorem pt_e03 {post : Int32 → St2 → Prop} {f0_pendingCount f0_tokenCount f0_compiled f0_isWhole f0_variableSet f0_codeEnd : Int32} {a7 a8 a9 a10 a11 a12 a13 a14 a15 : Nat → Int32} {a16 : Nat → Int64} (hp : ∀ (q : Int32) (r s : Nat → Int32), post 3 (4, q, f0_tokenCount, f0_compiled, f0_isWhole, f0_variableSet, f0_codeEnd, (pt_v 0 0 20 20), (pt_v 3 5 0 1), (pt_v 0 0 0 0), (pt_v 0 1 2 0), r, s, a7, a8, a9, a10, a11, a12, a13, a14, a15, a16)) : wpX_equate post (4, f0_pendingCount, f0_tokenCount, f0_compiled, f0_isWhole, f0_variableSet, f0_codeEnd, (pt_v 0 0 20 20), (pt_v 3 5 0 1), (pt_v 0 0 0 0), (pt_v 0 1 2 3), (pt_v 0 0 0 0), (pt_v 0 0 0 0), a7, a8, a9, a10, a11, a12, a13, a14, a15, a16) 0 3 := by
  repeat (first
      | refine br_t (by decide +kernel) ?_
      | refine br_f (by decide +kernel) ?_
      | refine And.intro (vp_in_iff.mpr (by decide +kernel)) ?_
      | refine nm_r (pt_is 0 (by decide +kernel)) ?_
      | refine nm_r (pt_is 1 (by decide +kernel)) ?_
      | refine nm_r (pt_is 2 (by decide +kernel)) ?_
      | refine nm_r (pt_is 3 (by decide +kernel)) ?_
      | refine nm_r (pt_is 4 (by decide +kernel)) ?_
      | refine nm_r (pt_is (-1) (by decide +kernel)) ?_
      | refine nm_r (pt_is 20 (by decide +kernel)) ?_
      | refine nm_r (pt_is 400 (by decide +kernel)) ?_
      | refine nm_r (pt_is 5 (by decide +kernel)) ?_
      | refine nm_r (pt_w0 (by decide +kernel) (by first | exact pt_is 0 (by decide +kernel) | exact pt_is 1 (by decide +kernel) | exact pt_is 2 (by decide +kernel) | exact pt_is 3 (by decide +kernel) | exact pt_is 4 (by decide +kernel) | exact pt_is (-1) (by decide +kernel) | exact pt_is 20 (by decide +kernel) | exact pt_is 400 (by decide +kernel) | exact pt_is 5 (by decide +kernel))) ?_
      | refine nm_r (pt_w1 (by decide +kernel) (by first | exact pt_is 0 (by decide +kernel) | exact pt_is 1 (by decide +kernel) | exact pt_is 2 (by decide +kernel) | exact pt_is 3 (by decide +kernel) | exact pt_is 4 (by decide +kernel) | exact pt_is (-1) (by decide +kernel) | exact pt_is 20 (by decide +kernel) | exact pt_is 400 (by decide +kernel) | exact pt_is 5 (by decide +kernel))) ?_
      | refine nm_r (pt_w2 (by decide +kernel) (by first | exact pt_is 0 (by decide +kernel) | exact pt_is 1 (by decide +kernel) | exact pt_is 2 (by decide +kernel) | exact pt_is 3 (by decide +kernel) | exact pt_is 4 (by decide +kernel) | exact pt_is (-1) (by decide +kernel) | exact pt_is 20 (by decide +kernel) | exact pt_is 400 (by decide +kernel) | exact pt_is 5 (by decide +kernel))) ?_
      | refine nm_r (pt_w3 (by decide +kernel) (by first | exact pt_is 0 (by decide +kernel) | exact pt_is 1 (by decide +kernel) | exact pt_is 2 (by decide +kernel) | exact pt_is 3 (by decide +kernel) | exact pt_is 4 (by decide +kernel) | exact pt_is (-1) (by decide +kernel) | exact pt_is 20 (by decide +kernel) | exact pt_is 400 (by decide +kernel) | exact pt_is 5 (by decide +kernel))) ?_
      | refine Exists.intro 30 ?_)
  exact hp _ _ _
theorem pt_e10 {post : Int32 → St2 → Prop} {f0_pendingCount f0_tokenCount f0_compiled f0_isWhole f0_variableSet f0_codeEnd : Int32} {a7 a8 a9 a10 a11 a12 a13 a14 a15 : Nat → Int32} {a16 : Nat → Int64} (hp : ∀ (q : Int32) (r s : Nat → Int32), post 2 (4, q, f0_tokenCount, f0_compiled, f0_isWhole, f0_variableSet, f0_codeEnd, (pt_v 0 0 20 20), (pt_v 3 5 0 1), (pt_v 0 0 0 0), (pt_v 0 0 2 2), r, s, a7, a8, a9, a10, a11, a12, a13, a14, a15, a16)) : wpX_equate post (4, f0_pendingCount, f0_tokenCount, f0_compiled, f0_isWhole, f0_variableSet, f0_codeEnd, (pt_v 0 0 20 20), (pt_v 3 5 0 1), (pt_v 0 0 0 0), (pt_v 0 1 2 3), (pt_v 0 0 0 0), (pt_v 0 0 0 0), a7, a8, a9, a10, a11, a12, a13, a14, a15, a16) 1 0 := by
  repeat (first
      | refine br_t (by decide +kernel) ?_
      | refine br_f (by decide +kernel) ?_
      | refine And.intro (vp_in_iff.mpr (by decide +kernel)) ?_
      | refine nm_r (pt_is 0 (by decide +kernel)) ?_
      | refine nm_r (pt_is 1 (by decide +kernel)) ?_
      | refine nm_r (pt_is 2 (by decide +kernel)) ?_
      | refine nm_r (pt_is 3 (by decide +kernel)) ?_
      | refine nm_r (pt_is 4 (by decide +kernel)) ?_
      | refine nm_r (pt_is (-1) (by decide +kernel)) ?_
      | refine nm_r (pt_is 20 (by decide +kernel)) ?_
      | refine nm_r (pt_is 400 (by decide +kernel)) ?_
      | refine nm_r (pt_is 5 (by decide +kernel)) ?_
      | refine nm_r (pt_w0 (by decide +kernel) (by first | exact pt_is 0 (by decide +kernel) | exact pt_is 1 (by decide +kernel) | exact pt_is 2 (by decide +kernel) | exact pt_is 3 (by decide +kernel) | exact pt_is 4 (by decide +kernel) | exact pt_is (-1) (by decide +kernel) | exact pt_is 20 (by decide +kernel) | exact pt_is 400 (by decide +kernel) | exact pt_is 5 (by decide +kernel))) ?_
      | refine nm_r (pt_w1 (by decide +kernel) (by first | exact pt_is 0 (by decide +kernel) | exact pt_is 1 (by decide +kernel) | exact pt_is 2 (by decide +kernel) | exact pt_is 3 (by decide +kernel) | exact pt_is 4 (by decide +kernel) | exact pt_is (-1) (by decide +kernel) | exact pt_is 20 (by decide +kernel) | exact pt_is 400 (by decide +kernel) | exact pt_is 5 (by decide +kernel))) ?_
      | refine nm_r (pt_w2 (by decide +kernel) (by first | exact pt_is 0 (by decide +kernel) | exact pt_is 1 (by decide +kernel) | exact pt_is 2 (by decide +kernel) | exact pt_is 3 (by decide +kernel) | exact pt_is 4 (by decide +kernel) | exact pt_is (-1) (by decide +kernel) | exact pt_is 20 (by decide +kernel) | exact pt_is 400 (by decide +kernel) | exact pt_is 5 (by decide +kernel))) ?_
      | refine nm_r (pt_w3 (by decide +kernel) (by first | exact pt_is 0 (by decide +kernel) | exact pt_is 1 (by decide +kernel) | exact pt_is 2 (by decide +kernel) | exact pt_is 3 (by decide +kernel) | exact pt_is 4 (by decide +kernel) | exact pt_is (-1) (by decide +kernel) | exact pt_is 20 (by decide +kernel) | exact pt_is 400 (by decide +kernel) | exact pt_is 5 (by decide +kernel))) ?_
      | refine Exists.intro 30 ?_)
  exact hp _ _ _
theorem pt_e11 {post : Int32 → St2 → Prop} {f0_pendingCount f0_tokenCount f0_compiled f0_isWhole f0_variableSet f0_codeEnd : Int32} {a7 a8 a9 a10 a11 a12 a13 a14 a15 : Nat → Int32} {a16 : Nat → Int64} (hp : ∀ (q : Int32) (r s : Nat → Int32), post 4 (4, q, f0_tokenCount, f0_compiled, f0_isWhole, f0_variableSet, f0_codeEnd, (pt_v 0 0 20 20), (pt_v 3 5 0 1), (pt_v 0 0 0 0), (pt_v 0 1 2 3), r, s, a7, a8, a9, a10, a11, a12, a13, a14, a15, a16)) : wpX_equate post (4, f0_pendingCount, f0_tokenCount, f0_compiled, f0_isWhole, f0_variableSet, f0_codeEnd, (pt_v 0 0 20 20), (pt_v 3 5 0 1), (pt_v 0 0 0 0), (pt_v 0 1 2 3), (pt_v 0 0 0 0), (pt_v 0 0 0 0), a7, a8, a9, a10, a11, a12, a13, a14, a15, a16) 1 1 := by
  repeat (first
      | refine br_t (by decide +kernel) ?_
      | refine br_f (by decide +kernel) ?_
      | refine And.intro (vp_in_iff.mpr (by decide +kernel)) ?_
      | refine nm_r (pt_is 0 (by decide +kernel)) ?_
      | refine nm_r (pt_is 1 (by decide +kernel)) ?_
      | refine nm_r (pt_is 2 (by decide +kernel)) ?_
      | refine nm_r (pt_is 3 (by decide +kernel)) ?_
      | refine nm_r (pt_is 4 (by decide +kernel)) ?_
      | refine nm_r (pt_is (-1) (by decide +kernel)) ?_
      | refine nm_r (pt_is 20 (by decide +kernel)) ?_
      | refine nm_r (pt_is 400 (by decide +kernel)) ?_
      | refine nm_r (pt_is 5 (by decide +kernel)) ?_
      | refine nm_r (pt_w0 (by decide +kernel) (by first | exact pt_is 0 (by decide +kernel) | exact pt_is 1 (by decide +kernel) | exact pt_is 2 (by decide +kernel) | exact pt_is 3 (by decide +kernel) | exact pt_is 4 (by decide +kernel) | exact pt_is (-1) (by decide +kernel) | exact pt_is 20 (by decide +kernel) | exact pt_is 400 (by decide +kernel) | exact pt_is 5 (by decide +kernel))) ?_
      | refine nm_r (pt_w1 (by decide +kernel) (by first | exact pt_is 0 (by decide +kernel) | exact pt_is 1 (by decide +kernel) | exact pt_is 2 (by decide +kernel) | exact pt_is 3 (by decide +kernel) | exact pt_is 4 (by decide +kernel) | exact pt_is (-1) (by decide +kernel) | exact pt_is 20 (by decide +kernel) | exact pt_is 400 (by decide +kernel) | exact pt_is 5 (by decide +kernel))) ?_
      | refine nm_r (pt_w2 (by decide +kernel) (by first | exact pt_is 0 (by decide +kernel) | exact pt_is 1 (by decide +kernel) | exact pt_is 2 (by decide +kernel) | exact pt_is 3 (by decide +kernel) | exact pt_is 4 (by decide +kernel) | exact pt_is (-1) (by decide +kernel) | exact pt_is 20 (by decide +kernel) | exact pt_is 400 (by decide +kernel) | exact pt_is 5 (by decide +kernel))) ?_
      | refine nm_r (pt_w3 (by decide +kernel) (by first | exact pt_is 0 (by decide +kernel) | exact pt_is 1 (by decide +kernel) | exact pt_is 2 (by decide +kernel) | exact pt_is 3 (by decide +kernel) | exact pt_is 4 (by decide +kernel) | exact pt_is (-1) (by decide +kernel) | exact pt_is 20 (by decide +kernel) | exact pt_is 400 (by decide +kernel) | exact pt_is 5 (by decide +kernel))) ?_
      | refine Exists.intro 30 ?_)
  exact hp _ _ _
theorem pt_e12 {post : Int32 → St2 → Prop} {f0_pendingCount f0_tokenCount f0_compiled f0_isWhole f0_variableSet f0_codeEnd : Int32} {a7 a8 a9 a10 a11 a12 a13 a14 a15 : Nat → Int32} {a16 : Nat → Int64} (hp : ∀ (q : Int32) (r s : Nat → Int32), post 3 (4, q, f0_tokenCount, f0_compiled, f0_isWhole, f0_variableSet, f0_codeEnd, (pt_v 0 0 20 20), (pt_v 3 5 0 1), (pt_v 0 0 0 0), (pt_v 0 1 1 3), r, s, a7, a8, a9, a10, a11, a12, a13, a14, a15, a16)) : wpX_equate post (4, f0_pendingCount, f0_tokenCount, f0_compiled, f0_isWhole, f0_variableSet, f0_codeEnd, (pt_v 0 0 20 20), (pt_v 3 5 0 1), (pt_v 0 0 0 0), (pt_v 0 1 2 3), (pt_v 0 0 0 0), (pt_v 0 0 0 0), a7, a8, a9, a10, a11, a12, a13, a14, a15, a16) 1 2 := by
  repeat (first
      | refine br_t (by decide +kernel) ?_
      | refine br_f (by decide +kernel) ?_
      | refine And.intro (vp_in_iff.mpr (by decide +kernel)) ?_
      | refine nm_r (pt_is 0 (by decide +kernel)) ?_
      | refine nm_r (pt_is 1 (by decide +kernel)) ?_
      | refine nm_r (pt_is 2 (by decide +kernel)) ?_
      | refine nm_r (pt_is 3 (by decide +kernel)) ?_
      | refine nm_r (pt_is 4 (by decide +kernel)) ?_
      | refine nm_r (pt_is (-1) (by decide +kernel)) ?_
      | refine nm_r (pt_is 20 (by decide +kernel)) ?_
      | refine nm_r (pt_is 400 (by decide +kernel)) ?_
      | refine nm_r (pt_is 5 (by decide +kernel)) ?_
      | refine nm_r (pt_w0 (by decide +kernel) (by first | exact pt_is 0 (by decide +kernel) | exact pt_is 1 (by decide +kernel) | exact pt_is 2 (by decide +kernel) | exact pt_is 3 (by decide +kernel) | exact pt_is 4 (by decide +kernel) | exact pt_is (-1) (by decide +kernel) | exact pt_is 20 (by decide +kernel) | exact pt_is 400 (by decide +kernel) | exact pt_is 5 (by decide +kernel))) ?_
      | refine nm_r (pt_w1 (by decide +kernel) (by first | exact pt_is 0 (by decide +kernel) | exact pt_is 1 (by decide +kernel) | exact pt_is 2 (by decide +kernel) | exact pt_is 3 (by decide +kernel) | exact pt_is 4 (by decide +kernel) | exact pt_is (-1) (by decide +kernel) | exact pt_is 20 (by decide +kernel) | exact pt_is 400 (by decide +kernel) | exact pt_is 5 (by decide +kernel))) ?_
      | refine nm_r (pt_w2 (by decide +kernel) (by first | exact pt_is 0 (by decide +kernel) | exact pt_is 1 (by decide +kernel) | exact pt_is 2 (by decide +kernel) | exact pt_is 3 (by decide +kernel) | exact pt_is 4 (by decide +kernel) | exact pt_is (-1) (by decide +kernel) | exact pt_is 20 (by decide +kernel) | exact pt_is 400 (by decide +kernel) | exact pt_is 5 (by decide +kernel))) ?_
      | refine nm_r (pt_w3 (by decide +kernel) (by first | exact pt_is 0 (by decide +kernel) | exact pt_is 1 (by decide +kernel) | exact pt_is 2 (by decide +kernel) | exact pt_is 3 (by decide +kernel) | exact pt_is 4 (by decide +kernel) | exact pt_is (-1) (by decide +kernel) | exact pt_is 20 (by decide +kernel) | exact pt_is 400 (by decide +kernel) | exact pt_is 5 (by decide +kernel))) ?_
      | refine Exists.intro 30 ?_)
  exact hp _ _ _
theorem pt_e13 {post : Int32 → St2 → Prop} {f0_pendingCount f0_tokenCount f0_compiled f0_isWhole f0_variableSet f0_codeEnd : Int32} {a7 a8 a9 a10 a11 a12 a13 a14 a15 : Nat → Int32} {a16 : Nat → Int64} (hp : ∀ (q : Int32) (r s : Nat → Int32), post 3 (4, q, f0_tokenCount, f0_compiled, f0_isWhole, f0_variableSet, f0_codeEnd, (pt_v 0 0 20 20), (pt_v 3 5 0 1), (pt_v 0 0 0 0), (pt_v 0 1 2 1), r, s, a7, a8, a9, a10, a11, a12, a13, a14, a15, a16)) : wpX_equate post (4, f0_pendingCount, f0_tokenCount, f0_compiled, f0_isWhole, f0_variableSet, f0_codeEnd, (pt_v 0 0 20 20), (pt_v 3 5 0 1), (pt_v 0 0 0 0), (pt_v 0 1 2 3), (pt_v 0 0 0 0), (pt_v 0 0 0 0), a7, a8, a9, a10, a11, a12, a13, a14, a15, a16) 1 3 := by
  repeat (first
      | refine br_t (by decide +kernel) ?_
      | refine br_f (by decide +kernel) ?_
      | refine And.intro (vp_in_iff.mpr (by decide +kernel)) ?_
      | refine nm_r (pt_is 0 (by decide +kernel)) ?_
      | refine nm_r (pt_is 1 (by decide +kernel)) ?_
      | refine nm_r (pt_is 2 (by decide +kernel)) ?_
      | refine nm_r (pt_is 3 (by decide +kernel)) ?_
      | refine nm_r (pt_is 4 (by decide +kernel)) ?_
      | refine nm_r (pt_is (-1) (by decide +kernel)) ?_
      | refine nm_r (pt_is 20 (by decide +kernel)) ?_
      | refine nm_r (pt_is 400 (by decide +kernel)) ?_
      | refine nm_r (pt_is 5 (by decide +kernel)) ?_
      | refine nm_r (pt_w0 (by decide +kernel) (by first | exact pt_is 0 (by decide +kernel) | exact pt_is 1 (by decide +kernel) | exact pt_is 2 (by decide +kernel) | exact pt_is 3 (by decide +kernel) | exact pt_is 4 (by decide +kernel) | exact pt_is (-1) (by decide +kernel) | exact pt_is 20 (by decide +kernel) | exact pt_is 400 (by decide +kernel) | exact pt_is 5 (by decide +kernel))) ?_
      | refine nm_r (pt_w1 (by decide +kernel) (by first | exact pt_is 0 (by decide +kernel) | exact pt_is 1 (by decide +kernel) | exact pt_is 2 (by decide +kernel) | exact pt_is 3 (by decide +kernel) | exact pt_is 4 (by decide +kernel) | exact pt_is (-1) (by decide +kernel) | exact pt_is 20 (by decide +kernel) | exact pt_is 400 (by decide +kernel) | exact pt_is 5 (by decide +kernel))) ?_
      | refine nm_r (pt_w2 (by decide +kernel) (by first | exact pt_is 0 (by decide +kernel) | exact pt_is 1 (by decide +kernel) | exact pt_is 2 (by decide +kernel) | exact pt_is 3 (by decide +kernel) | exact pt_is 4 (by decide +kernel) | exact pt_is (-1) (by decide +kernel) | exact pt_is 20 (by decide +kernel) | exact pt_is 400 (by decide +kernel) | exact pt_is 5 (by decide +kernel))) ?_
      | refine nm_r (pt_w3 (by decide +kernel) (by first | exact pt_is 0 (by decide +kernel) | exact pt_is 1 (by decide +kernel) | exact pt_is 2 (by decide +kernel) | exact pt_is 3 (by decide +kernel) | exact pt_is 4 (by decide +kernel) | exact pt_is (-1) (by decide +kernel) | exact pt_is 20 (by decide +kernel) | exact pt_is 400 (by decide +kernel) | exact pt_is 5 (by decide +kernel))) ?_
      | refine Exists.intro 30 ?_)
  exact hp _ _ _
theorem pt_e20 {post : Int32 → St2 → Prop} {f0_pendingCount f0_tokenCount f0_compiled f0_isWhole f0_variableSet f0_codeEnd : Int32} {a7 a8 a9 a10 a11 a12 a13 a14 a15 : Nat → Int32} {a16 : Nat → Int64} (hp : ∀ (q : Int32) (r s : Nat → Int32), post 3 (4, q, f0_tokenCount, f0_compiled, f0_isWhole, f0_variableSet, f0_codeEnd, (pt_v 0 0 20 20), (pt_v 3 5 0 1), (pt_v 0 0 0 0), (pt_v 0 1 0 3), r, s, a7, a8, a9, a10, a11, a12, a13, a14, a15, a16)) : wpX_equate post (4, f0_pendingCount, f0_tokenCount, f0_compiled, f0_isWhole, f0_variableSet, f0_codeEnd, (pt_v 0 0 20 20), (pt_v 3 5 0 1), (pt_v 0 0 0 0), (pt_v 0 1 2 3), (pt_v 0 0 0 0), (pt_v 0 0 0 0), a7, a8, a9, a10, a11, a12, a13, a14, a15, a16) 2 0 := by
  repeat (first
      | refine br_t (by decide +kernel) ?_
      | refine br_f (by decide +kernel) ?_
      | refine And.intro (vp_in_iff.mpr (by decide +kernel)) ?_
      | refine nm_r (pt_is 0 (by decide +kernel)) ?_
      | refine nm_r (pt_is 1 (by decide +kernel)) ?_
      | refine nm_r (pt_is 2 (by decide +kernel)) ?_
      | refine nm_r (pt_is 3 (by decide +kernel)) ?_
      | refine nm_r (pt_is 4 (by decide +kernel)) ?_
      | refine nm_r (pt_is (-1) (by decide +kernel)) ?_
      | refine nm_r (pt_is 20 (by decide +kernel)) ?_
      | refine nm_r (pt_is 400 (by decide +kernel)) ?_
      | refine nm_r (pt_is 5 (by decide +kernel)) ?_
      | refine nm_r (pt_w0 (by decide +kernel) (by first | exact pt_is 0 (by decide +kernel) | exact pt_is 1 (by decide +kernel) | exact pt_is 2 (by decide +kernel) | exact pt_is 3 (by decide +kernel) | exact pt_is 4 (by decide +kernel) | exact pt_is (-1) (by decide +kernel) | exact pt_is 20 (by decide +kernel) | exact pt_is 400 (by decide +kernel) | exact pt_is 5 (by decide +kernel))) ?_
      | refine nm_r (pt_w1 (by decide +kernel) (by first | exact pt_is 0 (by decide +kernel) | exact pt_is 1 (by decide +kernel) | exact pt_is 2 (by decide +kernel) | exact pt_is 3 (by decide +kernel) | exact pt_is 4 (by decide +kernel) | exact pt_is (-1) (by decide +kernel) | exact pt_is 20 (by decide +kernel) | exact pt_is 400 (by decide +kernel) | exact pt_is 5 (by decide +kernel))) ?_
      | refine nm_r (pt_w2 (by decide +kernel) (by first | exact pt_is 0 (by decide +kernel) | exact pt_is 1 (by decide +kernel) | exact pt_is 2 (by decide +kernel) | exact pt_is 3 (by decide +kernel) | exact pt_is 4 (by decide +kernel) | exact pt_is (-1) (by decide +kernel) | exact pt_is 20 (by decide +kernel) | exact pt_is 400 (by decide +kernel) | exact pt_is 5 (by decide +kernel))) ?_
      | refine nm_r (pt_w3 (by decide +kernel) (by first | exact pt_is 0 (by decide +kernel) | exact pt_is 1 (by decide +kernel) | exact pt_is 2 (by decide +kernel) | exact pt_is 3 (by decide +kernel) | exact pt_is 4 (by decide +kernel) | exact pt_is (-1) (by decide +kernel) | exact pt_is 20 (by decide +kernel) | exact pt_is 400 (by decide +kernel) | exact pt_is 5 (by decide +kernel))) ?_
      | refine Exists.intro 30 ?_)
  exact hp _ _ _
theorem pt_e21 {post : Int32 → St2 → Prop} {f0_pendingCount f0_tokenCount f0_compiled f0_isWhole f0_variableSet f0_codeEnd : Int32} {a7 a8 a9 a10 a11 a12 a13 a14 a15 : Nat → Int32} {a16 : Nat → Int64} (hp : ∀ (q : Int32) (r s : Nat → Int32), post 3 (4, q, f0_tokenCount, f0_compiled, f0_isWhole, f0_variableSet, f0_codeEnd, (pt_v 0 0 20 20), (pt_v 3 5 0 1), (pt_v 0 0 0 0), (pt_v 0 1 1 3), r, s, a7, a8, a9, a10, a11, a12, a13, a14, a15, a16)) : wpX_equate post (4, f0_pendingCount, f0_tokenCount, f0_compiled, f0_isWhole, f0_variableSet, f0_codeEnd, (pt_v 0 0 20 20), (pt_v 3 5 0 1), (pt_v 0 0 0 0), (pt_v 0 1 2 3), (pt_v 0 0 0 0), (pt_v 0 0 0 0), a7, a8, a9, a10, a11, a12, a13, a14, a15, a16) 2 1 := by
  repeat (first
      | refine br_t (by decide +kernel) ?_
      | refine br_f (by decide +kernel) ?_
      | refine And.intro (vp_in_iff.mpr (by decide +kernel)) ?_
      | refine nm_r (pt_is 0 (by decide +kernel)) ?_
      | refine nm_r (pt_is 1 (by decide +kernel)) ?_
      | refine nm_r (pt_is 2 (by decide +kernel)) ?_
      | refine nm_r (pt_is 3 (by decide +kernel)) ?_
      | refine nm_r (pt_is 4 (by decide +kernel)) ?_
      | refine nm_r (pt_is (-1) (by decide +kernel)) ?_
      | refine nm_r (pt_is 20 (by decide +kernel)) ?_
      | refine nm_r (pt_is 400 (by decide +kernel)) ?_
      | refine nm_r (pt_is 5 (by decide +kernel)) ?_
      | refine nm_r (pt_w0 (by decide +kernel) (by first | exact pt_is 0 (by decide +kernel) | exact pt_is 1 (by decide +kernel) | exact pt_is 2 (by decide +kernel) | exact pt_is 3 (by decide +kernel) | exact pt_is 4 (by decide +kernel) | exact pt_is (-1) (by decide +kernel) | exact pt_is 20 (by decide +kernel) | exact pt_is 400 (by decide +kernel) | exact pt_is 5 (by decide +kernel))) ?_
      | refine nm_r (pt_w1 (by decide +kernel) (by first | exact pt_is 0 (by decide +kernel) | exact pt_is 1 (by decide +kernel) | exact pt_is 2 (by decide +kernel) | exact pt_is 3 (by decide +kernel) | exact pt_is 4 (by decide +kernel) | exact pt_is (-1) (by decide +kernel) | exact pt_is 20 (by decide +kernel) | exact pt_is 400 (by decide +kernel) | exact pt_is 5 (by decide +kernel))) ?_
      | refine nm_r (pt_w2 (by decide +kernel) (by first | exact pt_is 0 (by decide +kernel) | exact pt_is 1 (by decide +kernel) | exact pt_is 2 (by decide +kernel) | exact pt_is 3 (by decide +kernel) | exact pt_is 4 (by decide +kernel) | exact pt_is (-1) (by decide +kernel) | exact pt_is 20 (by decide +kernel) | exact pt_is 400 (by decide +kernel) | exact pt_is 5 (by decide +kernel))) ?_
      | refine nm_r (pt_w3 (by decide +kernel) (by first | exact pt_is 0 (by decide +kernel) | exact pt_is 1 (by decide +kernel) | exact pt_is 2 (by decide +kernel) | exact pt_is 3 (by decide +kernel) | exact pt_is 4 (by decide +kernel) | exact pt_is (-1) (by decide +kernel) | exact pt_is 20 (by decide +kernel) | exact pt_is 400 (by decide +kernel) | exact pt_is 5 (by decide +kernel))) ?_
      | refine Exists.intro 30 ?_)
  exact hp _ _ _
theorem pt_e22 {post : Int32 → St2 → Prop} {f0_pendingCount f0_tokenCount f0_compiled f0_isWhole f0_variableSet f0_codeEnd : Int32} {a7 a8 a9 a10 a11 a12 a13 a14 a15 : Nat → Int32} {a16 : Nat → Int64} (hp : ∀ (q : Int32) (r s : Nat → Int32), post 4 (4, q, f0_tokenCount, f0_compiled, f0_isWhole, f0_variableSet, f0_codeEnd, (pt_v 0 0 20 20), (pt_v 3 5 0 1), (pt_v 0 0 0 0), (pt_v 0 1 2 3), r, s, a7, a8, a9, a10, a11, a12, a13, a14, a15, a16)) : wpX_equate post (4, f0_pendingCount, f0_tokenCount, f0_compiled, f0_isWhole, f0_variableSet, f0_codeEnd, (pt_v 0 0 20 20), (pt_v 3 5 0 1), (pt_v 0 0 0 0), (pt_v 0 1 2 3), (pt_v 0 0 0 0), (pt_v 0 0 0 0), a7, a8, a9, a10, a11, a12, a13, a14, a15, a16) 2 2 := by
  repeat (first
      | refine br_t (by decide +kernel) ?_
      | refine br_f (by decide +kernel) ?_
      | refine And.intro (vp_in_iff.mpr (by decide +kernel)) ?_
      | refine nm_r (pt_is 0 (by decide +kernel)) ?_
      | refine nm_r (pt_is 1 (by decide +kernel)) ?_
      | refine nm_r (pt_is 2 (by decide +kernel)) ?_
      | refine nm_r (pt_is 3 (by decide +kernel)) ?_
      | refine nm_r (pt_is 4 (by decide +kernel)) ?_
      | refine nm_r (pt_is (-1) (by decide +kernel)) ?_
      | refine nm_r (pt_is 20 (by decide +kernel)) ?_
      | refine nm_r (pt_is 400 (by decide +kernel)) ?_
      | refine nm_r (pt_is 5 (by decide +kernel)) ?_
      | refine nm_r (pt_w0 (by decide +kernel) (by first | exact pt_is 0 (by decide +kernel) | exact pt_is 1 (by decide +kernel) | exact pt_is 2 (by decide +kernel) | exact pt_is 3 (by decide +kernel) | exact pt_is 4 (by decide +kernel) | exact pt_is (-1) (by decide +kernel) | exact pt_is 20 (by decide +kernel) | exact pt_is 400 (by decide +kernel) | exact pt_is 5 (by decide +kernel))) ?_
      | refine nm_r (pt_w1 (by decide +kernel) (by first | exact pt_is 0 (by decide +kernel) | exact pt_is 1 (by decide +kernel) | exact pt_is 2 (by decide +kernel) | exact pt_is 3 (by decide +kernel) | exact pt_is 4 (by decide +kernel) | exact pt_is (-1) (by decide +kernel) | exact pt_is 20 (by decide +kernel) | exact pt_is 400 (by decide +kernel) | exact pt_is 5 (by decide +kernel))) ?_
      | refine nm_r (pt_w2 (by decide +kernel) (by first | exact pt_is 0 (by decide +kernel) | exact pt_is 1 (by decide +kernel) | exact pt_is 2 (by decide +kernel) | exact pt_is 3 (by decide +kernel) | exact pt_is 4 (by decide +kernel) | exact pt_is (-1) (by decide +kernel) | exact pt_is 20 (by decide +kernel) | exact pt_is 400 (by decide +kernel) | exact pt_is 5 (by decide +kernel))) ?_
      | refine nm_r (pt_w3 (by decide +kernel) (by first | exact pt_is 0 (by decide +kernel) | exact pt_is 1 (by decide +kernel) | exact pt_is 2 (by decide +kernel) | exact pt_is 3 (by decide +kernel) | exact pt_is 4 (by decide +kernel) | exact pt_is (-1) (by decide +kernel) | exact pt_is 20 (by decide +kernel) | exact pt_is 400 (by decide +kernel) | exact pt_is 5 (by decide +kernel))) ?_
      | refine Exists.intro 30 ?_)
  exact hp _ _ _
theorem pt_e23 {post : Int32 → St2 → Prop} {f0_pendingCount f0_tokenCount f0_compiled f0_isWhole f0_variableSet f0_codeEnd : Int32} {a7 a8 a9 a10 a11 a12 a13 a14 a15 : Nat → Int32} {a16 : Nat → Int64} (hp : ∀ (q : Int32) (r s : Nat → Int32), post 3 (4, q, f0_tokenCount, f0_compiled, f0_isWhole, f0_variableSet, f0_codeEnd, (pt_v 0 0 20 20), (pt_v 3 5 0 1), (pt_v 0 0 0 0), (pt_v 0 1 2 2), r, s, a7, a8, a9, a10, a11, a12, a13, a14, a15, a16)) : wpX_equate post (4, f0_pendingCount, f0_tokenCount, f0_compiled, f0_isWhole, f0_variableSet, f0_codeEnd, (pt_v 0 0 20 20), (pt_v 3 5 0 1), (pt_v 0 0 0 0), (pt_v 0 1 2 3), (pt_v 0 0 0 0), (pt_v 0 0 0 0), a7, a8, a9, a10, a11, a12, a13, a14, a15, a16) 2 3 := by
  repeat (first
      | refine br_t (by decide +kernel) ?_
      | refine br_f (by decide +kernel) ?_
      | refine And.intro (vp_in_iff.mpr (by decide +kernel)) ?_
      | refine nm_r (pt_is 0 (by decide +kernel)) ?_
      | refine nm_r (pt_is 1 (by decide +kernel)) ?_
      | refine nm_r (pt_is 2 (by decide +kernel)) ?_
      | refine nm_r (pt_is 3 (by decide +kernel)) ?_
      | refine nm_r (pt_is 4 (by decide +kernel)) ?_
      | refine nm_r (pt_is (-1) (by decide +kernel)) ?_
      | refine nm_r (pt_is 20 (by decide +kernel)) ?_
      | refine nm_r (pt_is 400 (by decide +kernel)) ?_
      | refine nm_r (pt_is 5 (by decide +kernel)) ?_
      | refine nm_r (pt_w0 (by decide +kernel) (by first | exact pt_is 0 (by decide +kernel) | exact pt_is 1 (by decide +kernel) | exact pt_is 2 (by decide +kernel) | exact pt_is 3 (by decide +kernel) | exact pt_is 4 (by decide +kernel) | exact pt_is (-1) (by decide +kernel) | exact pt_is 20 (by decide +kernel) | exact pt_is 400 (by decide +kernel) | exact pt_is 5 (by decide +kernel))) ?_
      | refine nm_r (pt_w1 (by decide +kernel) (by first | exact pt_is 0 (by decide +kernel) | exact pt_is 1 (by decide +kernel) | exact pt_is 2 (by decide +kernel) | exact pt_is 3 (by decide +kernel) | exact pt_is 4 (by decide +kernel) | exact pt_is (-1) (by decide +kernel) | exact pt_is 20 (by decide +kernel) | exact pt_is 400 (by decide +kernel) | exact pt_is 5 (by decide +kernel))) ?_
      | refine nm_r (pt_w2 (by decide +kernel) (by first | exact pt_is 0 (by decide +kernel) | exact pt_is 1 (by decide +kernel) | exact pt_is 2 (by decide +kernel) | exact pt_is 3 (by decide +kernel) | exact pt_is 4 (by decide +kernel) | exact pt_is (-1) (by decide +kernel) | exact pt_is 20 (by decide +kernel) | exact pt_is 400 (by decide +kernel) | exact pt_is 5 (by decide +kernel))) ?_
      | refine nm_r (pt_w3 (by decide +kernel) (by first | exact pt_is 0 (by decide +kernel) | exact pt_is 1 (by decide +kernel) | exact pt_is 2 (by decide +kernel) | exact pt_is 3 (by decide +kernel) | exact pt_is 4 (by decide +kernel) | exact pt_is (-1) (by decide +kernel) | exact pt_is 20 (by decide +kernel) | exact pt_is 400 (by decide +kernel) | exact pt_is 5 (by decide +kernel))) ?_
      | refine Exists.intro 30 ?_)
  exact hp _ _ _
theorem pt_e30 {post : Int32 → St2 → Prop} {f0_pendingCount f0_tokenCount f0_compiled f0_isWhole f0_variableSet f0_codeEnd : Int32} {a7 a8 a9 a10 a11 a12 a13 a14 a15 : Nat → Int32} {a16 : Nat → Int64} (hp : ∀ (q : Int32) (r s : Nat → Int32), post 3 (4, q, f0_tokenCount, f0_compiled, f0_isWhole, f0_variableSet, f0_codeEnd, (pt_v 0 0 20 20), (pt_v 3 5 0 1), (pt_v 0 0 0 0), (pt_v 0 1 2 0), r, s, a7, a8, a9, a10, a11, a12, a13, a14, a15, a16)) : wpX_equate post (4, f0_pendingCount, f0_tokenCount, f0_compiled, f0_isWhole, f0_variableSet, f0_codeEnd, (pt_v 0 0 20 20), (pt_v 3 5 0 1), (pt_v 0 0 0 0), (pt_v 0 1 2 3), (pt_v 0 0 0 0), (pt_v 0 0 0 0), a7, a8, a9, a10, a11, a12, a13, a14, a15, a16) 3 0 := by
  repeat (first
      | refine br_t (by decide +kernel) ?_
      | refine br_f (by decide +kernel) ?_
      | refine And.intro (vp_in_iff.mpr (by decide +kernel)) ?_
      | refine nm_r (pt_is 0 (by decide +kernel)) ?_
      | refine nm_r (pt_is 1 (by decide +kernel)) ?_
      | refine nm_r (pt_is 2 (by decide +kernel)) ?_
      | refine nm_r (pt_is 3 (by decide +kernel)) ?_
      | refine nm_r (pt_is 4 (by decide +kernel)) ?_
      | refine nm_r (pt_is (-1) (by decide +kernel)) ?_
      | refine nm_r (pt_is 20 (by decide +kernel)) ?_
      | refine nm_r (pt_is 400 (by decide +kernel)) ?_
      | refine nm_r (pt_is 5 (by decide +kernel)) ?_
      | refine nm_r (pt_w0 (by decide +kernel) (by first | exact pt_is 0 (by decide +kernel) | exact pt_is 1 (by decide +kernel) | exact pt_is 2 (by decide +kernel) | exact pt_is 3 (by decide +kernel) | exact pt_is 4 (by decide +kernel) | exact pt_is (-1) (by decide +kernel) | exact pt_is 20 (by decide +kernel) | exact pt_is 400 (by decide +kernel) | exact pt_is 5 (by decide +kernel))) ?_
      | refine nm_r (pt_w1 (by decide +kernel) (by first | exact pt_is 0 (by decide +kernel) | exact pt_is 1 (by decide +kernel) | exact pt_is 2 (by decide +kernel) | exact pt_is 3 (by decide +kernel) | exact pt_is 4 (by decide +kernel) | exact pt_is (-1) (by decide +kernel) | exact pt_is 20 (by decide +kernel) | exact pt_is 400 (by decide +kernel) | exact pt_is 5 (by decide +kernel))) ?_
      | refine nm_r (pt_w2 (by decide +kernel) (by first | exact pt_is 0 (by decide +kernel) | exact pt_is 1 (by decide +kernel) | exact pt_is 2 (by decide +kernel) | exact pt_is 3 (by decide +kernel) | exact pt_is 4 (by decide +kernel) | exact pt_is (-1) (by decide +kernel) | exact pt_is 20 (by decide +kernel) | exact pt_is 400 (by decide +kernel) | exact pt_is 5 (by decide +kernel))) ?_
      | refine nm_r (pt_w3 (by decide +kernel) (by first | exact pt_is 0 (by decide +kernel) | exact pt_is 1 (by decide +kernel) | exact pt_is 2 (by decide +kernel) | exact pt_is 3 (by decide +kernel) | exact pt_is 4 (by decide +kernel) | exact pt_is (-1) (by decide +kernel) | exact pt_is 20 (by decide +kernel) | exact pt_is 400 (by decide +kernel) | exact pt_is 5 (by decide +kernel))) ?_
      | refine Exists.intro 30 ?_)
  exact hp _ _ _
theorem pt_e31 {post : Int32 → St2 → Prop} {f0_pendingCount f0_tokenCount f0_compiled f0_isWhole f0_variableSet f0_codeEnd : Int32} {a7 a8 a9 a10 a11 a12 a13 a14 a15 : Nat → Int32} {a16 : Nat → Int64} (hp : ∀ (q : Int32) (r s : Nat → Int32), post 3 (4, q, f0_tokenCount, f0_compiled, f0_isWhole, f0_variableSet, f0_codeEnd, (pt_v 0 0 20 20), (pt_v 3 5 0 1), (pt_v 0 0 0 0), (pt_v 0 1 2 1), r, s, a7, a8, a9, a10, a11, a12, a13, a14, a15, a16)) : wpX_equate post (4, f0_pendingCount, f0_tokenCount, f0_compiled, f0_isWhole, f0_variableSet, f0_codeEnd, (pt_v 0 0 20 20), (pt_v 3 5 0 1), (pt_v 0 0 0 0), (pt_v 0 1 2 3), (pt_v 0 0 0 0), (pt_v 0 0 0 0), a7, a8, a9, a10, a11, a12, a13, a14, a15, a16) 3 1 := by
  repeat (first
      | refine br_t (by decide +kernel) ?_
      | refine br_f (by decide +kernel) ?_
      | refine And.intro (vp_in_iff.mpr (by decide +kernel)) ?_
      | refine nm_r (pt_is 0 (by decide +kernel)) ?_
      | refine nm_r (pt_is 1 (by decide +kernel)) ?_
      | refine nm_r (pt_is 2 (by decide +kernel)) ?_
      | refine nm_r (pt_is 3 (by decide +kernel)) ?_
      | refine nm_r (pt_is 4 (by decide +kernel)) ?_
      | refine nm_r (pt_is (-1) (by decide +kernel)) ?_
      | refine nm_r (pt_is 20 (by decide +kernel)) ?_
      | refine nm_r (pt_is 400 (by decide +kernel)) ?_
      | refine nm_r (pt_is 5 (by decide +kernel)) ?_
      | refine nm_r (pt_w0 (by decide +kernel) (by first | exact pt_is 0 (by decide +kernel) | exact pt_is 1 (by decide +kernel) | exact pt_is 2 (by decide +kernel) | exact pt_is 3 (by decide +kernel) | exact pt_is 4 (by decide +kernel) | exact pt_is (-1) (by decide +kernel) | exact pt_is 20 (by decide +kernel) | exact pt_is 400 (by decide +kernel) | exact pt_is 5 (by decide +kernel))) ?_
      | refine nm_r (pt_w1 (by decide +kernel) (by first | exact pt_is 0 (by decide +kernel) | exact pt_is 1 (by decide +kernel) | exact pt_is 2 (by decide +kernel) | exact pt_is 3 (by decide +kernel) | exact pt_is 4 (by decide +kernel) | exact pt_is (-1) (by decide +kernel) | exact pt_is 20 (by decide +kernel) | exact pt_is 400 (by decide +kernel) | exact pt_is 5 (by decide +kernel))) ?_
      | refine nm_r (pt_w2 (by decide +kernel) (by first | exact pt_is 0 (by decide +kernel) | exact pt_is 1 (by decide +kernel) | exact pt_is 2 (by decide +kernel) | exact pt_is 3 (by decide +kernel) | exact pt_is 4 (by decide +kernel) | exact pt_is (-1) (by decide +kernel) | exact pt_is 20 (by decide +kernel) | exact pt_is 400 (by decide +kernel) | exact pt_is 5 (by decide +kernel))) ?_
      | refine nm_r (pt_w3 (by decide +kernel) (by first | exact pt_is 0 (by decide +kernel) | exact pt_is 1 (by decide +kernel) | exact pt_is 2 (by decide +kernel) | exact pt_is 3 (by decide +kernel) | exact pt_is 4 (by decide +kernel) | exact pt_is (-1) (by decide +kernel) | exact pt_is 20 (by decide +kernel) | exact pt_is 400 (by decide +kernel) | exact pt_is 5 (by decide +kernel))) ?_
      | refine Exists.intro 30 ?_)
  exact hp _ _ _
theorem pt_e32 {post : Int32 → St2 → Prop} {f0_pendingCount f0_tokenCount f0_compiled f0_isWhole f0_variableSet f0_codeEnd : Int32} {a7 a8 a9 a10 a11 a12 a13 a14 a15 : Nat → Int32} {a16 : Nat → Int64} (hp : ∀ (q : Int32) (r s : Nat → Int32), post 3 (4, q, f0_tokenCount, f0_compiled, f0_isWhole, f0_variableSet, f0_codeEnd, (pt_v 0 0 20 20), (pt_v 3 5 0 1), (pt_v 0 0 0 0), (pt_v 0 1 2 2), r, s, a7, a8, a9, a10, a11, a12, a13, a14, a15, a16)) : wpX_equate post (4, f0_pendingCount, f0_tokenCount, f0_compiled, f0_isWhole, f0_variableSet, f0_codeEnd, (pt_v 0 0 20 20), (pt_v 3 5 0 1), (pt_v 0 0 0 0), (pt_v 0 1 2 3), (pt_v 0 0 0 0), (pt_v 0 0 0 0), a7, a8, a9, a10, a11, a12, a13, a14, a15, a16) 3 2 := by
  repeat (first
      | refine br_t (by decide +kernel) ?_
      | refine br_f (by decide +kernel) ?_
      | refine And.intro (vp_in_iff.mpr (by decide +kernel)) ?_
      | refine nm_r (pt_is 0 (by decide +kernel)) ?_
      | refine nm_r (pt_is 1 (by decide +kernel)) ?_
      | refine nm_r (pt_is 2 (by decide +kernel)) ?_
      | refine nm_r (pt_is 3 (by decide +kernel)) ?_
      | refine nm_r (pt_is 4 (by decide +kernel)) ?_
      | refine nm_r (pt_is (-1) (by decide +kernel)) ?_
      | refine nm_r (pt_is 20 (by decide +kernel)) ?_
      | refine nm_r (pt_is 400 (by decide +kernel)) ?_
      | refine nm_r (pt_is 5 (by decide +kernel)) ?_
      | refine nm_r (pt_w0 (by decide +kernel) (by first | exact pt_is 0 (by decide +kernel) | exact pt_is 1 (by decide +kernel) | exact pt_is 2 (by decide +kernel) | exact pt_is 3 (by decide +kernel) | exact pt_is 4 (by decide +kernel) | exact pt_is (-1) (by decide +kernel) | exact pt_is 20 (by decide +kernel) | exact pt_is 400 (by decide +kernel) | exact pt_is 5 (by decide +kernel))) ?_
      | refine nm_r (pt_w1 (by decide +kernel) (by first | exact pt_is 0 (by decide +kernel) | exact pt_is 1 (by decide +kernel) | exact pt_is 2 (by decide +kernel) | exact pt_is 3 (by decide +kernel) | exact pt_is 4 (by decide +kernel) | exact pt_is (-1) (by decide +kernel) | exact pt_is 20 (by decide +kernel) | exact pt_is 400 (by decide +kernel) | exact pt_is 5 (by decide +kernel))) ?_
      | refine nm_r (pt_w2 (by decide +kernel) (by first | exact pt_is 0 (by decide +kernel) | exact pt_is 1 (by decide +kernel) | exact pt_is 2 (by decide +kernel) | exact pt_is 3 (by decide +kernel) | exact pt_is 4 (by decide +kernel) | exact pt_is (-1) (by decide +kernel) | exact pt_is 20 (by decide +kernel) | exact pt_is 400 (by decide +kernel) | exact pt_is 5 (by decide +kernel))) ?_
      | refine nm_r (pt_w3 (by decide +kernel) (by first | exact pt_is 0 (by decide +kernel) | exact pt_is 1 (by decide +kernel) | exact pt_is 2 (by decide +kernel) | exact pt_is 3 (by decide +kernel) | exact pt_is 4 (by decide +kernel) | exact pt_is (-1) (by decide +kernel) | exact pt_is 20 (by decide +kernel) | exact pt_is 400 (by decide +kernel) | exact pt_is 5 (by decide +kernel))) ?_
      | refine Exists.intro 30 ?_)
  exact hp _ _ _
theorem pt_e33 {post : Int32 → St2 → Prop} {f0_pendingCount f0_tokenCount f0_compiled f0_isWhole f0_variableSet f0_codeEnd : Int32} {a7 a8 a9 a10 a11 a12 a13 a14 a15 : Nat → Int32} {a16 : Nat → Int64} (hp : ∀ (q : Int32) (r s : Nat → Int32), post 4 (4, q, f0_tokenCount, f0_compiled, f0_isWhole, f0_variableSet, f0_codeEnd, (pt_v 0 0 20 20), (pt_v 3 5 0 1), (pt_v 0 0 0 0), (pt_v 0 1 2 3), r, s, a7, a8, a9, a10, a11, a12, a13, a14, a15, a16)) : wpX_equate post (4, f0_pendingCount, f0_tokenCount, f0_compiled, f0_isWhole, f0_variableSet, f0_codeEnd, (pt_v 0 0 20 20), (pt_v 3 5 0 1), (pt_v 0 0 0 0), (pt_v 0 1 2 3), (pt_v 0 0 0 0), (pt_v 0 0 0 0), a7, a8, a9, a10, a11, a12, a13, a14, a15, a16) 3 3 := by
  repeat (first
      | refine br_t (by decide +kernel) ?_
      | refine br_f (by decide +kernel) ?_
      | refine And.intro (vp_in_iff.mpr (by decide +kernel)) ?_
      | refine nm_r (pt_is 0 (by decide +kernel)) ?_
      | refine nm_r (pt_is 1 (by decide +kernel)) ?_
      | refine nm_r (pt_is 2 (by decide +kernel)) ?_
      | refine nm_r (pt_is 3 (by decide +kernel)) ?_
      | refine nm_r (pt_is 4 (by decide +kernel)) ?_
      | refine nm_r (pt_is (-1) (by decide +kernel)) ?_
      | refine nm_r (pt_is 20 (by decide +kernel)) ?_
      | refine nm_r (pt_is 400 (by decide +kernel)) ?_
      | refine nm_r (pt_is 5 (by decide +kernel)) ?_
      | refine nm_r (pt_w0 (by decide +kernel) (by first | exact pt_is 0 (by decide +kernel) | exact pt_is 1 (by decide +kernel) | exact pt_is 2 (by decide +kernel) | exact pt_is 3 (by decide +kernel) | exact pt_is 4 (by decide +kernel) | exact pt_is (-1) (by decide +kernel) | exact pt_is 20 (by decide +kernel) | exact pt_is 400 (by decide +kernel) | exact pt_is 5 (by decide +kernel))) ?_
      | refine nm_r (pt_w1 (by decide +kernel) (by first | exact pt_is 0 (by decide +kernel) | exact pt_is 1 (by decide +kernel) | exact pt_is 2 (by decide +kernel) | exact pt_is 3 (by decide +kernel) | exact pt_is 4 (by decide +kernel) | exact pt_is (-1) (by decide +kernel) | exact pt_is 20 (by decide +kernel) | exact pt_is 400 (by decide +kernel) | exact pt_is 5 (by decide +kernel))) ?_
      | refine nm_r (pt_w2 (by decide +kernel) (by first | exact pt_is 0 (by decide +kernel) | exact pt_is 1 (by decide +kernel) | exact pt_is 2 (by decide +kernel) | exact pt_is 3 (by decide +kernel) | exact pt_is 4 (by decide +kernel) | exact pt_is (-1) (by decide +kernel) | exact pt_is 20 (by decide +kernel) | exact pt_is 400 (by decide +kernel) | exact pt_is 5 (by decide +kernel))) ?_
      | refine nm_r (pt_w3 (by decide +kernel) (by first | exact pt_is 0 (by decide +kernel) | exact pt_is 1 (by decide +kernel) | exact pt_is 2 (by decide +kernel) | exact pt_is 3 (by decide +kernel) | exact pt_is 4 (by decide +kernel) | exact pt_is (-1) (by decide +kernel) | exact pt_is 20 (by decide +kernel) | exact pt_is 400 (by decide +kernel) | exact pt_is 5 (by decide +kernel))) ?_
      | refine Exists.intro 30 ?_)
  exact hp _ _ _
end
section
theorem pt_t0 {post : Int32 → St2 → Prop} {f0_nodeCount f0_pendingCount f0_compiled f0_isWhole f0_variableSet f0_codeEnd : Int32} {a1 a2 a3 a4 a5 a6 a8 a9 a10 a11 a12 a13 a14 a15 : Nat → Int32} {a16 : Nat → Int64} (hp : post 1 (f0_nodeCount, f0_pendingCount, 1, 0, f0_isWhole, f0_variableSet, f0_codeEnd, a1, a2, a3, a4, a5, a6, (pt_v 20 0 0 0), a8, a9, a10, a11, a12, a13, a14, a15, a16)) : wpX_token post (f0_nodeCount, f0_pendingCount, 0, f0_compiled, f0_isWhole, f0_variableSet, f0_codeEnd, a1, a2, a3, a4, a5, a6, (pt_v 0 0 0 0), a8, a9, a10, a11, a12, a13, a14, a15, a16) 20 := by
  repeat (first
      | refine br_t (by decide +kernel) ?_
      | refine br_f (by decide +kernel) ?_
      | refine And.intro (vp_in_iff.mpr (by decide +kernel)) ?_
      | refine nm_r (pt_is 0 (by decide +kernel)) ?_
      | refine nm_r (pt_is 1 (by decide +kernel)) ?_
      | refine nm_r (pt_is 2 (by decide +kernel)) ?_
      | refine nm_r (pt_is 3 (by decide +kernel)) ?_
      | refine nm_r (pt_is 4 (by decide +kernel)) ?_
      | refine nm_r (pt_is (-1) (by decide +kernel)) ?_
      | refine nm_r (pt_is 20 (by decide +kernel)) ?_
      | refine nm_r (pt_is 400 (by decide +kernel)) ?_
      | refine nm_r (pt_is 5 (by decide +kernel)) ?_
      | refine nm_r (pt_w0 (by decide +kernel) (by first | exact pt_is 0 (by decide +kernel) | exact pt_is 1 (by decide +kernel) | exact pt_is 2 (by decide +kernel) | exact pt_is 3 (by decide +kernel) | exact pt_is 4 (by decide +kernel) | exact pt_is (-1) (by decide +kernel) | exact pt_is 20 (by decide +kernel) | exact pt_is 400 (by decide +kernel) | exact pt_is 5 (by decide +kernel))) ?_
      | refine nm_r (pt_w1 (by decide +kernel) (by first | exact pt_is 0 (by decide +kernel) | exact pt_is 1 (by decide +kernel) | exact pt_is 2 (by decide +kernel) | exact pt_is 3 (by decide +kernel) | exact pt_is 4 (by decide +kernel) | exact pt_is (-1) (by decide +kernel) | exact pt_is 20 (by decide +kernel) | exact pt_is 400 (by decide +kernel) | exact pt_is 5 (by decide +kernel))) ?_
      | refine nm_r (pt_w2 (by decide +kernel) (by first | exact pt_is 0 (by decide +kernel) | exact pt_is 1 (by decide +kernel) | exact pt_is 2 (by decide +kernel) | exact pt_is 3 (by decide +kernel) | exact pt_is 4 (by decide +kernel) | exact pt_is (-1) (by decide +kernel) | exact pt_is 20 (by decide +kernel) | exact pt_is 400 (by decide +kernel) | exact pt_is 5 (by decide +kernel))) ?_
      | refine nm_r (pt_w3 (by decide +kernel) (by first | exact pt_is 0 (by decide +kernel) | exact pt_is 1 (by decide +kernel) | exact pt_is 2 (by decide +kernel) | exact pt_is 3 (by decide +kernel) | exact pt_is 4 (by decide +kernel) | exact pt_is (-1) (by decide +kernel) | exact pt_is 20 (by decide +kernel) | exact pt_is 400 (by decide +kernel) | exact pt_is 5 (by decide +kernel))) ?_
      | refine Exists.intro 30 ?_)
  exact hp
theorem pt_t1 {post : Int32 → St2 → Prop} {f0_nodeCount f0_pendingCount f0_compiled f0_isWhole f0_variableSet f0_codeEnd : Int32} {a1 a2 a3 a4 a5 a6 a8 a9 a10 a11 a12 a13 a14 a15 : Nat → Int32} {a16 : Nat → Int64} (hp : post 2 (f0_nodeCount, f0_pendingCount, 2, 0, f0_isWhole, f0_variableSet, f0_codeEnd, a1, a2, a3, a4, a5, a6, (pt_v 20 0 0 0), a8, a9, a10, a11, a12, a13, a14, a15, a16)) : wpX_token post (f0_nodeCount, f0_pendingCount, 1, f0_compiled, f0_isWhole, f0_variableSet, f0_codeEnd, a1, a2, a3, a4, a5, a6, (pt_v 20 0 0 0), a8, a9, a10, a11, a12, a13, a14, a15, a16) 0 := by
  repeat (first
      | refine br_t (by decide +kernel) ?_
      | refine br_f (by decide +kernel) ?_
      | refine And.intro (vp_in_iff.mpr (by decide +kernel)) ?_
      | refine nm_r (pt_is 0 (by decide +kernel)) ?_
      | refine nm_r (pt_is 1 (by decide +kernel)) ?_
      | refine nm_r (pt_is 2 (by decide +kernel)) ?_
      | refine nm_r (pt_is 3 (by decide +kernel)) ?_
      | refine nm_r (pt_is 4 (by decide +kernel)) ?_
      | refine nm_r (pt_is (-1) (by decide +kernel)) ?_
      | refine nm_r (pt_is 20 (by decide +kernel)) ?_
      | refine nm_r (pt_is 400 (by decide +kernel)) ?_
      | refine nm_r (pt_is 5 (by decide +kernel)) ?_
      | refine nm_r (pt_w0 (by decide +kernel) (by first | exact pt_is 0 (by decide +kernel) | exact pt_is 1 (by decide +kernel) | exact pt_is 2 (by decide +kernel) | exact pt_is 3 (by decide +kernel) | exact pt_is 4 (by decide +kernel) | exact pt_is (-1) (by decide +kernel) | exact pt_is 20 (by decide +kernel) | exact pt_is 400 (by decide +kernel) | exact pt_is 5 (by decide +kernel))) ?_
      | refine nm_r (pt_w1 (by decide +kernel) (by first | exact pt_is 0 (by decide +kernel) | exact pt_is 1 (by decide +kernel) | exact pt_is 2 (by decide +kernel) | exact pt_is 3 (by decide +kernel) | exact pt_is 4 (by decide +kernel) | exact pt_is (-1) (by decide +kernel) | exact pt_is 20 (by decide +kernel) | exact pt_is 400 (by decide +kernel) | exact pt_is 5 (by decide +kernel))) ?_
      | refine nm_r (pt_w2 (by decide +kernel) (by first | exact pt_is 0 (by decide +kernel) | exact pt_is 1 (by decide +kernel) | exact pt_is 2 (by decide +kernel) | exact pt_is 3 (by decide +kernel) | exact pt_is 4 (by decide +kernel) | exact pt_is (-1) (by decide +kernel) | exact pt_is 20 (by decide +kernel) | exact pt_is 400 (by decide +kernel) | exact pt_is 5 (by decide +kernel))) ?_
      | refine nm_r (pt_w3 (by decide +kernel) (by first | exact pt_is 0 (by decide +kernel) | exact pt_is 1 (by decide +kernel) | exact pt_is 2 (by decide +kernel) | exact pt_is 3 (by decide +kernel) | exact pt_is 4 (by decide +kernel) | exact pt_is (-1) (by decide +kernel) | exact pt_is 20 (by decide +kernel) | exact pt_is 400 (by decide +kernel) | exact pt_is 5 (by decide +kernel))) ?_
      | refine Exists.intro 30 ?_)
  exact hp
theorem pt_comp {post : St2 → Prop} {f0_nodeCount f0_pendingCount f0_isWhole f0_variableSet f0_codeEnd : Int32} {a1 a2 a3 a4 a5 a6 a13 a14 a15 : Nat → Int32} {a16 : Nat → Int64} (hp : post (f0_nodeCount, f0_pendingCount, 2, 1, 1, 1, 3, a1, a2, a3, a4, a5, a6, (pt_v 20 0 0 0), (pt_v 0 1 4 0), (pt_v 20 0 0 0), (pt_v 0 1 0 0), (pt_v 1 0 0 0), (pt_v 1 0 0 0), a13, a14, a15, a16)) : wpX_compile post (f0_nodeCount, f0_pendingCount, 2, 0, f0_isWhole, f0_variableSet, f0_codeEnd, a1, a2, a3, a4, a5, a6, (pt_v 20 0 0 0), (pt_v 0 0 0 0), (pt_v 0 0 0 0), (pt_v 0 0 0 0), (pt_v 0 0 0 0), (pt_v 0 0 0 0), a13, a14, a15, a16) := by
  repeat (first
      | refine And.intro rfl ?_
      | refine br_t (by decide +kernel) ?_
      | refine br_f (by decide +kernel) ?_
      | refine And.intro (vp_in_iff.mpr (by decide +kernel)) ?_
      | refine nm_r (pt_is 0 (by decide +kernel)) ?_
      | refine nm_r (pt_is 1 (by decide +kernel)) ?_
      | refine nm_r (pt_is 2 (by decide +kernel)) ?_
      | refine nm_r (pt_is 3 (by decide +kernel)) ?_
      | refine nm_r (pt_is 4 (by decide +kernel)) ?_
      | refine nm_r (pt_is (-1) (by decide +kernel)) ?_
      | refine nm_r (pt_is 20 (by decide +kernel)) ?_
      | refine nm_r (pt_is 400 (by decide +kernel)) ?_
      | refine nm_r (pt_is 5 (by decide +kernel)) ?_
      | refine nm_r (pt_w0 (by decide +kernel) (by first | exact pt_is 0 (by decide +kernel) | exact pt_is 1 (by decide +kernel) | exact pt_is 2 (by decide +kernel) | exact pt_is 3 (by decide +kernel) | exact pt_is 4 (by decide +kernel) | exact pt_is (-1) (by decide +kernel) | exact pt_is 20 (by decide +kernel) | exact pt_is 400 (by decide +kernel) | exact pt_is 5 (by decide +kernel))) ?_
      | refine nm_r (pt_w1 (by decide +kernel) (by first | exact pt_is 0 (by decide +kernel) | exact pt_is 1 (by decide +kernel) | exact pt_is 2 (by decide +kernel) | exact pt_is 3 (by decide +kernel) | exact pt_is 4 (by decide +kernel) | exact pt_is (-1) (by decide +kernel) | exact pt_is 20 (by decide +kernel) | exact pt_is 400 (by decide +kernel) | exact pt_is 5 (by decide +kernel))) ?_
      | refine nm_r (pt_w2 (by decide +kernel) (by first | exact pt_is 0 (by decide +kernel) | exact pt_is 1 (by decide +kernel) | exact pt_is 2 (by decide +kernel) | exact pt_is 3 (by decide +kernel) | exact pt_is 4 (by decide +kernel) | exact pt_is (-1) (by decide +kernel) | exact pt_is 20 (by decide +kernel) | exact pt_is 400 (by decide +kernel) | exact pt_is 5 (by decide +kernel))) ?_
      | refine nm_r (pt_w3 (by decide +kernel) (by first | exact pt_is 0 (by decide +kernel) | exact pt_is 1 (by decide +kernel) | exact pt_is 2 (by decide +kernel) | exact pt_is 3 (by decide +kernel) | exact pt_is 4 (by decide +kernel) | exact pt_is (-1) (by decide +kernel) | exact pt_is 20 (by decide +kernel) | exact pt_is 400 (by decide +kernel) | exact pt_is 5 (by decide +kernel))) ?_
      | refine Exists.intro 30 ?_)
  exact hp
theorem pt_comp2 {post : St2 → Prop} {f0_nodeCount f0_pendingCount f0_tokenCount f0_isWhole f0_variableSet f0_codeEnd : Int32} {a1 a2 a3 a4 a5 a6 a7 a8 a9 a10 a11 a12 a13 a14 a15 : Nat → Int32} {a16 : Nat → Int64} (hp : post (f0_nodeCount, f0_pendingCount, f0_tokenCount, 1, f0_isWhole, f0_variableSet, f0_codeEnd, a1, a2, a3, a4, a5, a6, a7, a8, a9, a10, a11, a12, a13, a14, a15, a16)) : wpX_compile post (f0_nodeCount, f0_pendingCount, f0_tokenCount, 1, f0_isWhole, f0_variableSet, f0_codeEnd, a1, a2, a3, a4, a5, a6, a7, a8, a9, a10, a11, a12, a13, a14, a15, a16) := br_f (by decide) hp
theorem pt_note0 {post : St2 → Prop} {f0_nodeCount f0_pendingCount f0_tokenCount f0_compiled f0_isWhole f0_variableSet f0_codeEnd : Int32} {a1 a2 a3 a4 a5 a6 a7 a8 a9 a10 a11 a12 a13 a15 : Nat → Int32} {a16 : Nat → Int64} {b0 b1 : Bool} (hg : ∀ i, i < 125 → a16 i = pt_G b0 b1 i) (hp : ∀ g : Nat → Int64, (∀ i, i < 125 → g i = pt_G true b1 i) → post (f0_nodeCount, f0_pendingCount, f0_tokenCount, f0_compiled, f0_isWhole, f0_variableSet, f0_codeEnd, a1, a2, a3, a4, a5, a6, a7, a8, a9, a10, a11, a12, a13, (pt_v 0 (-1) (-1) 0), a15, g)) : wpX_note post (f0_nodeCount, f0_pendingCount, f0_tokenCount, f0_compiled, f0_isWhole, f0_variableSet, f0_codeEnd, a1, a2, a3, a4, a5, a6, a7, a8, a9, a10, a11, a12, a13, (pt_v 0 (-1) (-1) 0), a15, a16) := by
  repeat (first
      | refine br_t (by decide +kernel) ?_
      | refine br_f (by decide +kernel) ?_
      | refine And.intro (vp_in_iff.mpr (by decide +kernel)) ?_
      | refine nm_r (pt_is 0 (by decide +kernel)) ?_
      | refine nm_r (pt_is 1 (by decide +kernel)) ?_
      | refine nm_r (pt_is 2 (by decide +kernel)) ?_
      | refine nm_r (pt_is 3 (by decide +kernel)) ?_
      | refine nm_r (pt_is 4 (by decide +kernel)) ?_
      | refine nm_r (pt_is (-1) (by decide +kernel)) ?_
      | refine nm_r (pt_is 20 (by decide +kernel)) ?_
      | refine nm_r (pt_is 400 (by decide +kernel)) ?_
      | refine nm_r (pt_is 5 (by decide +kernel)) ?_
      | refine nm_r (pt_w0 (by decide +kernel) (by first | exact pt_is 0 (by decide +kernel) | exact pt_is 1 (by decide +kernel) | exact pt_is 2 (by decide +kernel) | exact pt_is 3 (by decide +kernel) | exact pt_is 4 (by decide +kernel) | exact pt_is (-1) (by decide +kernel) | exact pt_is 20 (by decide +kernel) | exact pt_is 400 (by decide +kernel) | exact pt_is 5 (by decide +kernel))) ?_
      | refine nm_r (pt_w1 (by decide +kernel) (by first | exact pt_is 0 (by decide +kernel) | exact pt_is 1 (by decide +kernel) | exact pt_is 2 (by decide +kernel) | exact pt_is 3 (by decide +kernel) | exact pt_is 4 (by decide +kernel) | exact pt_is (-1) (by decide +kernel) | exact pt_is 20 (by decide +kernel) | exact pt_is 400 (by decide +kernel) | exact pt_is 5 (by decide +kernel))) ?_
      | refine nm_r (pt_w2 (by decide +kernel) (by first | exact pt_is 0 (by decide +kernel) | exact pt_is 1 (by decide +kernel) | exact pt_is 2 (by decide +kernel) | exact pt_is 3 (by decide +kernel) | exact pt_is 4 (by decide +kernel) | exact pt_is (-1) (by decide +kernel) | exact pt_is 20 (by decide +kernel) | exact pt_is 400 (by decide +kernel) | exact pt_is 5 (by decide +kernel))) ?_
      | refine nm_r (pt_w3 (by decide +kernel) (by first | exact pt_is 0 (by decide +kernel) | exact pt_is 1 (by decide +kernel) | exact pt_is 2 (by decide +kernel) | exact pt_is 3 (by decide +kernel) | exact pt_is 4 (by decide +kernel) | exact pt_is (-1) (by decide +kernel) | exact pt_is 20 (by decide +kernel) | exact pt_is 400 (by decide +kernel) | exact pt_is 5 (by decide +kernel))) ?_
      | refine Exists.intro 30 ?_)
  exact fun g e => hp g (by rw [e]; exact pt_put0 hg (by decide +kernel) (by decide +kernel))
theorem pt_note1 {post : St2 → Prop} {f0_nodeCount f0_pendingCount f0_tokenCount f0_compiled f0_isWhole f0_variableSet f0_codeEnd : Int32} {a1 a2 a3 a4 a5 a6 a7 a8 a9 a10 a11 a12 a13 a15 : Nat → Int32} {a16 : Nat → Int64} {b0 b1 : Bool} (hg : ∀ i, i < 125 → a16 i = pt_G b0 b1 i) (hp : ∀ g : Nat → Int64, (∀ i, i < 125 → g i = pt_G b0 true i) → post (f0_nodeCount, f0_pendingCount, f0_tokenCount, f0_compiled, f0_isWhole, f0_variableSet, f0_codeEnd, a1, a2, a3, a4, a5, a6, a7, a8, a9, a10, a11, a12, a13, (pt_v 1 (-1) (-1) 0), a15, g)) : wpX_note post (f0_nodeCount, f0_pendingCount, f0_tokenCount, f0_compiled, f0_isWhole, f0_variableSet, f0_codeEnd, a1, a2, a3, a4, a5, a6, a7, a8, a9, a10, a11, a12, a13, (pt_v 1 (-1) (-1) 0), a15, a16) := by
  repeat (first
      | refine br_t (by decide +kernel) ?_
      | refine br_f (by decide +kernel) ?_
      | refine And.intro (vp_in_iff.mpr (by decide +kernel)) ?_
      | refine nm_r (pt_is 0 (by decide +kernel)) ?_
      | refine nm_r (pt_is 1 (by decide +kernel)) ?_
      | refine nm_r (pt_is 2 (by decide +kernel)) ?_
      | refine nm_r (pt_is 3 (by decide +kernel)) ?_
      | refine nm_r (pt_is 4 (by decide +kernel)) ?_
      | refine nm_r (pt_is (-1) (by decide +kernel)) ?_
      | refine nm_r (pt_is 20 (by decide +kernel)) ?_
      | refine nm_r (pt_is 400 (by decide +kernel)) ?_
      | refine nm_r (pt_is 5 (by decide +kernel)) ?_
      | refine nm_r (pt_w0 (by decide +kernel) (by first | exact pt_is 0 (by decide +kernel) | exact pt_is 1 (by decide +kernel) | exact pt_is 2 (by decide +kernel) | exact pt_is 3 (by decide +kernel) | exact pt_is 4 (by decide +kernel) | exact pt_is (-1) (by decide +kernel) | exact pt_is 20 (by decide +kernel) | exact pt_is 400 (by decide +kernel) | exact pt_is 5 (by decide +kernel))) ?_
      | refine nm_r (pt_w1 (by decide +kernel) (by first | exact pt_is 0 (by decide +kernel) | exact pt_is 1 (by decide +kernel) | exact pt_is 2 (by decide +kernel) | exact pt_is 3 (by decide +kernel) | exact pt_is 4 (by decide +kernel) | exact pt_is (-1) (by decide +kernel) | exact pt_is 20 (by decide +kernel) | exact pt_is 400 (by decide +kernel) | exact pt_is 5 (by decide +kernel))) ?_
      | refine nm_r (pt_w2 (by decide +kernel) (by first | exact pt_is 0 (by decide +kernel) | exact pt_is 1 (by decide +kernel) | exact pt_is 2 (by decide +kernel) | exact pt_is 3 (by decide +kernel) | exact pt_is 4 (by decide +kernel) | exact pt_is (-1) (by decide +kernel) | exact pt_is 20 (by decide +kernel) | exact pt_is 400 (by decide +kernel) | exact pt_is 5 (by decide +kernel))) ?_
      | refine nm_r (pt_w3 (by decide +kernel) (by first | exact pt_is 0 (by decide +kernel) | exact pt_is 1 (by decide +kernel) | exact pt_is 2 (by decide +kernel) | exact pt_is 3 (by decide +kernel) | exact pt_is 4 (by decide +kernel) | exact pt_is (-1) (by decide +kernel) | exact pt_is 20 (by decide +kernel) | exact pt_is 400 (by decide +kernel) | exact pt_is 5 (by decide +kernel))) ?_
      | refine Exists.intro 30 ?_)
  exact fun g e => hp g (by rw [e]; exact pt_put1 hg (by decide +kernel) (by decide +kernel))
end
section
theorem pt_ra0022_0 {post : St2 → Prop} {f0_pendingCount : Int32} {a5 a6 : Nat → Int32} {a16 : Nat → Int64} (hp : ∀ g : Nat → Int64, (∀ i, i < 125 → g i = pt_G true false i) → post (4, f0_pendingCount, 2, 1, 1, 1, 3, (pt_v 0 0 20 20), (pt_v 3 5 0 1), (pt_v 0 0 0 0), (pt_v 0 0 2 2), a5, a6, (pt_v 20 0 0 0), (pt_v 0 1 4 0), (pt_v 20 0 0 0), (pt_v 0 1 0 0), (pt_v 1 0 0 0), (pt_v 1 0 0 0), (pt_v 2 0 0 0), (pt_v (-1) (-1) (-1) 0), (pt_v 3 (-1) (-1) 0), g)) : wpX_runAll post (4, f0_pendingCount, 2, 1, 1, 1, 3, (pt_v 0 0 20 20), (pt_v 3 5 0 1), (pt_v 0 0 0 0), (pt_v 0 0 2 2), a5, a6, (pt_v 20 0 0 0), (pt_v 0 1 4 0), (pt_v 20 0 0 0), (pt_v 0 1 0 0), (pt_v 1 0 0 0), (pt_v 1 0 0 0), (pt_v 0 0 0 0), (pt_v 0 0 0 0), (pt_v 0 0 0 0), a16) := by
  unfold wpX_runAll
  refine pt_clear ?_
  intro g hg
  repeat (first
      | (refine pt_note0 (by assumption) ?_; intro g hg)
      | (refine pt_note1 (by assumption) ?_; intro g hg)
      | refine br_t (by decide +kernel) ?_
      | refine br_f (by decide +kernel) ?_
      | refine And.intro (vp_in_iff.mpr (by decide +kernel)) ?_
      | refine nm_r (pt_is 0 (by decide +kernel)) ?_
      | refine nm_r (pt_is 1 (by decide +kernel)) ?_
      | refine nm_r (pt_is 2 (by decide +kernel)) ?_
      | refine nm_r (pt_is 3 (by decide +kernel)) ?_
      | refine nm_r (pt_is 4 (by decide +kernel)) ?_
      | refine nm_r (pt_is (-1) (by decide +kernel)) ?_
      | refine nm_r (pt_is 20 (by decide +kernel)) ?_
      | refine nm_r (pt_is 400 (by decide +kernel)) ?_
      | refine nm_r (pt_is 5 (by decide +kernel)) ?_
      | refine nm_r (pt_w0 (by decide +kernel) (by first | exact pt_is 0 (by decide +kernel) | exact pt_is 1 (by decide +kernel) | exact pt_is 2 (by decide +kernel) | exact pt_is 3 (by decide +kernel) | exact pt_is 4 (by decide +kernel) | exact pt_is (-1) (by decide +kernel) | exact pt_is 20 (by decide +kernel) | exact pt_is 400 (by decide +kernel) | exact pt_is 5 (by decide +kernel))) ?_
      | refine nm_r (pt_w1 (by decide +kernel) (by first | exact pt_is 0 (by decide +kernel) | exact pt_is 1 (by decide +kernel) | exact pt_is 2 (by decide +kernel) | exact pt_is 3 (by decide +kernel) | exact pt_is 4 (by decide +kernel) | exact pt_is (-1) (by decide +kernel) | exact pt_is 20 (by decide +kernel) | exact pt_is 400 (by decide +kernel) | exact pt_is 5 (by decide +kernel))) ?_
      | refine nm_r (pt_w2 (by decide +kernel) (by first | exact pt_is 0 (by decide +kernel) | exact pt_is 1 (by decide +kernel) | exact pt_is 2 (by decide +kernel) | exact pt_is 3 (by decide +kernel) | exact pt_is 4 (by decide +kernel) | exact pt_is (-1) (by decide +kernel) | exact pt_is 20 (by decide +kernel) | exact pt_is 400 (by decide +kernel) | exact pt_is 5 (by decide +kernel))) ?_
      | refine nm_r (pt_w3 (by decide +kernel) (by first | exact pt_is 0 (by decide +kernel) | exact pt_is 1 (by decide +kernel) | exact pt_is 2 (by decide +kernel) | exact pt_is 3 (by decide +kernel) | exact pt_is 4 (by decide +kernel) | exact pt_is (-1) (by decide +kernel) | exact pt_is 20 (by decide +kernel) | exact pt_is 400 (by decide +kernel) | exact pt_is 5 (by decide +kernel))) ?_
      | refine Exists.intro 30 ?_)
  exact hp _ (by assumption)
theorem pt_ra0022_1 {post : St2 → Prop} {f0_pendingCount : Int32} {a5 a6 : Nat → Int32} {a16 : Nat → Int64} (hp : ∀ g : Nat → Int64, (∀ i, i < 125 → g i = pt_G true false i) → post (4, f0_pendingCount, 2, 1, 1, 1, 3, (pt_v 0 0 20 20), (pt_v 3 5 0 1), (pt_v 0 0 0 0), (pt_v 0 0 2 2), a5, a6, (pt_v 20 0 0 0), (pt_v 0 1 4 0), (pt_v 20 0 0 0), (pt_v 0 1 0 0), (pt_v 1 0 0 0), (pt_v 1 0 0 0), (pt_v 2 0 0 0), (pt_v (-1) (-1) (-1) 0), (pt_v 3 (-1) (-1) 0), g)) : wpX_runAll post (4, f0_pendingCount, 2, 1, 1, 1, 3, (pt_v 0 0 20 20), (pt_v 3 5 0 1), (pt_v 0 0 0 0), (pt_v 0 0 2 2), a5, a6, (pt_v 20 0 0 0), (pt_v 0 1 4 0), (pt_v 20 0 0 0), (pt_v 0 1 0 0), (pt_v 1 0 0 0), (pt_v 1 0 0 0), (pt_v 2 0 0 0), (pt_v (-1) (-1) (-1) 0), (pt_v 3 (-1) (-1) 0), a16) := by
  unfold wpX_runAll
  refine pt_clear ?_
  intro g hg
  repeat (first
      | (refine pt_note0 (by assumption) ?_; intro g hg)
      | (refine pt_note1 (by assumption) ?_; intro g hg)
      | refine br_t (by decide +kernel) ?_
      | refine br_f (by decide +kernel) ?_
      | refine And.intro (vp_in_iff.mpr (by decide +kernel)) ?_
      | refine nm_r (pt_is 0 (by decide +kernel)) ?_
      | refine nm_r (pt_is 1 (by decide +kernel)) ?_
      | refine nm_r (pt_is 2 (by decide +kernel)) ?_
      | refine nm_r (pt_is 3 (by decide +kernel)) ?_
      | refine nm_r (pt_is 4 (by decide +kernel)) ?_
      | refine nm_r (pt_is (-1) (by decide +kernel)) ?_
      | refine nm_r (pt_is 20 (by decide +kernel)) ?_
      | refine nm_r (pt_is 400 (by decide +kernel)) ?_
      | refine nm_r (pt_is 5 (by decide +kernel)) ?_
      | refine nm_r (pt_w0 (by decide +kernel) (by first | exact pt_is 0 (by decide +kernel) | exact pt_is 1 (by decide +kernel) | exact pt_is 2 (by decide +kernel) | exact pt_is 3 (by decide +kernel) | exact pt_is 4 (by decide +kernel) | exact pt_is (-1) (by decide +kernel) | exact pt_is 20 (by decide +kernel) | exact pt_is 400 (by decide +kernel) | exact pt_is 5 (by decide +kernel))) ?_
      | refine nm_r (pt_w1 (by decide +kernel) (by first | exact pt_is 0 (by decide +kernel) | exact pt_is 1 (by decide +kernel) | exact pt_is 2 (by decide +kernel) | exact pt_is 3 (by decide +kernel) | exact pt_is 4 (by decide +kernel) | exact pt_is (-1) (by decide +kernel) | exact pt_is 20 (by decide +kernel) | exact pt_is 400 (by decide +kernel) | exact pt_is 5 (by decide +kernel))) ?_
      | refine nm_r (pt_w2 (by decide +kernel) (by first | exact pt_is 0 (by decide +kernel) | exact pt_is 1 (by decide +kernel) | exact pt_is 2 (by decide +kernel) | exact pt_is 3 (by decide +kernel) | exact pt_is 4 (by decide +kernel) | exact pt_is (-1) (by decide +kernel) | exact pt_is 20 (by decide +kernel) | exact pt_is 400 (by decide +kernel) | exact pt_is 5 (by decide +kernel))) ?_
      | refine nm_r (pt_w3 (by decide +kernel) (by first | exact pt_is 0 (by decide +kernel) | exact pt_is 1 (by decide +kernel) | exact pt_is 2 (by decide +kernel) | exact pt_is 3 (by decide +kernel) | exact pt_is 4 (by decide +kernel) | exact pt_is (-1) (by decide +kernel) | exact pt_is 20 (by decide +kernel) | exact pt_is 400 (by decide +kernel) | exact pt_is 5 (by decide +kernel))) ?_
      | refine Exists.intro 30 ?_)
  exact hp _ (by assumption)
theorem pt_m0022 {post : Int32 → St2 → Prop} {f0_pendingCount f0_isWhole f0_variableSet f0_codeEnd : Int32} {a5 a6 : Nat → Int32} {a16 : Nat → Int64} (hp : ∀ g : Nat → Int64, post 1 (4, f0_pendingCount, 2, 1, 1, 1, 3, (pt_v 0 0 20 20), (pt_v 3 5 0 1), (pt_v 0 0 0 0), (pt_v 0 0 2 2), a5, a6, (pt_v 20 0 0 0), (pt_v 0 1 4 0), (pt_v 20 0 0 0), (pt_v 0 1 0 0), (pt_v 1 0 0 0), (pt_v 1 0 0 0), (pt_v 2 0 0 0), (pt_v (-1) (-1) (-1) 0), (pt_v 3 (-1) (-1) 0), g)) : wpX_matches post (4, f0_pendingCount, 2, 0, f0_isWhole, f0_variableSet, f0_codeEnd, (pt_v 0 0 20 20), (pt_v 3 5 0 1), (pt_v 0 0 0 0), (pt_v 0 0 2 2), a5, a6, (pt_v 20 0 0 0), (pt_v 0 0 0 0), (pt_v 0 0 0 0), (pt_v 0 0 0 0), (pt_v 0 0 0 0), (pt_v 0 0 0 0), (pt_v 0 0 0 0), (pt_v 0 0 0 0), (pt_v 0 0 0 0), a16) := by
  unfold wpX_matches
  refine pt_comp ?_
  refine br_f (by decide +kernel) ?_
  refine pt_ra0022_0 (fun g hg => ?_)
  exact pt_countF hg (hp g)
theorem pt_b0022 {post : Int32 → St2 → Prop} {f0_pendingCount : Int32} {a5 a6 : Nat → Int32} {a16 : Nat → Int64} (hp : ∀ g : Nat → Int64, post (-3) (4, f0_pendingCount, 2, 1, 1, 1, 3, (pt_v 0 0 20 20), (pt_v 3 5 0 1), (pt_v 0 0 0 0), (pt_v 0 0 2 2), a5, a6, (pt_v 20 0 0 0), (pt_v 0 1 4 0), (pt_v 20 0 0 0), (pt_v 0 1 0 0), (pt_v 1 0 0 0), (pt_v 1 0 0 0), (pt_v 2 0 0 0), (pt_v (-1) (-1) (-1) 0), (pt_v 3 (-1) (-1) 0), g)) : wpX_binding post (4, f0_pendingCount, 2, 1, 1, 1, 3, (pt_v 0 0 20 20), (pt_v 3 5 0 1), (pt_v 0 0 0 0), (pt_v 0 0 2 2), a5, a6, (pt_v 20 0 0 0), (pt_v 0 1 4 0), (pt_v 20 0 0 0), (pt_v 0 1 0 0), (pt_v 1 0 0 0), (pt_v 1 0 0 0), (pt_v 2 0 0 0), (pt_v (-1) (-1) (-1) 0), (pt_v 3 (-1) (-1) 0), a16) 1 0 := by
  unfold wpX_binding
  refine br_f (by decide +kernel) (br_t (by decide +kernel) (pt_comp2 ?_))
  refine br_f (by decide +kernel) (br_f (by decide +kernel) (br_f (by decide +kernel) ?_))
  refine pt_ra0022_1 (fun g hg => ?_)
  exact pt_bindF hg (hp g)
end
section
theorem pt_ra0103_0 {post : St2 → Prop} {f0_pendingCount : Int32} {a5 a6 : Nat → Int32} {a16 : Nat → Int64} (hp : ∀ g : Nat → Int64, (∀ i, i < 125 → g i = pt_G true true i) → post (4, f0_pendingCount, 2, 1, 1, 1, 3, (pt_v 0 0 20 20), (pt_v 3 5 0 1), (pt_v 0 0 0 0), (pt_v 0 1 0 3), a5, a6, (pt_v 20 0 0 0), (pt_v 0 1 4 0), (pt_v 20 0 0 0), (pt_v 0 1 0 0), (pt_v 1 0 0 0), (pt_v 1 0 0 0), (pt_v 3 1 0 0), (pt_v (-1) (-1) (-1) 0), (pt_v 3 (-1) (-1) 0), g)) : wpX_runAll post (4, f0_pendingCount, 2, 1, 1, 1, 3, (pt_v 0 0 20 20), (pt_v 3 5 0 1), (pt_v 0 0 0 0), (pt_v 0 1 0 3), a5, a6, (pt_v 20 0 0 0), (pt_v 0 1 4 0), (pt_v 20 0 0 0), (pt_v 0 1 0 0), (pt_v 1 0 0 0), (pt_v 1 0 0 0), (pt_v 0 0 0 0), (pt_v 0 0 0 0), (pt_v 0 0 0 0), a16) := by
  unfold wpX_runAll
  refine pt_clear ?_
  intro g hg
  repeat (first
      | (refine pt_note0 (by assumption) ?_; intro g hg)
      | (refine pt_note1 (by assumption) ?_; intro g hg)
      | refine br_t (by decide +kernel) ?_
      | refine br_f (by decide +kernel) ?_
      | refine And.intro (vp_in_iff.mpr (by decide +kernel)) ?_
      | refine nm_r (pt_is 0 (by decide +kernel)) ?_
      | refine nm_r (pt_is 1 (by decide +kernel)) ?_
      | refine nm_r (pt_is 2 (by decide +kernel)) ?_
      | refine nm_r (pt_is 3 (by decide +kernel)) ?_
      | refine nm_r (pt_is 4 (by decide +kernel)) ?_
      | refine nm_r (pt_is (-1) (by decide +kernel)) ?_
      | refine nm_r (pt_is 20 (by decide +kernel)) ?_
      | refine nm_r (pt_is 400 (by decide +kernel)) ?_
      | refine nm_r (pt_is 5 (by decide +kernel)) ?_
      | refine nm_r (pt_w0 (by decide +kernel) (by first | exact pt_is 0 (by decide +kernel) | exact pt_is 1 (by decide +kernel) | exact pt_is 2 (by decide +kernel) | exact pt_is 3 (by decide +kernel) | exact pt_is 4 (by decide +kernel) | exact pt_is (-1) (by decide +kernel) | exact pt_is 20 (by decide +kernel) | exact pt_is 400 (by decide +kernel) | exact pt_is 5 (by decide +kernel))) ?_
      | refine nm_r (pt_w1 (by decide +kernel) (by first | exact pt_is 0 (by decide +kernel) | exact pt_is 1 (by decide +kernel) | exact pt_is 2 (by decide +kernel) | exact pt_is 3 (by decide +kernel) | exact pt_is 4 (by decide +kernel) | exact pt_is (-1) (by decide +kernel) | exact pt_is 20 (by decide +kernel) | exact pt_is 400 (by decide +kernel) | exact pt_is 5 (by decide +kernel))) ?_
      | refine nm_r (pt_w2 (by decide +kernel) (by first | exact pt_is 0 (by decide +kernel) | exact pt_is 1 (by decide +kernel) | exact pt_is 2 (by decide +kernel) | exact pt_is 3 (by decide +kernel) | exact pt_is 4 (by decide +kernel) | exact pt_is (-1) (by decide +kernel) | exact pt_is 20 (by decide +kernel) | exact pt_is 400 (by decide +kernel) | exact pt_is 5 (by decide +kernel))) ?_
      | refine nm_r (pt_w3 (by decide +kernel) (by first | exact pt_is 0 (by decide +kernel) | exact pt_is 1 (by decide +kernel) | exact pt_is 2 (by decide +kernel) | exact pt_is 3 (by decide +kernel) | exact pt_is 4 (by decide +kernel) | exact pt_is (-1) (by decide +kernel) | exact pt_is 20 (by decide +kernel) | exact pt_is 400 (by decide +kernel) | exact pt_is 5 (by decide +kernel))) ?_
      | refine Exists.intro 30 ?_)
  exact hp _ (by assumption)
theorem pt_ra0103_1 {post : St2 → Prop} {f0_pendingCount : Int32} {a5 a6 : Nat → Int32} {a16 : Nat → Int64} (hp : ∀ g : Nat → Int64, (∀ i, i < 125 → g i = pt_G true true i) → post (4, f0_pendingCount, 2, 1, 1, 1, 3, (pt_v 0 0 20 20), (pt_v 3 5 0 1), (pt_v 0 0 0 0), (pt_v 0 1 0 3), a5, a6, (pt_v 20 0 0 0), (pt_v 0 1 4 0), (pt_v 20 0 0 0), (pt_v 0 1 0 0), (pt_v 1 0 0 0), (pt_v 1 0 0 0), (pt_v 3 1 0 0), (pt_v (-1) (-1) (-1) 0), (pt_v 3 (-1) (-1) 0), g)) : wpX_runAll post (4, f0_pendingCount, 2, 1, 1, 1, 3, (pt_v 0 0 20 20), (pt_v 3 5 0 1), (pt_v 0 0 0 0), (pt_v 0 1 0 3), a5, a6, (pt_v 20 0 0 0), (pt_v 0 1 4 0), (pt_v 20 0 0 0), (pt_v 0 1 0 0), (pt_v 1 0 0 0), (pt_v 1 0 0 0), (pt_v 3 1 0 0), (pt_v (-1) (-1) (-1) 0), (pt_v 3 (-1) (-1) 0), a16) := by
  unfold wpX_runAll
  refine pt_clear ?_
  intro g hg
  repeat (first
      | (refine pt_note0 (by assumption) ?_; intro g hg)
      | (refine pt_note1 (by assumption) ?_; intro g hg)
      | refine br_t (by decide +kernel) ?_
      | refine br_f (by decide +kernel) ?_
      | refine And.intro (vp_in_iff.mpr (by decide +kernel)) ?_
      | refine nm_r (pt_is 0 (by decide +kernel)) ?_
      | refine nm_r (pt_is 1 (by decide +kernel)) ?_
      | refine nm_r (pt_is 2 (by decide +kernel)) ?_
      | refine nm_r (pt_is 3 (by decide +kernel)) ?_
      | refine nm_r (pt_is 4 (by decide +kernel)) ?_
      | refine nm_r (pt_is (-1) (by decide +kernel)) ?_
      | refine nm_r (pt_is 20 (by decide +kernel)) ?_
      | refine nm_r (pt_is 400 (by decide +kernel)) ?_
      | refine nm_r (pt_is 5 (by decide +kernel)) ?_
      | refine nm_r (pt_w0 (by decide +kernel) (by first | exact pt_is 0 (by decide +kernel) | exact pt_is 1 (by decide +kernel) | exact pt_is 2 (by decide +kernel) | exact pt_is 3 (by decide +kernel) | exact pt_is 4 (by decide +kernel) | exact pt_is (-1) (by decide +kernel) | exact pt_is 20 (by decide +kernel) | exact pt_is 400 (by decide +kernel) | exact pt_is 5 (by decide +kernel))) ?_
      | refine nm_r (pt_w1 (by decide +kernel) (by first | exact pt_is 0 (by decide +kernel) | exact pt_is 1 (by decide +kernel) | exact pt_is 2 (by decide +kernel) | exact pt_is 3 (by decide +kernel) | exact pt_is 4 (by decide +kernel) | exact pt_is (-1) (by decide +kernel) | exact pt_is 20 (by decide +kernel) | exact pt_is 400 (by decide +kernel) | exact pt_is 5 (by decide +kernel))) ?_
      | refine nm_r (pt_w2 (by decide +kernel) (by first | exact pt_is 0 (by decide +kernel) | exact pt_is 1 (by decide +kernel) | exact pt_is 2 (by decide +kernel) | exact pt_is 3 (by decide +kernel) | exact pt_is 4 (by decide +kernel) | exact pt_is (-1) (by decide +kernel) | exact pt_is 20 (by decide +kernel) | exact pt_is 400 (by decide +kernel) | exact pt_is 5 (by decide +kernel))) ?_
      | refine nm_r (pt_w3 (by decide +kernel) (by first | exact pt_is 0 (by decide +kernel) | exact pt_is 1 (by decide +kernel) | exact pt_is 2 (by decide +kernel) | exact pt_is 3 (by decide +kernel) | exact pt_is 4 (by decide +kernel) | exact pt_is (-1) (by decide +kernel) | exact pt_is 20 (by decide +kernel) | exact pt_is 400 (by decide +kernel) | exact pt_is 5 (by decide +kernel))) ?_
      | refine Exists.intro 30 ?_)
  exact hp _ (by assumption)
theorem pt_m0103 {post : Int32 → St2 → Prop} {f0_pendingCount f0_isWhole f0_variableSet f0_codeEnd : Int32} {a5 a6 : Nat → Int32} {a16 : Nat → Int64} (hp : ∀ g : Nat → Int64, post 2 (4, f0_pendingCount, 2, 1, 1, 1, 3, (pt_v 0 0 20 20), (pt_v 3 5 0 1), (pt_v 0 0 0 0), (pt_v 0 1 0 3), a5, a6, (pt_v 20 0 0 0), (pt_v 0 1 4 0), (pt_v 20 0 0 0), (pt_v 0 1 0 0), (pt_v 1 0 0 0), (pt_v 1 0 0 0), (pt_v 3 1 0 0), (pt_v (-1) (-1) (-1) 0), (pt_v 3 (-1) (-1) 0), g)) : wpX_matches post (4, f0_pendingCount, 2, 0, f0_isWhole, f0_variableSet, f0_codeEnd, (pt_v 0 0 20 20), (pt_v 3 5 0 1), (pt_v 0 0 0 0), (pt_v 0 1 0 3), a5, a6, (pt_v 20 0 0 0), (pt_v 0 0 0 0), (pt_v 0 0 0 0), (pt_v 0 0 0 0), (pt_v 0 0 0 0), (pt_v 0 0 0 0), (pt_v 0 0 0 0), (pt_v 0 0 0 0), (pt_v 0 0 0 0), a16) := by
  unfold wpX_matches
  refine pt_comp ?_
  refine br_f (by decide +kernel) ?_
  refine pt_ra0103_0 (fun g hg => ?_)
  exact pt_countT hg (hp g)
theorem pt_b0103 {post : Int32 → St2 → Prop} {f0_pendingCount : Int32} {a5 a6 : Nat → Int32} {a16 : Nat → Int64} (hp : ∀ g : Nat → Int64, post 1 (4, f0_pendingCount, 2, 1, 1, 1, 3, (pt_v 0 0 20 20), (pt_v 3 5 0 1), (pt_v 0 0 0 0), (pt_v 0 1 0 3), a5, a6, (pt_v 20 0 0 0), (pt_v 0 1 4 0), (pt_v 20 0 0 0), (pt_v 0 1 0 0), (pt_v 1 0 0 0), (pt_v 1 0 0 0), (pt_v 3 1 0 0), (pt_v (-1) (-1) (-1) 0), (pt_v 3 (-1) (-1) 0), g)) : wpX_binding post (4, f0_pendingCount, 2, 1, 1, 1, 3, (pt_v 0 0 20 20), (pt_v 3 5 0 1), (pt_v 0 0 0 0), (pt_v 0 1 0 3), a5, a6, (pt_v 20 0 0 0), (pt_v 0 1 4 0), (pt_v 20 0 0 0), (pt_v 0 1 0 0), (pt_v 1 0 0 0), (pt_v 1 0 0 0), (pt_v 3 1 0 0), (pt_v (-1) (-1) (-1) 0), (pt_v 3 (-1) (-1) 0), a16) 1 0 := by
  unfold wpX_binding
  refine br_f (by decide +kernel) (br_t (by decide +kernel) (pt_comp2 ?_))
  refine br_f (by decide +kernel) (br_f (by decide +kernel) (br_f (by decide +kernel) ?_))
  refine pt_ra0103_1 (fun g hg => ?_)
  exact pt_bindT hg (hp g)
end
section
theorem pt_ra0113_0 {post : St2 → Prop} {f0_pendingCount : Int32} {a5 a6 : Nat → Int32} {a16 : Nat → Int64} (hp : ∀ g : Nat → Int64, (∀ i, i < 125 → g i = pt_G true true i) → post (4, f0_pendingCount, 2, 1, 1, 1, 3, (pt_v 0 0 20 20), (pt_v 3 5 0 1), (pt_v 0 0 0 0), (pt_v 0 1 1 3), a5, a6, (pt_v 20 0 0 0), (pt_v 0 1 4 0), (pt_v 20 0 0 0), (pt_v 0 1 0 0), (pt_v 1 0 0 0), (pt_v 1 0 0 0), (pt_v 3 1 0 0), (pt_v (-1) (-1) (-1) 0), (pt_v 3 (-1) (-1) 0), g)) : wpX_runAll post (4, f0_pendingCount, 2, 1, 1, 1, 3, (pt_v 0 0 20 20), (pt_v 3 5 0 1), (pt_v 0 0 0 0), (pt_v 0 1 1 3), a5, a6, (pt_v 20 0 0 0), (pt_v 0 1 4 0), (pt_v 20 0 0 0), (pt_v 0 1 0 0), (pt_v 1 0 0 0), (pt_v 1 0 0 0), (pt_v 0 0 0 0), (pt_v 0 0 0 0), (pt_v 0 0 0 0), a16) := by
  unfold wpX_runAll
  refine pt_clear ?_
  intro g hg
  repeat (first
      | (refine pt_note0 (by assumption) ?_; intro g hg)
      | (refine pt_note1 (by assumption) ?_; intro g hg)
      | refine br_t (by decide +kernel) ?_
      | refine br_f (by decide +kernel) ?_
      | refine And.intro (vp_in_iff.mpr (by decide +kernel)) ?_
      | refine nm_r (pt_is 0 (by decide +kernel)) ?_
      | refine nm_r (pt_is 1 (by decide +kernel)) ?_
      | refine nm_r (pt_is 2 (by decide +kernel)) ?_
      | refine nm_r (pt_is 3 (by decide +kernel)) ?_
      | refine nm_r (pt_is 4 (by decide +kernel)) ?_
      | refine nm_r (pt_is (-1) (by decide +kernel)) ?_
      | refine nm_r (pt_is 20 (by decide +kernel)) ?_
      | refine nm_r (pt_is 400 (by decide +kernel)) ?_
      | refine nm_r (pt_is 5 (by decide +kernel)) ?_
      | refine nm_r (pt_w0 (by decide +kernel) (by first | exact pt_is 0 (by decide +kernel) | exact pt_is 1 (by decide +kernel) | exact pt_is 2 (by decide +kernel) | exact pt_is 3 (by decide +kernel) | exact pt_is 4 (by decide +kernel) | exact pt_is (-1) (by decide +kernel) | exact pt_is 20 (by decide +kernel) | exact pt_is 400 (by decide +kernel) | exact pt_is 5 (by decide +kernel))) ?_
      | refine nm_r (pt_w1 (by decide +kernel) (by first | exact pt_is 0 (by decide +kernel) | exact pt_is 1 (by decide +kernel) | exact pt_is 2 (by decide +kernel) | exact pt_is 3 (by decide +kernel) | exact pt_is 4 (by decide +kernel) | exact pt_is (-1) (by decide +kernel) | exact pt_is 20 (by decide +kernel) | exact pt_is 400 (by decide +kernel) | exact pt_is 5 (by decide +kernel))) ?_
      | refine nm_r (pt_w2 (by decide +kernel) (by first | exact pt_is 0 (by decide +kernel) | exact pt_is 1 (by decide +kernel) | exact pt_is 2 (by decide +kernel) | exact pt_is 3 (by decide +kernel) | exact pt_is 4 (by decide +kernel) | exact pt_is (-1) (by decide +kernel) | exact pt_is 20 (by decide +kernel) | exact pt_is 400 (by decide +kernel) | exact pt_is 5 (by decide +kernel))) ?_
      | refine nm_r (pt_w3 (by decide +kernel) (by first | exact pt_is 0 (by decide +kernel) | exact pt_is 1 (by decide +kernel) | exact pt_is 2 (by decide +kernel) | exact pt_is 3 (by decide +kernel) | exact pt_is 4 (by decide +kernel) | exact pt_is (-1) (by decide +kernel) | exact pt_is 20 (by decide +kernel) | exact pt_is 400 (by decide +kernel) | exact pt_is 5 (by decide +kernel))) ?_
      | refine Exists.intro 30 ?_)
  exact hp _ (by assumption)
theorem pt_ra0113_1 {post : St2 → Prop} {f0_pendingCount : Int32} {a5 a6 : Nat → Int32} {a16 : Nat → Int64} (hp : ∀ g : Nat → Int64, (∀ i, i < 125 → g i = pt_G true true i) → post (4, f0_pendingCount, 2, 1, 1, 1, 3, (pt_v 0 0 20 20), (pt_v 3 5 0 1), (pt_v 0 0 0 0), (pt_v 0 1 1 3), a5, a6, (pt_v 20 0 0 0), (pt_v 0 1 4 0), (pt_v 20 0 0 0), (pt_v 0 1 0 0), (pt_v 1 0 0 0), (pt_v 1 0 0 0), (pt_v 3 1 0 0), (pt_v (-1) (-1) (-1) 0), (pt_v 3 (-1) (-1) 0), g)) : wpX_runAll post (4, f0_pendingCount, 2, 1, 1, 1, 3, (pt_v 0 0 20 20), (pt_v 3 5 0 1), (pt_v 0 0 0 0), (pt_v 0 1 1 3), a5, a6, (pt_v 20 0 0 0), (pt_v 0 1 4 0), (pt_v 20 0 0 0), (pt_v 0 1 0 0), (pt_v 1 0 0 0), (pt_v 1 0 0 0), (pt_v 3 1 0 0), (pt_v (-1) (-1) (-1) 0), (pt_v 3 (-1) (-1) 0), a16) := by
  unfold wpX_runAll
  refine pt_clear ?_
  intro g hg
  repeat (first
      | (refine pt_note0 (by assumption) ?_; intro g hg)
      | (refine pt_note1 (by assumption) ?_; intro g hg)
      | refine br_t (by decide +kernel) ?_
      | refine br_f (by decide +kernel) ?_
      | refine And.intro (vp_in_iff.mpr (by decide +kernel)) ?_
      | refine nm_r (pt_is 0 (by decide +kernel)) ?_
      | refine nm_r (pt_is 1 (by decide +kernel)) ?_
      | refine nm_r (pt_is 2 (by decide +kernel)) ?_
      | refine nm_r (pt_is 3 (by decide +kernel)) ?_
      | refine nm_r (pt_is 4 (by decide +kernel)) ?_
      | refine nm_r (pt_is (-1) (by decide +kernel)) ?_
      | refine nm_r (pt_is 20 (by decide +kernel)) ?_
      | refine nm_r (pt_is 400 (by decide +kernel)) ?_
      | refine nm_r (pt_is 5 (by decide +kernel)) ?_
      | refine nm_r (pt_w0 (by decide +kernel) (by first | exact pt_is 0 (by decide +kernel) | exact pt_is 1 (by decide +kernel) | exact pt_is 2 (by decide +kernel) | exact pt_is 3 (by decide +kernel) | exact pt_is 4 (by decide +kernel) | exact pt_is (-1) (by decide +kernel) | exact pt_is 20 (by decide +kernel) | exact pt_is 400 (by decide +kernel) | exact pt_is 5 (by decide +kernel))) ?_
      | refine nm_r (pt_w1 (by decide +kernel) (by first | exact pt_is 0 (by decide +kernel) | exact pt_is 1 (by decide +kernel) | exact pt_is 2 (by decide +kernel) | exact pt_is 3 (by decide +kernel) | exact pt_is 4 (by decide +kernel) | exact pt_is (-1) (by decide +kernel) | exact pt_is 20 (by decide +kernel) | exact pt_is 400 (by decide +kernel) | exact pt_is 5 (by decide +kernel))) ?_
      | refine nm_r (pt_w2 (by decide +kernel) (by first | exact pt_is 0 (by decide +kernel) | exact pt_is 1 (by decide +kernel) | exact pt_is 2 (by decide +kernel) | exact pt_is 3 (by decide +kernel) | exact pt_is 4 (by decide +kernel) | exact pt_is (-1) (by decide +kernel) | exact pt_is 20 (by decide +kernel) | exact pt_is 400 (by decide +kernel) | exact pt_is 5 (by decide +kernel))) ?_
      | refine nm_r (pt_w3 (by decide +kernel) (by first | exact pt_is 0 (by decide +kernel) | exact pt_is 1 (by decide +kernel) | exact pt_is 2 (by decide +kernel) | exact pt_is 3 (by decide +kernel) | exact pt_is 4 (by decide +kernel) | exact pt_is (-1) (by decide +kernel) | exact pt_is 20 (by decide +kernel) | exact pt_is 400 (by decide +kernel) | exact pt_is 5 (by decide +kernel))) ?_
      | refine Exists.intro 30 ?_)
  exact hp _ (by assumption)
theorem pt_m0113 {post : Int32 → St2 → Prop} {f0_pendingCount f0_isWhole f0_variableSet f0_codeEnd : Int32} {a5 a6 : Nat → Int32} {a16 : Nat → Int64} (hp : ∀ g : Nat → Int64, post 2 (4, f0_pendingCount, 2, 1, 1, 1, 3, (pt_v 0 0 20 20), (pt_v 3 5 0 1), (pt_v 0 0 0 0), (pt_v 0 1 1 3), a5, a6, (pt_v 20 0 0 0), (pt_v 0 1 4 0), (pt_v 20 0 0 0), (pt_v 0 1 0 0), (pt_v 1 0 0 0), (pt_v 1 0 0 0), (pt_v 3 1 0 0), (pt_v (-1) (-1) (-1) 0), (pt_v 3 (-1) (-1) 0), g)) : wpX_matches post (4, f0_pendingCount, 2, 0, f0_isWhole, f0_variableSet, f0_codeEnd, (pt_v 0 0 20 20), (pt_v 3 5 0 1), (pt_v 0 0 0 0), (pt_v 0 1 1 3), a5, a6, (pt_v 20 0 0 0), (pt_v 0 0 0 0), (pt_v 0 0 0 0), (pt_v 0 0 0 0), (pt_v 0 0 0 0), (pt_v 0 0 0 0), (pt_v 0 0 0 0), (pt_v 0 0 0 0), (pt_v 0 0 0 0), a16) := by
  unfold wpX_matches
  refine pt_comp ?_
  refine br_f (by decide +kernel) ?_
  refine pt_ra0113_0 (fun g hg => ?_)
  exact pt_countT hg (hp g)
theorem pt_b0113 {post : Int32 → St2 → Prop} {f0_pendingCount : Int32} {a5 a6 : Nat → Int32} {a16 : Nat → Int64} (hp : ∀ g : Nat → Int64, post 1 (4, f0_pendingCount, 2, 1, 1, 1, 3, (pt_v 0 0 20 20), (pt_v 3 5 0 1), (pt_v 0 0 0 0), (pt_v 0 1 1 3), a5, a6, (pt_v 20 0 0 0), (pt_v 0 1 4 0), (pt_v 20 0 0 0), (pt_v 0 1 0 0), (pt_v 1 0 0 0), (pt_v 1 0 0 0), (pt_v 3 1 0 0), (pt_v (-1) (-1) (-1) 0), (pt_v 3 (-1) (-1) 0), g)) : wpX_binding post (4, f0_pendingCount, 2, 1, 1, 1, 3, (pt_v 0 0 20 20), (pt_v 3 5 0 1), (pt_v 0 0 0 0), (pt_v 0 1 1 3), a5, a6, (pt_v 20 0 0 0), (pt_v 0 1 4 0), (pt_v 20 0 0 0), (pt_v 0 1 0 0), (pt_v 1 0 0 0), (pt_v 1 0 0 0), (pt_v 3 1 0 0), (pt_v (-1) (-1) (-1) 0), (pt_v 3 (-1) (-1) 0), a16) 1 0 := by
  unfold wpX_binding
  refine br_f (by decide +kernel) (br_t (by decide +kernel) (pt_comp2 ?_))
  refine br_f (by decide +kernel) (br_f (by decide +kernel) (br_f (by decide +kernel) ?_))
  refine pt_ra0113_1 (fun g hg => ?_)
  exact pt_bindT hg (hp g)
end
section
theorem pt_ra0120_0 {post : St2 → Prop} {f0_pendingCount : Int32} {a5 a6 : Nat → Int32} {a16 : Nat → Int64} (hp : ∀ g : Nat → Int64, (∀ i, i < 125 → g i = pt_G true true i) → post (4, f0_pendingCount, 2, 1, 1, 1, 3, (pt_v 0 0 20 20), (pt_v 3 5 0 1), (pt_v 0 0 0 0), (pt_v 0 1 2 0), a5, a6, (pt_v 20 0 0 0), (pt_v 0 1 4 0), (pt_v 20 0 0 0), (pt_v 0 1 0 0), (pt_v 1 0 0 0), (pt_v 1 0 0 0), (pt_v 2 0 0 0), (pt_v (-1) (-1) (-1) 0), (pt_v 2 (-1) (-1) 0), g)) : wpX_runAll post (4, f0_pendingCount, 2, 1, 1, 1, 3, (pt_v 0 0 20 20), (pt_v 3 5 0 1), (pt_v 0 0 0 0), (pt_v 0 1 2 0), a5, a6, (pt_v 20 0 0 0), (pt_v 0 1 4 0), (pt_v 20 0 0 0), (pt_v 0 1 0 0), (pt_v 1 0 0 0), (pt_v 1 0 0 0), (pt_v 0 0 0 0), (pt_v 0 0 0 0), (pt_v 0 0 0 0), a16) := by
  unfold wpX_runAll
  refine pt_clear ?_
  intro g hg
  repeat (first
      | (refine pt_note0 (by assumption) ?_; intro g hg)
      | (refine pt_note1 (by assumption) ?_; intro g hg)
      | refine br_t (by decide +kernel) ?_
      | refine br_f (by decide +kernel) ?_
      | refine And.intro (vp_in_iff.mpr (by decide +kernel)) ?_
      | refine nm_r (pt_is 0 (by decide +kernel)) ?_
      | refine nm_r (pt_is 1 (by decide +kernel)) ?_
      | refine nm_r (pt_is 2 (by decide +kernel)) ?_
      | refine nm_r (pt_is 3 (by decide +kernel)) ?_
      | refine nm_r (pt_is 4 (by decide +kernel)) ?_
      | refine nm_r (pt_is (-1) (by decide +kernel)) ?_
      | refine nm_r (pt_is 20 (by decide +kernel)) ?_
      | refine nm_r (pt_is 400 (by decide +kernel)) ?_
      | refine nm_r (pt_is 5 (by decide +kernel)) ?_
      | refine nm_r (pt_w0 (by decide +kernel) (by first | exact pt_is 0 (by decide +kernel) | exact pt_is 1 (by decide +kernel) | exact pt_is 2 (by decide +kernel) | exact pt_is 3 (by decide +kernel) | exact pt_is 4 (by decide +kernel) | exact pt_is (-1) (by decide +kernel) | exact pt_is 20 (by decide +kernel) | exact pt_is 400 (by decide +kernel) | exact pt_is 5 (by decide +kernel))) ?_
      | refine nm_r (pt_w1 (by decide +kernel) (by first | exact pt_is 0 (by decide +kernel) | exact pt_is 1 (by decide +kernel) | exact pt_is 2 (by decide +kernel) | exact pt_is 3 (by decide +kernel) | exact pt_is 4 (by decide +kernel) | exact pt_is (-1) (by decide +kernel) | exact pt_is 20 (by decide +kernel) | exact pt_is 400 (by decide +kernel) | exact pt_is 5 (by decide +kernel))) ?_
      | refine nm_r (pt_w2 (by decide +kernel) (by first | exact pt_is 0 (by decide +kernel) | exact pt_is 1 (by decide +kernel) | exact pt_is 2 (by decide +kernel) | exact pt_is 3 (by decide +kernel) | exact pt_is 4 (by decide +kernel) | exact pt_is (-1) (by decide +kernel) | exact pt_is 20 (by decide +kernel) | exact pt_is 400 (by decide +kernel) | exact pt_is 5 (by decide +kernel))) ?_
      | refine nm_r (pt_w3 (by decide +kernel) (by first | exact pt_is 0 (by decide +kernel) | exact pt_is 1 (by decide +kernel) | exact pt_is 2 (by decide +kernel) | exact pt_is 3 (by decide +kernel) | exact pt_is 4 (by decide +kernel) | exact pt_is (-1) (by decide +kernel) | exact pt_is 20 (by decide +kernel) | exact pt_is 400 (by decide +kernel) | exact pt_is 5 (by decide +kernel))) ?_
      | refine Exists.intro 30 ?_)
  exact hp _ (by assumption)
theorem pt_ra0120_1 {post : St2 → Prop} {f0_pendingCount : Int32} {a5 a6 : Nat → Int32} {a16 : Nat → Int64} (hp : ∀ g : Nat → Int64, (∀ i, i < 125 → g i = pt_G true true i) → post (4, f0_pendingCount, 2, 1, 1, 1, 3, (pt_v 0 0 20 20), (pt_v 3 5 0 1), (pt_v 0 0 0 0), (pt_v 0 1 2 0), a5, a6, (pt_v 20 0 0 0), (pt_v 0 1 4 0), (pt_v 20 0 0 0), (pt_v 0 1 0 0), (pt_v 1 0 0 0), (pt_v 1 0 0 0), (pt_v 2 0 0 0), (pt_v (-1) (-1) (-1) 0), (pt_v 2 (-1) (-1) 0), g)) : wpX_runAll post (4, f0_pendingCount, 2, 1, 1, 1, 3, (pt_v 0 0 20 20), (pt_v 3 5 0 1), (pt_v 0 0 0 0), (pt_v 0 1 2 0), a5, a6, (pt_v 20 0 0 0), (pt_v 0 1 4 0), (pt_v 20 0 0 0), (pt_v 0 1 0 0), (pt_v 1 0 0 0), (pt_v 1 0 0 0), (pt_v 2 0 0 0), (pt_v (-1) (-1) (-1) 0), (pt_v 2 (-1) (-1) 0), a16) := by
  unfold wpX_runAll
  refine pt_clear ?_
  intro g hg
  repeat (first
      | (refine pt_note0 (by assumption) ?_; intro g hg)
      | (refine pt_note1 (by assumption) ?_; intro g hg)
      | refine br_t (by decide +kernel) ?_
      | refine br_f (by decide +kernel) ?_
      | refine And.intro (vp_in_iff.mpr (by decide +kernel)) ?_
      | refine nm_r (pt_is 0 (by decide +kernel)) ?_
      | refine nm_r (pt_is 1 (by decide +kernel)) ?_
      | refine nm_r (pt_is 2 (by decide +kernel)) ?_
      | refine nm_r (pt_is 3 (by decide +kernel)) ?_
      | refine nm_r (pt_is 4 (by decide +kernel)) ?_
      | refine nm_r (pt_is (-1) (by decide +kernel)) ?_
      | refine nm_r (pt_is 20 (by decide +kernel)) ?_
      | refine nm_r (pt_is 400 (by decide +kernel)) ?_
      | refine nm_r (pt_is 5 (by decide +kernel)) ?_
      | refine nm_r (pt_w0 (by decide +kernel) (by first | exact pt_is 0 (by decide +kernel) | exact pt_is 1 (by decide +kernel) | exact pt_is 2 (by decide +kernel) | exact pt_is 3 (by decide +kernel) | exact pt_is 4 (by decide +kernel) | exact pt_is (-1) (by decide +kernel) | exact pt_is 20 (by decide +kernel) | exact pt_is 400 (by decide +kernel) | exact pt_is 5 (by decide +kernel))) ?_
      | refine nm_r (pt_w1 (by decide +kernel) (by first | exact pt_is 0 (by decide +kernel) | exact pt_is 1 (by decide +kernel) | exact pt_is 2 (by decide +kernel) | exact pt_is 3 (by decide +kernel) | exact pt_is 4 (by decide +kernel) | exact pt_is (-1) (by decide +kernel) | exact pt_is 20 (by decide +kernel) | exact pt_is 400 (by decide +kernel) | exact pt_is 5 (by decide +kernel))) ?_
      | refine nm_r (pt_w2 (by decide +kernel) (by first | exact pt_is 0 (by decide +kernel) | exact pt_is 1 (by decide +kernel) | exact pt_is 2 (by decide +kernel) | exact pt_is 3 (by decide +kernel) | exact pt_is 4 (by decide +kernel) | exact pt_is (-1) (by decide +kernel) | exact pt_is 20 (by decide +kernel) | exact pt_is 400 (by decide +kernel) | exact pt_is 5 (by decide +kernel))) ?_
      | refine nm_r (pt_w3 (by decide +kernel) (by first | exact pt_is 0 (by decide +kernel) | exact pt_is 1 (by decide +kernel) | exact pt_is 2 (by decide +kernel) | exact pt_is 3 (by decide +kernel) | exact pt_is 4 (by decide +kernel) | exact pt_is (-1) (by decide +kernel) | exact pt_is 20 (by decide +kernel) | exact pt_is 400 (by decide +kernel) | exact pt_is 5 (by decide +kernel))) ?_
      | refine Exists.intro 30 ?_)
  exact hp _ (by assumption)
theorem pt_m0120 {post : Int32 → St2 → Prop} {f0_pendingCount f0_isWhole f0_variableSet f0_codeEnd : Int32} {a5 a6 : Nat → Int32} {a16 : Nat → Int64} (hp : ∀ g : Nat → Int64, post 2 (4, f0_pendingCount, 2, 1, 1, 1, 3, (pt_v 0 0 20 20), (pt_v 3 5 0 1), (pt_v 0 0 0 0), (pt_v 0 1 2 0), a5, a6, (pt_v 20 0 0 0), (pt_v 0 1 4 0), (pt_v 20 0 0 0), (pt_v 0 1 0 0), (pt_v 1 0 0 0), (pt_v 1 0 0 0), (pt_v 2 0 0 0), (pt_v (-1) (-1) (-1) 0), (pt_v 2 (-1) (-1) 0), g)) : wpX_matches post (4, f0_pendingCount, 2, 0, f0_isWhole, f0_variableSet, f0_codeEnd, (pt_v 0 0 20 20), (pt_v 3 5 0 1), (pt_v 0 0 0 0), (pt_v 0 1 2 0), a5, a6, (pt_v 20 0 0 0), (pt_v 0 0 0 0), (pt_v 0 0 0 0), (pt_v 0 0 0 0), (pt_v 0 0 0 0), (pt_v 0 0 0 0), (pt_v 0 0 0 0), (pt_v 0 0 0 0), (pt_v 0 0 0 0), a16) := by
  unfold wpX_matches
  refine pt_comp ?_
  refine br_f (by decide +kernel) ?_
  refine pt_ra0120_0 (fun g hg => ?_)
  exact pt_countT hg (hp g)
theorem pt_b0120 {post : Int32 → St2 → Prop} {f0_pendingCount : Int32} {a5 a6 : Nat → Int32} {a16 : Nat → Int64} (hp : ∀ g : Nat → Int64, post 1 (4, f0_pendingCount, 2, 1, 1, 1, 3, (pt_v 0 0 20 20), (pt_v 3 5 0 1), (pt_v 0 0 0 0), (pt_v 0 1 2 0), a5, a6, (pt_v 20 0 0 0), (pt_v 0 1 4 0), (pt_v 20 0 0 0), (pt_v 0 1 0 0), (pt_v 1 0 0 0), (pt_v 1 0 0 0), (pt_v 2 0 0 0), (pt_v (-1) (-1) (-1) 0), (pt_v 2 (-1) (-1) 0), g)) : wpX_binding post (4, f0_pendingCount, 2, 1, 1, 1, 3, (pt_v 0 0 20 20), (pt_v 3 5 0 1), (pt_v 0 0 0 0), (pt_v 0 1 2 0), a5, a6, (pt_v 20 0 0 0), (pt_v 0 1 4 0), (pt_v 20 0 0 0), (pt_v 0 1 0 0), (pt_v 1 0 0 0), (pt_v 1 0 0 0), (pt_v 2 0 0 0), (pt_v (-1) (-1) (-1) 0), (pt_v 2 (-1) (-1) 0), a16) 1 0 := by
  unfold wpX_binding
  refine br_f (by decide +kernel) (br_t (by decide +kernel) (pt_comp2 ?_))
  refine br_f (by decide +kernel) (br_f (by decide +kernel) (br_f (by decide +kernel) ?_))
  refine pt_ra0120_1 (fun g hg => ?_)
  exact pt_bindT hg (hp g)
end
section
theorem pt_ra0121_0 {post : St2 → Prop} {f0_pendingCount : Int32} {a5 a6 : Nat → Int32} {a16 : Nat → Int64} (hp : ∀ g : Nat → Int64, (∀ i, i < 125 → g i = pt_G true true i) → post (4, f0_pendingCount, 2, 1, 1, 1, 3, (pt_v 0 0 20 20), (pt_v 3 5 0 1), (pt_v 0 0 0 0), (pt_v 0 1 2 1), a5, a6, (pt_v 20 0 0 0), (pt_v 0 1 4 0), (pt_v 20 0 0 0), (pt_v 0 1 0 0), (pt_v 1 0 0 0), (pt_v 1 0 0 0), (pt_v 2 0 0 0), (pt_v (-1) (-1) (-1) 0), (pt_v 2 (-1) (-1) 0), g)) : wpX_runAll post (4, f0_pendingCount, 2, 1, 1, 1, 3, (pt_v 0 0 20 20), (pt_v 3 5 0 1), (pt_v 0 0 0 0), (pt_v 0 1 2 1), a5, a6, (pt_v 20 0 0 0), (pt_v 0 1 4 0), (pt_v 20 0 0 0), (pt_v 0 1 0 0), (pt_v 1 0 0 0), (pt_v 1 0 0 0), (pt_v 0 0 0 0), (pt_v 0 0 0 0), (pt_v 0 0 0 0), a16) := by
  unfold wpX_runAll
  refine pt_clear ?_
  intro g hg
  repeat (first
      | (refine pt_note0 (by assumption) ?_; intro g hg)
      | (refine pt_note1 (by assumption) ?_; intro g hg)
      | refine br_t (by decide +kernel) ?_
      | refine br_f (by decide +kernel) ?_
      | refine And.intro (vp_in_iff.mpr (by decide +kernel)) ?_
      | refine nm_r (pt_is 0 (by decide +kernel)) ?_
      | refine nm_r (pt_is 1 (by decide +kernel)) ?_
      | refine nm_r (pt_is 2 (by decide +kernel)) ?_
      | refine nm_r (pt_is 3 (by decide +kernel)) ?_
      | refine nm_r (pt_is 4 (by decide +kernel)) ?_
      | refine nm_r (pt_is (-1) (by decide +kernel)) ?_
      | refine nm_r (pt_is 20 (by decide +kernel)) ?_
      | refine nm_r (pt_is 400 (by decide +kernel)) ?_
      | refine nm_r (pt_is 5 (by decide +kernel)) ?_
      | refine nm_r (pt_w0 (by decide +kernel) (by first | exact pt_is 0 (by decide +kernel) | exact pt_is 1 (by decide +kernel) | exact pt_is 2 (by decide +kernel) | exact pt_is 3 (by decide +kernel) | exact pt_is 4 (by decide +kernel) | exact pt_is (-1) (by decide +kernel) | exact pt_is 20 (by decide +kernel) | exact pt_is 400 (by decide +kernel) | exact pt_is 5 (by decide +kernel))) ?_
      | refine nm_r (pt_w1 (by decide +kernel) (by first | exact pt_is 0 (by decide +kernel) | exact pt_is 1 (by decide +kernel) | exact pt_is 2 (by decide +kernel) | exact pt_is 3 (by decide +kernel) | exact pt_is 4 (by decide +kernel) | exact pt_is (-1) (by decide +kernel) | exact pt_is 20 (by decide +kernel) | exact pt_is 400 (by decide +kernel) | exact pt_is 5 (by decide +kernel))) ?_
      | refine nm_r (pt_w2 (by decide +kernel) (by first | exact pt_is 0 (by decide +kernel) | exact pt_is 1 (by decide +kernel) | exact pt_is 2 (by decide +kernel) | exact pt_is 3 (by decide +kernel) | exact pt_is 4 (by decide +kernel) | exact pt_is (-1) (by decide +kernel) | exact pt_is 20 (by decide +kernel) | exact pt_is 400 (by decide +kernel) | exact pt_is 5 (by decide +kernel))) ?_
      | refine nm_r (pt_w3 (by decide +kernel) (by first | exact pt_is 0 (by decide +kernel) | exact pt_is 1 (by decide +kernel) | exact pt_is 2 (by decide +kernel) | exact pt_is 3 (by decide +kernel) | exact pt_is 4 (by decide +kernel) | exact pt_is (-1) (by decide +kernel) | exact pt_is 20 (by decide +kernel) | exact pt_is 400 (by decide +kernel) | exact pt_is 5 (by decide +kernel))) ?_
      | refine Exists.intro 30 ?_)
  exact hp _ (by assumption)
theorem pt_ra0121_1 {post : St2 → Prop} {f0_pendingCount : Int32} {a5 a6 : Nat → Int32} {a16 : Nat → Int64} (hp : ∀ g : Nat → Int64, (∀ i, i < 125 → g i = pt_G true true i) → post (4, f0_pendingCount, 2, 1, 1, 1, 3, (pt_v 0 0 20 20), (pt_v 3 5 0 1), (pt_v 0 0 0 0), (pt_v 0 1 2 1), a5, a6, (pt_v 20 0 0 0), (pt_v 0 1 4 0), (pt_v 20 0 0 0), (pt_v 0 1 0 0), (pt_v 1 0 0 0), (pt_v 1 0 0 0), (pt_v 2 0 0 0), (pt_v (-1) (-1) (-1) 0), (pt_v 2 (-1) (-1) 0), g)) : wpX_runAll post (4, f0_pendingCount, 2, 1, 1, 1, 3, (pt_v 0 0 20 20), (pt_v 3 5 0 1), (pt_v 0 0 0 0), (pt_v 0 1 2 1), a5, a6, (pt_v 20 0 0 0), (pt_v 0 1 4 0), (pt_v 20 0 0 0), (pt_v 0 1 0 0), (pt_v 1 0 0 0), (pt_v 1 0 0 0), (pt_v 2 0 0 0), (pt_v (-1) (-1) (-1) 0), (pt_v 2 (-1) (-1) 0), a16) := by
  unfold wpX_runAll
  refine pt_clear ?_
  intro g hg
  repeat (first
      | (refine pt_note0 (by assumption) ?_; intro g hg)
      | (refine pt_note1 (by assumption) ?_; intro g hg)
      | refine br_t (by decide +kernel) ?_
      | refine br_f (by decide +kernel) ?_
      | refine And.intro (vp_in_iff.mpr (by decide +kernel)) ?_
      | refine nm_r (pt_is 0 (by decide +kernel)) ?_
      | refine nm_r (pt_is 1 (by decide +kernel)) ?_
      | refine nm_r (pt_is 2 (by decide +kernel)) ?_
      | refine nm_r (pt_is 3 (by decide +kernel)) ?_
      | refine nm_r (pt_is 4 (by decide +kernel)) ?_
      | refine nm_r (pt_is (-1) (by decide +kernel)) ?_
      | refine nm_r (pt_is 20 (by decide +kernel)) ?_
      | refine nm_r (pt_is 400 (by decide +kernel)) ?_
      | refine nm_r (pt_is 5 (by decide +kernel)) ?_
      | refine nm_r (pt_w0 (by decide +kernel) (by first | exact pt_is 0 (by decide +kernel) | exact pt_is 1 (by decide +kernel) | exact pt_is 2 (by decide +kernel) | exact pt_is 3 (by decide +kernel) | exact pt_is 4 (by decide +kernel) | exact pt_is (-1) (by decide +kernel) | exact pt_is 20 (by decide +kernel) | exact pt_is 400 (by decide +kernel) | exact pt_is 5 (by decide +kernel))) ?_
      | refine nm_r (pt_w1 (by decide +kernel) (by first | exact pt_is 0 (by decide +kernel) | exact pt_is 1 (by decide +kernel) | exact pt_is 2 (by decide +kernel) | exact pt_is 3 (by decide +kernel) | exact pt_is 4 (by decide +kernel) | exact pt_is (-1) (by decide +kernel) | exact pt_is 20 (by decide +kernel) | exact pt_is 400 (by decide +kernel) | exact pt_is 5 (by decide +kernel))) ?_
      | refine nm_r (pt_w2 (by decide +kernel) (by first | exact pt_is 0 (by decide +kernel) | exact pt_is 1 (by decide +kernel) | exact pt_is 2 (by decide +kernel) | exact pt_is 3 (by decide +kernel) | exact pt_is 4 (by decide +kernel) | exact pt_is (-1) (by decide +kernel) | exact pt_is 20 (by decide +kernel) | exact pt_is 400 (by decide +kernel) | exact pt_is 5 (by decide +kernel))) ?_
      | refine nm_r (pt_w3 (by decide +kernel) (by first | exact pt_is 0 (by decide +kernel) | exact pt_is 1 (by decide +kernel) | exact pt_is 2 (by decide +kernel) | exact pt_is 3 (by decide +kernel) | exact pt_is 4 (by decide +kernel) | exact pt_is (-1) (by decide +kernel) | exact pt_is 20 (by decide +kernel) | exact pt_is 400 (by decide +kernel) | exact pt_is 5 (by decide +kernel))) ?_
      | refine Exists.intro 30 ?_)
  exact hp _ (by assumption)
theorem pt_m0121 {post : Int32 → St2 → Prop} {f0_pendingCount f0_isWhole f0_variableSet f0_codeEnd : Int32} {a5 a6 : Nat → Int32} {a16 : Nat → Int64} (hp : ∀ g : Nat → Int64, post 2 (4, f0_pendingCount, 2, 1, 1, 1, 3, (pt_v 0 0 20 20), (pt_v 3 5 0 1), (pt_v 0 0 0 0), (pt_v 0 1 2 1), a5, a6, (pt_v 20 0 0 0), (pt_v 0 1 4 0), (pt_v 20 0 0 0), (pt_v 0 1 0 0), (pt_v 1 0 0 0), (pt_v 1 0 0 0), (pt_v 2 0 0 0), (pt_v (-1) (-1) (-1) 0), (pt_v 2 (-1) (-1) 0), g)) : wpX_matches post (4, f0_pendingCount, 2, 0, f0_isWhole, f0_variableSet, f0_codeEnd, (pt_v 0 0 20 20), (pt_v 3 5 0 1), (pt_v 0 0 0 0), (pt_v 0 1 2 1), a5, a6, (pt_v 20 0 0 0), (pt_v 0 0 0 0), (pt_v 0 0 0 0), (pt_v 0 0 0 0), (pt_v 0 0 0 0), (pt_v 0 0 0 0), (pt_v 0 0 0 0), (pt_v 0 0 0 0), (pt_v 0 0 0 0), a16) := by
  unfold wpX_matches
  refine pt_comp ?_
  refine br_f (by decide +kernel) ?_
  refine pt_ra0121_0 (fun g hg => ?_)
  exact pt_countT hg (hp g)
theorem pt_b0121 {post : Int32 → St2 → Prop} {f0_pendingCount : Int32} {a5 a6 : Nat → Int32} {a16 : Nat → Int64} (hp : ∀ g : Nat → Int64, post 1 (4, f0_pendingCount, 2, 1, 1, 1, 3, (pt_v 0 0 20 20), (pt_v 3 5 0 1), (pt_v 0 0 0 0), (pt_v 0 1 2 1), a5, a6, (pt_v 20 0 0 0), (pt_v 0 1 4 0), (pt_v 20 0 0 0), (pt_v 0 1 0 0), (pt_v 1 0 0 0), (pt_v 1 0 0 0), (pt_v 2 0 0 0), (pt_v (-1) (-1) (-1) 0), (pt_v 2 (-1) (-1) 0), g)) : wpX_binding post (4, f0_pendingCount, 2, 1, 1, 1, 3, (pt_v 0 0 20 20), (pt_v 3 5 0 1), (pt_v 0 0 0 0), (pt_v 0 1 2 1), a5, a6, (pt_v 20 0 0 0), (pt_v 0 1 4 0), (pt_v 20 0 0 0), (pt_v 0 1 0 0), (pt_v 1 0 0 0), (pt_v 1 0 0 0), (pt_v 2 0 0 0), (pt_v (-1) (-1) (-1) 0), (pt_v 2 (-1) (-1) 0), a16) 1 0 := by
  unfold wpX_binding
  refine br_f (by decide +kernel) (br_t (by decide +kernel) (pt_comp2 ?_))
  refine br_f (by decide +kernel) (br_f (by decide +kernel) (br_f (by decide +kernel) ?_))
  refine pt_ra0121_1 (fun g hg => ?_)
  exact pt_bindT hg (hp g)
end
section
theorem pt_ra0122_0 {post : St2 → Prop} {f0_pendingCount : Int32} {a5 a6 : Nat → Int32} {a16 : Nat → Int64} (hp : ∀ g : Nat → Int64, (∀ i, i < 125 → g i = pt_G true true i) → post (4, f0_pendingCount, 2, 1, 1, 1, 3, (pt_v 0 0 20 20), (pt_v 3 5 0 1), (pt_v 0 0 0 0), (pt_v 0 1 2 2), a5, a6, (pt_v 20 0 0 0), (pt_v 0 1 4 0), (pt_v 20 0 0 0), (pt_v 0 1 0 0), (pt_v 1 0 0 0), (pt_v 1 0 0 0), (pt_v 2 1 0 0), (pt_v (-1) (-1) (-1) 0), (pt_v 3 (-1) (-1) 0), g)) : wpX_runAll post (4, f0_pendingCount, 2, 1, 1, 1, 3, (pt_v 0 0 20 20), (pt_v 3 5 0 1), (pt_v 0 0 0 0), (pt_v 0 1 2 2), a5, a6, (pt_v 20 0 0 0), (pt_v 0 1 4 0), (pt_v 20 0 0 0), (pt_v 0 1 0 0), (pt_v 1 0 0 0), (pt_v 1 0 0 0), (pt_v 0 0 0 0), (pt_v 0 0 0 0), (pt_v 0 0 0 0), a16) := by
  unfold wpX_runAll
  refine pt_clear ?_
  intro g hg
  repeat (first
      | (refine pt_note0 (by assumption) ?_; intro g hg)
      | (refine pt_note1 (by assumption) ?_; intro g hg)
      | refine br_t (by decide +kernel) ?_
      | refine br_f (by decide +kernel) ?_
      | refine And.intro (vp_in_iff.mpr (by decide +kernel)) ?_
      | refine nm_r (pt_is 0 (by decide +kernel)) ?_
      | refine nm_r (pt_is 1 (by decide +kernel)) ?_
      | refine nm_r (pt_is 2 (by decide +kernel)) ?_
      | refine nm_r (pt_is 3 (by decide +kernel)) ?_
      | refine nm_r (pt_is 4 (by decide +kernel)) ?_
      | refine nm_r (pt_is (-1) (by decide +kernel)) ?_
      | refine nm_r (pt_is 20 (by decide +kernel)) ?_
      | refine nm_r (pt_is 400 (by decide +kernel)) ?_
      | refine nm_r (pt_is 5 (by decide +kernel)) ?_
      | refine nm_r (pt_w0 (by decide +kernel) (by first | exact pt_is 0 (by decide +kernel) | exact pt_is 1 (by decide +kernel) | exact pt_is 2 (by decide +kernel) | exact pt_is 3 (by decide +kernel) | exact pt_is 4 (by decide +kernel) | exact pt_is (-1) (by decide +kernel) | exact pt_is 20 (by decide +kernel) | exact pt_is 400 (by decide +kernel) | exact pt_is 5 (by decide +kernel))) ?_
      | refine nm_r (pt_w1 (by decide +kernel) (by first | exact pt_is 0 (by decide +kernel) | exact pt_is 1 (by decide +kernel) | exact pt_is 2 (by decide +kernel) | exact pt_is 3 (by decide +kernel) | exact pt_is 4 (by decide +kernel) | exact pt_is (-1) (by decide +kernel) | exact pt_is 20 (by decide +kernel) | exact pt_is 400 (by decide +kernel) | exact pt_is 5 (by decide +kernel))) ?_
      | refine nm_r (pt_w2 (by decide +kernel) (by first | exact pt_is 0 (by decide +kernel) | exact pt_is 1 (by decide +kernel) | exact pt_is 2 (by decide +kernel) | exact pt_is 3 (by decide +kernel) | exact pt_is 4 (by decide +kernel) | exact pt_is (-1) (by decide +kernel) | exact pt_is 20 (by decide +kernel) | exact pt_is 400 (by decide +kernel) | exact pt_is 5 (by decide +kernel))) ?_
      | refine nm_r (pt_w3 (by decide +kernel) (by first | exact pt_is 0 (by decide +kernel) | exact pt_is 1 (by decide +kernel) | exact pt_is 2 (by decide +kernel) | exact pt_is 3 (by decide +kernel) | exact pt_is 4 (by decide +kernel) | exact pt_is (-1) (by decide +kernel) | exact pt_is 20 (by decide +kernel) | exact pt_is 400 (by decide +kernel) | exact pt_is 5 (by decide +kernel))) ?_
      | refine Exists.intro 30 ?_)
  exact hp _ (by assumption)
theorem pt_ra0122_1 {post : St2 → Prop} {f0_pendingCount : Int32} {a5 a6 : Nat → Int32} {a16 : Nat → Int64} (hp : ∀ g : Nat → Int64, (∀ i, i < 125 → g i = pt_G true true i) → post (4, f0_pendingCount, 2, 1, 1, 1, 3, (pt_v 0 0 20 20), (pt_v 3 5 0 1), (pt_v 0 0 0 0), (pt_v 0 1 2 2), a5, a6, (pt_v 20 0 0 0), (pt_v 0 1 4 0), (pt_v 20 0 0 0), (pt_v 0 1 0 0), (pt_v 1 0 0 0), (pt_v 1 0 0 0), (pt_v 2 1 0 0), (pt_v (-1) (-1) (-1) 0), (pt_v 3 (-1) (-1) 0), g)) : wpX_runAll post (4, f0_pendingCount, 2, 1, 1, 1, 3, (pt_v 0 0 20 20), (pt_v 3 5 0 1), (pt_v 0 0 0 0), (pt_v 0 1 2 2), a5, a6, (pt_v 20 0 0 0), (pt_v 0 1 4 0), (pt_v 20 0 0 0), (pt_v 0 1 0 0), (pt_v 1 0 0 0), (pt_v 1 0 0 0), (pt_v 2 1 0 0), (pt_v (-1) (-1) (-1) 0), (pt_v 3 (-1) (-1) 0), a16) := by
  unfold wpX_runAll
  refine pt_clear ?_
  intro g hg
  repeat (first
      | (refine pt_note0 (by assumption) ?_; intro g hg)
      | (refine pt_note1 (by assumption) ?_; intro g hg)
      | refine br_t (by decide +kernel) ?_
      | refine br_f (by decide +kernel) ?_
      | refine And.intro (vp_in_iff.mpr (by decide +kernel)) ?_
      | refine nm_r (pt_is 0 (by decide +kernel)) ?_
      | refine nm_r (pt_is 1 (by decide +kernel)) ?_
      | refine nm_r (pt_is 2 (by decide +kernel)) ?_
      | refine nm_r (pt_is 3 (by decide +kernel)) ?_
      | refine nm_r (pt_is 4 (by decide +kernel)) ?_
      | refine nm_r (pt_is (-1) (by decide +kernel)) ?_
      | refine nm_r (pt_is 20 (by decide +kernel)) ?_
      | refine nm_r (pt_is 400 (by decide +kernel)) ?_
      | refine nm_r (pt_is 5 (by decide +kernel)) ?_
      | refine nm_r (pt_w0 (by decide +kernel) (by first | exact pt_is 0 (by decide +kernel) | exact pt_is 1 (by decide +kernel) | exact pt_is 2 (by decide +kernel) | exact pt_is 3 (by decide +kernel) | exact pt_is 4 (by decide +kernel) | exact pt_is (-1) (by decide +kernel) | exact pt_is 20 (by decide +kernel) | exact pt_is 400 (by decide +kernel) | exact pt_is 5 (by decide +kernel))) ?_
      | refine nm_r (pt_w1 (by decide +kernel) (by first | exact pt_is 0 (by decide +kernel) | exact pt_is 1 (by decide +kernel) | exact pt_is 2 (by decide +kernel) | exact pt_is 3 (by decide +kernel) | exact pt_is 4 (by decide +kernel) | exact pt_is (-1) (by decide +kernel) | exact pt_is 20 (by decide +kernel) | exact pt_is 400 (by decide +kernel) | exact pt_is 5 (by decide +kernel))) ?_
      | refine nm_r (pt_w2 (by decide +kernel) (by first | exact pt_is 0 (by decide +kernel) | exact pt_is 1 (by decide +kernel) | exact pt_is 2 (by decide +kernel) | exact pt_is 3 (by decide +kernel) | exact pt_is 4 (by decide +kernel) | exact pt_is (-1) (by decide +kernel) | exact pt_is 20 (by decide +kernel) | exact pt_is 400 (by decide +kernel) | exact pt_is 5 (by decide +kernel))) ?_
      | refine nm_r (pt_w3 (by decide +kernel) (by first | exact pt_is 0 (by decide +kernel) | exact pt_is 1 (by decide +kernel) | exact pt_is 2 (by decide +kernel) | exact pt_is 3 (by decide +kernel) | exact pt_is 4 (by decide +kernel) | exact pt_is (-1) (by decide +kernel) | exact pt_is 20 (by decide +kernel) | exact pt_is 400 (by decide +kernel) | exact pt_is 5 (by decide +kernel))) ?_
      | refine Exists.intro 30 ?_)
  exact hp _ (by assumption)
theorem pt_m0122 {post : Int32 → St2 → Prop} {f0_pendingCount f0_isWhole f0_variableSet f0_codeEnd : Int32} {a5 a6 : Nat → Int32} {a16 : Nat → Int64} (hp : ∀ g : Nat → Int64, post 2 (4, f0_pendingCount, 2, 1, 1, 1, 3, (pt_v 0 0 20 20), (pt_v 3 5 0 1), (pt_v 0 0 0 0), (pt_v 0 1 2 2), a5, a6, (pt_v 20 0 0 0), (pt_v 0 1 4 0), (pt_v 20 0 0 0), (pt_v 0 1 0 0), (pt_v 1 0 0 0), (pt_v 1 0 0 0), (pt_v 2 1 0 0), (pt_v (-1) (-1) (-1) 0), (pt_v 3 (-1) (-1) 0), g)) : wpX_matches post (4, f0_pendingCount, 2, 0, f0_isWhole, f0_variableSet, f0_codeEnd, (pt_v 0 0 20 20), (pt_v 3 5 0 1), (pt_v 0 0 0 0), (pt_v 0 1 2 2), a5, a6, (pt_v 20 0 0 0), (pt_v 0 0 0 0), (pt_v 0 0 0 0), (pt_v 0 0 0 0), (pt_v 0 0 0 0), (pt_v 0 0 0 0), (pt_v 0 0 0 0), (pt_v 0 0 0 0), (pt_v 0 0 0 0), a16) := by
  unfold wpX_matches
  refine pt_comp ?_
  refine br_f (by decide +kernel) ?_
  refine pt_ra0122_0 (fun g hg => ?_)
  exact pt_countT hg (hp g)
theorem pt_b0122 {post : Int32 → St2 → Prop} {f0_pendingCount : Int32} {a5 a6 : Nat → Int32} {a16 : Nat → Int64} (hp : ∀ g : Nat → Int64, post 1 (4, f0_pendingCount, 2, 1, 1, 1, 3, (pt_v 0 0 20 20), (pt_v 3 5 0 1), (pt_v 0 0 0 0), (pt_v 0 1 2 2), a5, a6, (pt_v 20 0 0 0), (pt_v 0 1 4 0), (pt_v 20 0 0 0), (pt_v 0 1 0 0), (pt_v 1 0 0 0), (pt_v 1 0 0 0), (pt_v 2 1 0 0), (pt_v (-1) (-1) (-1) 0), (pt_v 3 (-1) (-1) 0), g)) : wpX_binding post (4, f0_pendingCount, 2, 1, 1, 1, 3, (pt_v 0 0 20 20), (pt_v 3 5 0 1), (pt_v 0 0 0 0), (pt_v 0 1 2 2), a5, a6, (pt_v 20 0 0 0), (pt_v 0 1 4 0), (pt_v 20 0 0 0), (pt_v 0 1 0 0), (pt_v 1 0 0 0), (pt_v 1 0 0 0), (pt_v 2 1 0 0), (pt_v (-1) (-1) (-1) 0), (pt_v 3 (-1) (-1) 0), a16) 1 0 := by
  unfold wpX_binding
  refine br_f (by decide +kernel) (br_t (by decide +kernel) (pt_comp2 ?_))
  refine br_f (by decide +kernel) (br_f (by decide +kernel) (br_f (by decide +kernel) ?_))
  refine pt_ra0122_1 (fun g hg => ?_)
  exact pt_bindT hg (hp g)
end
section
theorem pt_ra0123_0 {post : St2 → Prop} {f0_pendingCount : Int32} {a5 a6 : Nat → Int32} {a16 : Nat → Int64} (hp : ∀ g : Nat → Int64, (∀ i, i < 125 → g i = pt_G true true i) → post (4, f0_pendingCount, 2, 1, 1, 1, 3, (pt_v 0 0 20 20), (pt_v 3 5 0 1), (pt_v 0 0 0 0), (pt_v 0 1 2 3), a5, a6, (pt_v 20 0 0 0), (pt_v 0 1 4 0), (pt_v 20 0 0 0), (pt_v 0 1 0 0), (pt_v 1 0 0 0), (pt_v 1 0 0 0), (pt_v 3 1 0 0), (pt_v (-1) (-1) (-1) 0), (pt_v 3 (-1) (-1) 0), g)) : wpX_runAll post (4, f0_pendingCount, 2, 1, 1, 1, 3, (pt_v 0 0 20 20), (pt_v 3 5 0 1), (pt_v 0 0 0 0), (pt_v 0 1 2 3), a5, a6, (pt_v 20 0 0 0), (pt_v 0 1 4 0), (pt_v 20 0 0 0), (pt_v 0 1 0 0), (pt_v 1 0 0 0), (pt_v 1 0 0 0), (pt_v 0 0 0 0), (pt_v 0 0 0 0), (pt_v 0 0 0 0), a16) := by
  unfold wpX_runAll
  refine pt_clear ?_
  intro g hg
  repeat (first
      | (refine pt_note0 (by assumption) ?_; intro g hg)
      | (refine pt_note1 (by assumption) ?_; intro g hg)
      | refine br_t (by decide +kernel) ?_
      | refine br_f (by decide +kernel) ?_
      | refine And.intro (vp_in_iff.mpr (by decide +kernel)) ?_
      | refine nm_r (pt_is 0 (by decide +kernel)) ?_
      | refine nm_r (pt_is 1 (by decide +kernel)) ?_
      | refine nm_r (pt_is 2 (by decide +kernel)) ?_
      | refine nm_r (pt_is 3 (by decide +kernel)) ?_
      | refine nm_r (pt_is 4 (by decide +kernel)) ?_
      | refine nm_r (pt_is (-1) (by decide +kernel)) ?_
      | refine nm_r (pt_is 20 (by decide +kernel)) ?_
      | refine nm_r (pt_is 400 (by decide +kernel)) ?_
      | refine nm_r (pt_is 5 (by decide +kernel)) ?_
      | refine nm_r (pt_w0 (by decide +kernel) (by first | exact pt_is 0 (by decide +kernel) | exact pt_is 1 (by decide +kernel) | exact pt_is 2 (by decide +kernel) | exact pt_is 3 (by decide +kernel) | exact pt_is 4 (by decide +kernel) | exact pt_is (-1) (by decide +kernel) | exact pt_is 20 (by decide +kernel) | exact pt_is 400 (by decide +kernel) | exact pt_is 5 (by decide +kernel))) ?_
      | refine nm_r (pt_w1 (by decide +kernel) (by first | exact pt_is 0 (by decide +kernel) | exact pt_is 1 (by decide +kernel) | exact pt_is 2 (by decide +kernel) | exact pt_is 3 (by decide +kernel) | exact pt_is 4 (by decide +kernel) | exact pt_is (-1) (by decide +kernel) | exact pt_is 20 (by decide +kernel) | exact pt_is 400 (by decide +kernel) | exact pt_is 5 (by decide +kernel))) ?_
      | refine nm_r (pt_w2 (by decide +kernel) (by first | exact pt_is 0 (by decide +kernel) | exact pt_is 1 (by decide +kernel) | exact pt_is 2 (by decide +kernel) | exact pt_is 3 (by decide +kernel) | exact pt_is 4 (by decide +kernel) | exact pt_is (-1) (by decide +kernel) | exact pt_is 20 (by decide +kernel) | exact pt_is 400 (by decide +kernel) | exact pt_is 5 (by decide +kernel))) ?_
      | refine nm_r (pt_w3 (by decide +kernel) (by first | exact pt_is 0 (by decide +kernel) | exact pt_is 1 (by decide +kernel) | exact pt_is 2 (by decide +kernel) | exact pt_is 3 (by decide +kernel) | exact pt_is 4 (by decide +kernel) | exact pt_is (-1) (by decide +kernel) | exact pt_is 20 (by decide +kernel) | exact pt_is 400 (by decide +kernel) | exact pt_is 5 (by decide +kernel))) ?_
      | refine Exists.intro 30 ?_)
  exact hp _ (by assumption)
theorem pt_ra0123_1 {post : St2 → Prop} {f0_pendingCount : Int32} {a5 a6 : Nat → Int32} {a16 : Nat → Int64} (hp : ∀ g : Nat → Int64, (∀ i, i < 125 → g i = pt_G true true i) → post (4, f0_pendingCount, 2, 1, 1, 1, 3, (pt_v 0 0 20 20), (pt_v 3 5 0 1), (pt_v 0 0 0 0), (pt_v 0 1 2 3), a5, a6, (pt_v 20 0 0 0), (pt_v 0 1 4 0), (pt_v 20 0 0 0), (pt_v 0 1 0 0), (pt_v 1 0 0 0), (pt_v 1 0 0 0), (pt_v 3 1 0 0), (pt_v (-1) (-1) (-1) 0), (pt_v 3 (-1) (-1) 0), g)) : wpX_runAll post (4, f0_pendingCount, 2, 1, 1, 1, 3, (pt_v 0 0 20 20), (pt_v 3 5 0 1), (pt_v 0 0 0 0), (pt_v 0 1 2 3), a5, a6, (pt_v 20 0 0 0), (pt_v 0 1 4 0), (pt_v 20 0 0 0), (pt_v 0 1 0 0), (pt_v 1 0 0 0), (pt_v 1 0 0 0), (pt_v 3 1 0 0), (pt_v (-1) (-1) (-1) 0), (pt_v 3 (-1) (-1) 0), a16) := by
  unfold wpX_runAll
  refine pt_clear ?_
  intro g hg
  repeat (first
      | (refine pt_note0 (by assumption) ?_; intro g hg)
      | (refine pt_note1 (by assumption) ?_; intro g hg)
      | refine br_t (by decide +kernel) ?_
      | refine br_f (by decide +kernel) ?_
      | refine And.intro (vp_in_iff.mpr (by decide +kernel)) ?_
      | refine nm_r (pt_is 0 (by decide +kernel)) ?_
      | refine nm_r (pt_is 1 (by decide +kernel)) ?_
      | refine nm_r (pt_is 2 (by decide +kernel)) ?_
      | refine nm_r (pt_is 3 (by decide +kernel)) ?_
      | refine nm_r (pt_is 4 (by decide +kernel)) ?_
      | refine nm_r (pt_is (-1) (by decide +kernel)) ?_
      | refine nm_r (pt_is 20 (by decide +kernel)) ?_
      | refine nm_r (pt_is 400 (by decide +kernel)) ?_
      | refine nm_r (pt_is 5 (by decide +kernel)) ?_
      | refine nm_r (pt_w0 (by decide +kernel) (by first | exact pt_is 0 (by decide +kernel) | exact pt_is 1 (by decide +kernel) | exact pt_is 2 (by decide +kernel) | exact pt_is 3 (by decide +kernel) | exact pt_is 4 (by decide +kernel) | exact pt_is (-1) (by decide +kernel) | exact pt_is 20 (by decide +kernel) | exact pt_is 400 (by decide +kernel) | exact pt_is 5 (by decide +kernel))) ?_
      | refine nm_r (pt_w1 (by decide +kernel) (by first | exact pt_is 0 (by decide +kernel) | exact pt_is 1 (by decide +kernel) | exact pt_is 2 (by decide +kernel) | exact pt_is 3 (by decide +kernel) | exact pt_is 4 (by decide +kernel) | exact pt_is (-1) (by decide +kernel) | exact pt_is 20 (by decide +kernel) | exact pt_is 400 (by decide +kernel) | exact pt_is 5 (by decide +kernel))) ?_
      | refine nm_r (pt_w2 (by decide +kernel) (by first | exact pt_is 0 (by decide +kernel) | exact pt_is 1 (by decide +kernel) | exact pt_is 2 (by decide +kernel) | exact pt_is 3 (by decide +kernel) | exact pt_is 4 (by decide +kernel) | exact pt_is (-1) (by decide +kernel) | exact pt_is 20 (by decide +kernel) | exact pt_is 400 (by decide +kernel) | exact pt_is 5 (by decide +kernel))) ?_
      | refine nm_r (pt_w3 (by decide +kernel) (by first | exact pt_is 0 (by decide +kernel) | exact pt_is 1 (by decide +kernel) | exact pt_is 2 (by decide +kernel) | exact pt_is 3 (by decide +kernel) | exact pt_is 4 (by decide +kernel) | exact pt_is (-1) (by decide +kernel) | exact pt_is 20 (by decide +kernel) | exact pt_is 400 (by decide +kernel) | exact pt_is 5 (by decide +kernel))) ?_
      | refine Exists.intro 30 ?_)
  exact hp _ (by assumption)
theorem pt_m0123 {post : Int32 → St2 → Prop} {f0_pendingCount f0_isWhole f0_variableSet f0_codeEnd : Int32} {a5 a6 : Nat → Int32} {a16 : Nat → Int64} (hp : ∀ g : Nat → Int64, post 2 (4, f0_pendingCount, 2, 1, 1, 1, 3, (pt_v 0 0 20 20), (pt_v 3 5 0 1), (pt_v 0 0 0 0), (pt_v 0 1 2 3), a5, a6, (pt_v 20 0 0 0), (pt_v 0 1 4 0), (pt_v 20 0 0 0), (pt_v 0 1 0 0), (pt_v 1 0 0 0), (pt_v 1 0 0 0), (pt_v 3 1 0 0), (pt_v (-1) (-1) (-1) 0), (pt_v 3 (-1) (-1) 0), g)) : wpX_matches post (4, f0_pendingCount, 2, 0, f0_isWhole, f0_variableSet, f0_codeEnd, (pt_v 0 0 20 20), (pt_v 3 5 0 1), (pt_v 0 0 0 0), (pt_v 0 1 2 3), a5, a6, (pt_v 20 0 0 0), (pt_v 0 0 0 0), (pt_v 0 0 0 0), (pt_v 0 0 0 0), (pt_v 0 0 0 0), (pt_v 0 0 0 0), (pt_v 0 0 0 0), (pt_v 0 0 0 0), (pt_v 0 0 0 0), a16) := by
  unfold wpX_matches
  refine pt_comp ?_
  refine br_f (by decide +kernel) ?_
  refine pt_ra0123_0 (fun g hg => ?_)
  exact pt_countT hg (hp g)
theorem pt_b0123 {post : Int32 → St2 → Prop} {f0_pendingCount : Int32} {a5 a6 : Nat → Int32} {a16 : Nat → Int64} (hp : ∀ g : Nat → Int64, post 1 (4, f0_pendingCount, 2, 1, 1, 1, 3, (pt_v 0 0 20 20), (pt_v 3 5 0 1), (pt_v 0 0 0 0), (pt_v 0 1 2 3), a5, a6, (pt_v 20 0 0 0), (pt_v 0 1 4 0), (pt_v 20 0 0 0), (pt_v 0 1 0 0), (pt_v 1 0 0 0), (pt_v 1 0 0 0), (pt_v 3 1 0 0), (pt_v (-1) (-1) (-1) 0), (pt_v 3 (-1) (-1) 0), g)) : wpX_binding post (4, f0_pendingCount, 2, 1, 1, 1, 3, (pt_v 0 0 20 20), (pt_v 3 5 0 1), (pt_v 0 0 0 0), (pt_v 0 1 2 3), a5, a6, (pt_v 20 0 0 0), (pt_v 0 1 4 0), (pt_v 20 0 0 0), (pt_v 0 1 0 0), (pt_v 1 0 0 0), (pt_v 1 0 0 0), (pt_v 3 1 0 0), (pt_v (-1) (-1) (-1) 0), (pt_v 3 (-1) (-1) 0), a16) 1 0 := by
  unfold wpX_binding
  refine br_f (by decide +kernel) (br_t (by decide +kernel) (pt_comp2 ?_))
  refine br_f (by decide +kernel) (br_f (by decide +kernel) (br_f (by decide +kernel) ?_))
  refine pt_ra0123_1 (fun g hg => ?_)
  exact pt_bindT hg (hp g)
end
section
theorem pt_lead {P Q : Int32 → Prop} {f0_nodeCount f0_pendingCount f0_tokenCount f0_compiled f0_isWhole f0_variableSet f0_codeEnd : Int32} {a1 a2 a3 a4 a5 a6 a7 a8 a9 a10 a11 a12 a13 a14 a15 : Nat → Int32} {a16 : Nat → Int64} {c : Int32} (h : wpX_leader P (f0_nodeCount, f0_pendingCount, f0_tokenCount, f0_compiled, f0_isWhole, f0_variableSet, f0_codeEnd, a1, a2, a3, a4, a5, a6, a7, a8, a9, a10, a11, a12, a13, a14, a15, a16) c) (hq : ∀ r, P r → Q r) : wpX_leader Q (f0_nodeCount, f0_pendingCount, f0_tokenCount, f0_compiled, f0_isWhole, f0_variableSet, f0_codeEnd, a1, a2, a3, a4, a5, a6, a7, a8, a9, a10, a11, a12, a13, a14, a15, a16) c := by
  unfold wpX_leader wpX_isNode at h
  dsimp only at h
  exact br_c (fun h0 => br_t rfl (hq _ ((h.1 h0).1 rfl))) (fun h0 => br_c (fun h1 => br_t rfl (hq _ (((h.2 h0).1 h1).1 rfl))) (fun h1 => br_f (by decide) ⟨(((h.2 h0).2 h1).2 (by decide)).1, hq _ (((h.2 h0).2 h1).2 (by decide)).2⟩))
theorem pt_ln {f0_pendingCount f0_tokenCount f0_compiled f0_isWhole f0_variableSet f0_codeEnd : Int32} {a1 a2 a3 a4 a5 a6 a7 a8 a9 a10 a11 a12 a13 a14 a15 : Nat → Int32} {a16 : Nat → Int64} {c : Int32} (h : c < 0 ∨ 4 ≤ c) : wpX_leader (fun r => r = -1) (4, f0_pendingCount, f0_tokenCount, f0_compiled, f0_isWhole, f0_variableSet, f0_codeEnd, a1, a2, a3, a4, a5, a6, a7, a8, a9, a10, a11, a12, a13, a14, a15, a16) c := by
  by_cases h0 : c < 0
  · exact br_t h0 (br_t rfl rfl)
  · exact br_f h0 (br_t (h.resolve_left h0) (br_t rfl rfl))
theorem pt_ly {f0_pendingCount f0_tokenCount f0_compiled f0_isWhole f0_variableSet f0_codeEnd : Int32} {a1 a2 a3 a4 a5 a6 a7 a8 a9 a10 a11 a12 a13 a14 a15 : Nat → Int32} {a16 : Nat → Int64} {c z : Int32} (h0 : ¬ c < 0) (h1 : ¬ 4 ≤ c) (h2 : vp_in c 20) (h3 : a4 c.toNatClampNeg = z) : wpX_leader (fun r => r = z) (4, f0_pendingCount, f0_tokenCount, f0_compiled, f0_isWhole, f0_variableSet, f0_codeEnd, a1, a2, a3, a4, a5, a6, a7, a8, a9, a10, a11, a12, a13, a14, a15, a16) c :=
  br_f h0 (br_f h1 (br_f (by decide) ⟨h2, h3⟩))
theorem pt_i3 : (3 : Int32).toInt = 3 := by decide
theorem pt_i4 : (4 : Int32).toInt = 4 := by decide
theorem pt_34 {c : Int32} (h : 4 ≤ c) : ¬ c < 0 ∧ ¬ c ≤ 3 := by
  have h' := Int32.le_iff_toInt_le.mp h
  rw [pt_i4] at h'
  refine ⟨fun z => ?_, fun z => ?_⟩
  · have z' := Int32.lt_iff_toInt_lt.mp z
    rw [show (0 : Int32).toInt = 0 by decide] at z'
    omega
  · have z' := Int32.le_iff_toInt_le.mp z
    rw [pt_i3] at z'
    omega
theorem pt_43 {c : Int32} (h : 3 < c) : 4 ≤ c := by
  have h' := Int32.lt_iff_toInt_lt.mp h
  rw [pt_i3] at h'
  refine Int32.le_iff_toInt_le.mpr ?_
  rw [pt_i4]
  omega
theorem pt_03 {c : Int32} (h0 : ¬ c < 0) (h : ¬ 3 < c) : ∃ j : Nat, j < 4 ∧ c = nI j := by
  obtain ⟨j, hj, e⟩ := nI_of2 (M := 3) (n := 3) pt_i3 h0 (Int32.not_lt.mp h)
  exact ⟨j, by omega, e⟩
theorem pt_isN {post : Int32 → Prop} {f0_pendingCount f0_tokenCount f0_compiled f0_isWhole f0_variableSet f0_codeEnd : Int32} {a1 a2 a3 a4 a5 a6 a7 a8 a9 a10 a11 a12 a13 a14 a15 : Nat → Int32} {a16 : Nat → Int64} {c : Int32} (h : c < 0 ∨ 4 ≤ c) (hp : post 0) : wpX_isNode post (4, f0_pendingCount, f0_tokenCount, f0_compiled, f0_isWhole, f0_variableSet, f0_codeEnd, a1, a2, a3, a4, a5, a6, a7, a8, a9, a10, a11, a12, a13, a14, a15, a16) c := by
  by_cases h0 : c < 0
  · exact br_t h0 hp
  · exact br_f h0 (br_t (h.resolve_left h0) hp)
theorem pt_isA {post : Int32 → Prop} {f0_pendingCount f0_tokenCount f0_compiled f0_isWhole f0_variableSet f0_codeEnd : Int32} {a1 a2 a3 a4 a5 a6 a7 a8 a9 a10 a11 a12 a13 a14 a15 : Nat → Int32} {a16 : Nat → Int64} {c : Int32} (hp : c < 0 ∨ 4 ≤ c → post 0) (hq : post 1) : wpX_isNode post (4, f0_pendingCount, f0_tokenCount, f0_compiled, f0_isWhole, f0_variableSet, f0_codeEnd, a1, a2, a3, a4, a5, a6, a7, a8, a9, a10, a11, a12, a13, a14, a15, a16) c :=
  br_c (fun h => hp (Or.inl h)) (fun h => br_c (fun h1 => hp (Or.inr h1)) (fun _ => hq))
theorem pt_ebad {post : Int32 → St2 → Prop} {f0_pendingCount f0_tokenCount f0_compiled f0_isWhole f0_variableSet f0_codeEnd : Int32} {a1 a2 a3 a4 a5 a6 a7 a8 a9 a10 a11 a12 a13 a14 a15 : Nat → Int32} {a16 : Nat → Int64} {a b : Int32} (h : (a < 0 ∨ 4 ≤ a) ∨ (b < 0 ∨ 4 ≤ b)) (hp : post (-1) (4, f0_pendingCount, f0_tokenCount, f0_compiled, f0_isWhole, f0_variableSet, f0_codeEnd, a1, a2, a3, a4, a5, a6, a7, a8, a9, a10, a11, a12, a13, a14, a15, a16)) : wpX_equate post (4, f0_pendingCount, f0_tokenCount, f0_compiled, f0_isWhole, f0_variableSet, f0_codeEnd, a1, a2, a3, a4, a5, a6, a7, a8, a9, a10, a11, a12, a13, a14, a15, a16) a b := by
  unfold wpX_equate
  dsimp only
  by_cases h1 : a < 0 ∨ 4 ≤ a
  · exact pt_isN h1 (br_t rfl hp)
  · exact pt_isA (fun z => br_t rfl hp) (br_f (by decide) (pt_isN (h.resolve_left h1) (br_t rfl hp)))
theorem pt_230_0123 {mc ms kc ks : Nat} {c z : Int32} {f0_pendingCount : Int32} {a5 a6 : Nat → Int32} {a16 : Nat → Int64} (hl : wpX_leader (fun r => r = z) (4, f0_pendingCount, 0, 0, 0, 0, 0, (pt_v 0 0 20 20), (pt_v 3 5 0 1), (pt_v 0 0 0 0), (pt_v 0 1 2 3), a5, a6, (pt_v 0 0 0 0), (pt_v 0 0 0 0), (pt_v 0 0 0 0), (pt_v 0 0 0 0), (pt_v 0 0 0 0), (pt_v 0 0 0 0), (pt_v 0 0 0 0), (pt_v 0 0 0 0), (pt_v 0 0 0 0), a16) c) : wL_lawOf_230 (fun r _ => r = 1) mc ms c 0 z kc ks 4 f0_pendingCount 0 0 0 0 0 (pt_v 0 0 20 20) (pt_v 3 5 0 1) (pt_v 0 0 0 0) (pt_v 0 1 2 3) a5 a6 (pt_v 0 0 0 0) (pt_v 0 0 0 0) (pt_v 0 0 0 0) (pt_v 0 0 0 0) (pt_v 0 0 0 0) (pt_v 0 0 0 0) (pt_v 0 0 0 0) (pt_v 0 0 0 0) (pt_v 0 0 0 0) a16 := by
  unfold wL_lawOf_230
  refine pt_lead hl (fun r hr => ?_)
  refine br_t hr ?_
  refine pt_t0 (br_t rfl ?_)
  refine pt_t1 (br_t rfl ?_)
  refine pt_m0123 (fun g => ?_)
  refine br_t (by decide +kernel) ?_
  refine br_t (by decide +kernel) ?_
  refine pt_b0123 (fun g => ?_)
  refine br_t (by decide +kernel) ?_
  exact br_t (by decide +kernel) rfl
theorem pt_230_0022 {mc ms kc ks : Nat} {c z : Int32} {f0_pendingCount : Int32} {a5 a6 : Nat → Int32} {a16 : Nat → Int64} (hl : wpX_leader (fun r => r = z) (4, f0_pendingCount, 0, 0, 0, 0, 0, (pt_v 0 0 20 20), (pt_v 3 5 0 1), (pt_v 0 0 0 0), (pt_v 0 0 2 2), a5, a6, (pt_v 0 0 0 0), (pt_v 0 0 0 0), (pt_v 0 0 0 0), (pt_v 0 0 0 0), (pt_v 0 0 0 0), (pt_v 0 0 0 0), (pt_v 0 0 0 0), (pt_v 0 0 0 0), (pt_v 0 0 0 0), a16) c) : wL_lawOf_230 (fun r _ => r = 1) mc ms c 1 z kc ks 4 f0_pendingCount 0 0 0 0 0 (pt_v 0 0 20 20) (pt_v 3 5 0 1) (pt_v 0 0 0 0) (pt_v 0 0 2 2) a5 a6 (pt_v 0 0 0 0) (pt_v 0 0 0 0) (pt_v 0 0 0 0) (pt_v 0 0 0 0) (pt_v 0 0 0 0) (pt_v 0 0 0 0) (pt_v 0 0 0 0) (pt_v 0 0 0 0) (pt_v 0 0 0 0) a16 := by
  unfold wL_lawOf_230
  refine pt_lead hl (fun r hr => ?_)
  refine br_t hr ?_
  refine pt_t0 (br_t rfl ?_)
  refine pt_t1 (br_t rfl ?_)
  refine pt_m0022 (fun g => ?_)
  refine br_f (by decide +kernel) ?_
  refine br_t (by decide +kernel) ?_
  refine pt_b0022 (fun g => ?_)
  refine br_f (by decide +kernel) ?_
  exact br_t (by decide +kernel) rfl
theorem pt_230_0103 {mc ms kc ks : Nat} {c z : Int32} {f0_pendingCount : Int32} {a5 a6 : Nat → Int32} {a16 : Nat → Int64} (hl : wpX_leader (fun r => r = z) (4, f0_pendingCount, 0, 0, 0, 0, 0, (pt_v 0 0 20 20), (pt_v 3 5 0 1), (pt_v 0 0 0 0), (pt_v 0 1 0 3), a5, a6, (pt_v 0 0 0 0), (pt_v 0 0 0 0), (pt_v 0 0 0 0), (pt_v 0 0 0 0), (pt_v 0 0 0 0), (pt_v 0 0 0 0), (pt_v 0 0 0 0), (pt_v 0 0 0 0), (pt_v 0 0 0 0), a16) c) : wL_lawOf_230 (fun r _ => r = 1) mc ms c 0 z kc ks 4 f0_pendingCount 0 0 0 0 0 (pt_v 0 0 20 20) (pt_v 3 5 0 1) (pt_v 0 0 0 0) (pt_v 0 1 0 3) a5 a6 (pt_v 0 0 0 0) (pt_v 0 0 0 0) (pt_v 0 0 0 0) (pt_v 0 0 0 0) (pt_v 0 0 0 0) (pt_v 0 0 0 0) (pt_v 0 0 0 0) (pt_v 0 0 0 0) (pt_v 0 0 0 0) a16 := by
  unfold wL_lawOf_230
  refine pt_lead hl (fun r hr => ?_)
  refine br_t hr ?_
  refine pt_t0 (br_t rfl ?_)
  refine pt_t1 (br_t rfl ?_)
  refine pt_m0103 (fun g => ?_)
  refine br_t (by decide +kernel) ?_
  refine br_t (by decide +kernel) ?_
  refine pt_b0103 (fun g => ?_)
  refine br_t (by decide +kernel) ?_
  exact br_t (by decide +kernel) rfl
theorem pt_230_0120 {mc ms kc ks : Nat} {c z : Int32} {f0_pendingCount : Int32} {a5 a6 : Nat → Int32} {a16 : Nat → Int64} (hl : wpX_leader (fun r => r = z) (4, f0_pendingCount, 0, 0, 0, 0, 0, (pt_v 0 0 20 20), (pt_v 3 5 0 1), (pt_v 0 0 0 0), (pt_v 0 1 2 0), a5, a6, (pt_v 0 0 0 0), (pt_v 0 0 0 0), (pt_v 0 0 0 0), (pt_v 0 0 0 0), (pt_v 0 0 0 0), (pt_v 0 0 0 0), (pt_v 0 0 0 0), (pt_v 0 0 0 0), (pt_v 0 0 0 0), a16) c) : wL_lawOf_230 (fun r _ => r = 1) mc ms c 0 z kc ks 4 f0_pendingCount 0 0 0 0 0 (pt_v 0 0 20 20) (pt_v 3 5 0 1) (pt_v 0 0 0 0) (pt_v 0 1 2 0) a5 a6 (pt_v 0 0 0 0) (pt_v 0 0 0 0) (pt_v 0 0 0 0) (pt_v 0 0 0 0) (pt_v 0 0 0 0) (pt_v 0 0 0 0) (pt_v 0 0 0 0) (pt_v 0 0 0 0) (pt_v 0 0 0 0) a16 := by
  unfold wL_lawOf_230
  refine pt_lead hl (fun r hr => ?_)
  refine br_t hr ?_
  refine pt_t0 (br_t rfl ?_)
  refine pt_t1 (br_t rfl ?_)
  refine pt_m0120 (fun g => ?_)
  refine br_t (by decide +kernel) ?_
  refine br_t (by decide +kernel) ?_
  refine pt_b0120 (fun g => ?_)
  refine br_t (by decide +kernel) ?_
  exact br_t (by decide +kernel) rfl
theorem pt_230_0113 {mc ms kc ks : Nat} {c z : Int32} {f0_pendingCount : Int32} {a5 a6 : Nat → Int32} {a16 : Nat → Int64} (hl : wpX_leader (fun r => r = z) (4, f0_pendingCount, 0, 0, 0, 0, 0, (pt_v 0 0 20 20), (pt_v 3 5 0 1), (pt_v 0 0 0 0), (pt_v 0 1 1 3), a5, a6, (pt_v 0 0 0 0), (pt_v 0 0 0 0), (pt_v 0 0 0 0), (pt_v 0 0 0 0), (pt_v 0 0 0 0), (pt_v 0 0 0 0), (pt_v 0 0 0 0), (pt_v 0 0 0 0), (pt_v 0 0 0 0), a16) c) : wL_lawOf_230 (fun r _ => r = 1) mc ms c 0 z kc ks 4 f0_pendingCount 0 0 0 0 0 (pt_v 0 0 20 20) (pt_v 3 5 0 1) (pt_v 0 0 0 0) (pt_v 0 1 1 3) a5 a6 (pt_v 0 0 0 0) (pt_v 0 0 0 0) (pt_v 0 0 0 0) (pt_v 0 0 0 0) (pt_v 0 0 0 0) (pt_v 0 0 0 0) (pt_v 0 0 0 0) (pt_v 0 0 0 0) (pt_v 0 0 0 0) a16 := by
  unfold wL_lawOf_230
  refine pt_lead hl (fun r hr => ?_)
  refine br_t hr ?_
  refine pt_t0 (br_t rfl ?_)
  refine pt_t1 (br_t rfl ?_)
  refine pt_m0113 (fun g => ?_)
  refine br_t (by decide +kernel) ?_
  refine br_t (by decide +kernel) ?_
  refine pt_b0113 (fun g => ?_)
  refine br_t (by decide +kernel) ?_
  exact br_t (by decide +kernel) rfl
theorem pt_230_0121 {mc ms kc ks : Nat} {c z : Int32} {f0_pendingCount : Int32} {a5 a6 : Nat → Int32} {a16 : Nat → Int64} (hl : wpX_leader (fun r => r = z) (4, f0_pendingCount, 0, 0, 0, 0, 0, (pt_v 0 0 20 20), (pt_v 3 5 0 1), (pt_v 0 0 0 0), (pt_v 0 1 2 1), a5, a6, (pt_v 0 0 0 0), (pt_v 0 0 0 0), (pt_v 0 0 0 0), (pt_v 0 0 0 0), (pt_v 0 0 0 0), (pt_v 0 0 0 0), (pt_v 0 0 0 0), (pt_v 0 0 0 0), (pt_v 0 0 0 0), a16) c) : wL_lawOf_230 (fun r _ => r = 1) mc ms c 0 z kc ks 4 f0_pendingCount 0 0 0 0 0 (pt_v 0 0 20 20) (pt_v 3 5 0 1) (pt_v 0 0 0 0) (pt_v 0 1 2 1) a5 a6 (pt_v 0 0 0 0) (pt_v 0 0 0 0) (pt_v 0 0 0 0) (pt_v 0 0 0 0) (pt_v 0 0 0 0) (pt_v 0 0 0 0) (pt_v 0 0 0 0) (pt_v 0 0 0 0) (pt_v 0 0 0 0) a16 := by
  unfold wL_lawOf_230
  refine pt_lead hl (fun r hr => ?_)
  refine br_t hr ?_
  refine pt_t0 (br_t rfl ?_)
  refine pt_t1 (br_t rfl ?_)
  refine pt_m0121 (fun g => ?_)
  refine br_t (by decide +kernel) ?_
  refine br_t (by decide +kernel) ?_
  refine pt_b0121 (fun g => ?_)
  refine br_t (by decide +kernel) ?_
  exact br_t (by decide +kernel) rfl
theorem pt_230_0122 {mc ms kc ks : Nat} {c z : Int32} {f0_pendingCount : Int32} {a5 a6 : Nat → Int32} {a16 : Nat → Int64} (hl : wpX_leader (fun r => r = z) (4, f0_pendingCount, 0, 0, 0, 0, 0, (pt_v 0 0 20 20), (pt_v 3 5 0 1), (pt_v 0 0 0 0), (pt_v 0 1 2 2), a5, a6, (pt_v 0 0 0 0), (pt_v 0 0 0 0), (pt_v 0 0 0 0), (pt_v 0 0 0 0), (pt_v 0 0 0 0), (pt_v 0 0 0 0), (pt_v 0 0 0 0), (pt_v 0 0 0 0), (pt_v 0 0 0 0), a16) c) : wL_lawOf_230 (fun r _ => r = 1) mc ms c 0 z kc ks 4 f0_pendingCount 0 0 0 0 0 (pt_v 0 0 20 20) (pt_v 3 5 0 1) (pt_v 0 0 0 0) (pt_v 0 1 2 2) a5 a6 (pt_v 0 0 0 0) (pt_v 0 0 0 0) (pt_v 0 0 0 0) (pt_v 0 0 0 0) (pt_v 0 0 0 0) (pt_v 0 0 0 0) (pt_v 0 0 0 0) (pt_v 0 0 0 0) (pt_v 0 0 0 0) a16 := by
  unfold wL_lawOf_230
  refine pt_lead hl (fun r hr => ?_)
  refine br_t hr ?_
  refine pt_t0 (br_t rfl ?_)
  refine pt_t1 (br_t rfl ?_)
  refine pt_m0122 (fun g => ?_)
  refine br_t (by decide +kernel) ?_
  refine br_t (by decide +kernel) ?_
  refine pt_b0122 (fun g => ?_)
  refine br_t (by decide +kernel) ?_
  exact br_t (by decide +kernel) rfl
end
section
theorem pt_l00 (c : Int32) : wL_lawOf_106 (fun r _ => r = 1) 244 3904 0 0 c 1 0 0 0 0 4 0 0 := by
  unfold wL_lawOf_106
  refine ⟨by decide, by decide, 16, 667, by decide, by decide, ?_⟩
  refine pt_init ?_
  refine pt_n0 (br_t rfl ?_)
  refine pt_n1 (br_t rfl ?_)
  refine pt_n2 (br_t rfl ?_)
  refine pt_n3 (br_t rfl ?_)
  refine pt_e00 (fun q r s => ?_)
  refine br_f (by decide +kernel) (br_t (by decide +kernel) ?_)
  rcases pk_ix c (n := 4) (by omega) with h | h | ⟨j, hj, rfl⟩
  · exact br_t h (pt_230_0123 (pt_ln (Or.inl h)))
  · exact br_f (pt_34 h).1 (br_f (pt_34 h).2 (pt_230_0123 (pt_ln (Or.inr h))))
  · have hj' : j = 0 ∨ j = 1 ∨ j = 2 ∨ j = 3 := by omega
    rcases hj' with rfl | rfl | rfl | rfl
    · exact br_f (by decide +kernel) (br_t (by decide +kernel) (br_t (by decide +kernel) (br_t (by decide +kernel) (pt_230_0123 (pt_ly (by decide +kernel) (by decide +kernel) (vp_in_iff.mpr (by decide +kernel)) (by decide +kernel))))))
    · exact br_f (by decide +kernel) (br_t (by decide +kernel) (br_t (by decide +kernel) (br_t (by decide +kernel) (pt_230_0123 (pt_ly (by decide +kernel) (by decide +kernel) (vp_in_iff.mpr (by decide +kernel)) (by decide +kernel))))))
    · exact br_f (by decide +kernel) (br_t (by decide +kernel) (br_t (by decide +kernel) (br_t (by decide +kernel) (pt_230_0123 (pt_ly (by decide +kernel) (by decide +kernel) (vp_in_iff.mpr (by decide +kernel)) (by decide +kernel))))))
    · exact br_f (by decide +kernel) (br_t (by decide +kernel) (br_t (by decide +kernel) (br_t (by decide +kernel) (pt_230_0123 (pt_ly (by decide +kernel) (by decide +kernel) (vp_in_iff.mpr (by decide +kernel)) (by decide +kernel))))))
theorem pt_l01 (c : Int32) : wL_lawOf_106 (fun r _ => r = 1) 244 3904 0 1 c 1 1 0 1 1 2 0 0 := by
  unfold wL_lawOf_106
  refine ⟨by decide, by decide, 16, 667, by decide, by decide, ?_⟩
  refine pt_init ?_
  refine pt_n0 (br_t rfl ?_)
  refine pt_n1 (br_t rfl ?_)
  refine pt_n2 (br_t rfl ?_)
  refine pt_n3 (br_t rfl ?_)
  refine pt_e01 (fun q r s => ?_)
  refine br_f (by decide +kernel) (br_t (by decide +kernel) ?_)
  rcases pk_ix c (n := 4) (by omega) with h | h | ⟨j, hj, rfl⟩
  · exact br_t h (pt_230_0022 (pt_ln (Or.inl h)))
  · exact br_f (pt_34 h).1 (br_f (pt_34 h).2 (pt_230_0022 (pt_ln (Or.inr h))))
  · have hj' : j = 0 ∨ j = 1 ∨ j = 2 ∨ j = 3 := by omega
    rcases hj' with rfl | rfl | rfl | rfl
    · exact br_f (by decide +kernel) (br_t (by decide +kernel) (br_f (by decide +kernel) (br_f (by decide +kernel) (br_f (by decide +kernel) (br_f (by decide +kernel) (pt_230_0022 (pt_ly (by decide +kernel) (by decide +kernel) (vp_in_iff.mpr (by decide +kernel)) (by decide +kernel))))))))
    · exact br_f (by decide +kernel) (br_t (by decide +kernel) (br_f (by decide +kernel) (br_t (by decide +kernel) (pt_230_0022 (pt_ly (by decide +kernel) (by decide +kernel) (vp_in_iff.mpr (by decide +kernel)) (by decide +kernel))))))
    · exact br_f (by decide +kernel) (br_t (by decide +kernel) (br_f (by decide +kernel) (br_f (by decide +kernel) (br_f (by decide +kernel) (br_f (by decide +kernel) (pt_230_0022 (pt_ly (by decide +kernel) (by decide +kernel) (vp_in_iff.mpr (by decide +kernel)) (by decide +kernel))))))))
    · exact br_f (by decide +kernel) (br_t (by decide +kernel) (br_f (by decide +kernel) (br_f (by decide +kernel) (br_f (by decide +kernel) (br_t (by decide +kernel) (pt_230_0022 (pt_ly (by decide +kernel) (by decide +kernel) (vp_in_iff.mpr (by decide +kernel)) (by decide +kernel))))))))
theorem pt_l02 (c : Int32) : wL_lawOf_106 (fun r _ => r = 1) 244 3904 0 2 c 1 1 0 2 0 3 0 0 := by
  unfold wL_lawOf_106
  refine ⟨by decide, by decide, 16, 667, by decide, by decide, ?_⟩
  refine pt_init ?_
  refine pt_n0 (br_t rfl ?_)
  refine pt_n1 (br_t rfl ?_)
  refine pt_n2 (br_t rfl ?_)
  refine pt_n3 (br_t rfl ?_)
  refine pt_e02 (fun q r s => ?_)
  refine br_f (by decide +kernel) (br_t (by decide +kernel) ?_)
  rcases pk_ix c (n := 4) (by omega) with h | h | ⟨j, hj, rfl⟩
  · exact br_t h (pt_230_0103 (pt_ln (Or.inl h)))
  · exact br_f (pt_34 h).1 (br_f (pt_34 h).2 (pt_230_0103 (pt_ln (Or.inr h))))
  · have hj' : j = 0 ∨ j = 1 ∨ j = 2 ∨ j = 3 := by omega
    rcases hj' with rfl | rfl | rfl | rfl
    · exact br_f (by decide +kernel) (br_t (by decide +kernel) (br_f (by decide +kernel) (br_f (by decide +kernel) (br_t (by decide +kernel) (pt_230_0103 (pt_ly (by decide +kernel) (by decide +kernel) (vp_in_iff.mpr (by decide +kernel)) (by decide +kernel)))))))
    · exact br_f (by decide +kernel) (br_t (by decide +kernel) (br_f (by decide +kernel) (br_f (by decide +kernel) (br_t (by decide +kernel) (pt_230_0103 (pt_ly (by decide +kernel) (by decide +kernel) (vp_in_iff.mpr (by decide +kernel)) (by decide +kernel)))))))
    · exact br_f (by decide +kernel) (br_t (by decide +kernel) (br_f (by decide +kernel) (br_t (by decide +kernel) (pt_230_0103 (pt_ly (by decide +kernel) (by decide +kernel) (vp_in_iff.mpr (by decide +kernel)) (by decide +kernel))))))
    · exact br_f (by decide +kernel) (br_t (by decide +kernel) (br_f (by decide +kernel) (br_f (by decide +kernel) (br_t (by decide +kernel) (pt_230_0103 (pt_ly (by decide +kernel) (by decide +kernel) (vp_in_iff.mpr (by decide +kernel)) (by decide +kernel)))))))
theorem pt_l03 (c : Int32) : wL_lawOf_106 (fun r _ => r = 1) 244 3904 0 3 c 1 1 0 3 0 3 0 0 := by
  unfold wL_lawOf_106
  refine ⟨by decide, by decide, 16, 667, by decide, by decide, ?_⟩
  refine pt_init ?_
  refine pt_n0 (br_t rfl ?_)
  refine pt_n1 (br_t rfl ?_)
  refine pt_n2 (br_t rfl ?_)
  refine pt_n3 (br_t rfl ?_)
  refine pt_e03 (fun q r s => ?_)
  refine br_f (by decide +kernel) (br_t (by decide +kernel) ?_)
  rcases pk_ix c (n := 4) (by omega) with h | h | ⟨j, hj, rfl⟩
  · exact br_t h (pt_230_0120 (pt_ln (Or.inl h)))
  · exact br_f (pt_34 h).1 (br_f (pt_34 h).2 (pt_230_0120 (pt_ln (Or.inr h))))
  · have hj' : j = 0 ∨ j = 1 ∨ j = 2 ∨ j = 3 := by omega
    rcases hj' with rfl | rfl | rfl | rfl
    · exact br_f (by decide +kernel) (br_t (by decide +kernel) (br_f (by decide +kernel) (br_f (by decide +kernel) (br_t (by decide +kernel) (pt_230_0120 (pt_ly (by decide +kernel) (by decide +kernel) (vp_in_iff.mpr (by decide +kernel)) (by decide +kernel)))))))
    · exact br_f (by decide +kernel) (br_t (by decide +kernel) (br_f (by decide +kernel) (br_f (by decide +kernel) (br_t (by decide +kernel) (pt_230_0120 (pt_ly (by decide +kernel) (by decide +kernel) (vp_in_iff.mpr (by decide +kernel)) (by decide +kernel)))))))
    · exact br_f (by decide +kernel) (br_t (by decide +kernel) (br_f (by decide +kernel) (br_f (by decide +kernel) (br_t (by decide +kernel) (pt_230_0120 (pt_ly (by decide +kernel) (by decide +kernel) (vp_in_iff.mpr (by decide +kernel)) (by decide +kernel)))))))
    · exact br_f (by decide +kernel) (br_t (by decide +kernel) (br_f (by decide +kernel) (br_t (by decide +kernel) (pt_230_0120 (pt_ly (by decide +kernel) (by decide +kernel) (vp_in_iff.mpr (by decide +kernel)) (by decide +kernel))))))
theorem pt_l10 (c : Int32) : wL_lawOf_106 (fun r _ => r = 1) 244 3904 1 0 c 1 1 0 1 1 2 0 0 := by
  unfold wL_lawOf_106
  refine ⟨by decide, by decide, 16, 667, by decide, by decide, ?_⟩
  refine pt_init ?_
  refine pt_n0 (br_t rfl ?_)
  refine pt_n1 (br_t rfl ?_)
  refine pt_n2 (br_t rfl ?_)
  refine pt_n3 (br_t rfl ?_)
  refine pt_e10 (fun q r s => ?_)
  refine br_f (by decide +kernel) (br_t (by decide +kernel) ?_)
  rcases pk_ix c (n := 4) (by omega) with h | h | ⟨j, hj, rfl⟩
  · exact br_t h (pt_230_0022 (pt_ln (Or.inl h)))
  · exact br_f (pt_34 h).1 (br_f (pt_34 h).2 (pt_230_0022 (pt_ln (Or.inr h))))
  · have hj' : j = 0 ∨ j = 1 ∨ j = 2 ∨ j = 3 := by omega
    rcases hj' with rfl | rfl | rfl | rfl
    · exact br_f (by decide +kernel) (br_t (by decide +kernel) (br_f (by decide +kernel) (br_f (by decide +kernel) (br_f (by decide +kernel) (br_f (by decide +kernel) (pt_230_0022 (pt_ly (by decide +kernel) (by decide +kernel) (vp_in_iff.mpr (by decide +kernel)) (by decide +kernel))))))))
    · exact br_f (by decide +kernel) (br_t (by decide +kernel) (br_f (by decide +kernel) (br_t (by decide +kernel) (pt_230_0022 (pt_ly (by decide +kernel) (by decide +kernel) (vp_in_iff.mpr (by decide +kernel)) (by decide +kernel))))))
    · exact br_f (by decide +kernel) (br_t (by decide +kernel) (br_f (by decide +kernel) (br_f (by decide +kernel) (br_f (by decide +kernel) (br_f (by decide +kernel) (pt_230_0022 (pt_ly (by decide +kernel) (by decide +kernel) (vp_in_iff.mpr (by decide +kernel)) (by decide +kernel))))))))
    · exact br_f (by decide +kernel) (br_t (by decide +kernel) (br_f (by decide +kernel) (br_f (by decide +kernel) (br_f (by decide +kernel) (br_t (by decide +kernel) (pt_230_0022 (pt_ly (by decide +kernel) (by decide +kernel) (vp_in_iff.mpr (by decide +kernel)) (by decide +kernel))))))))
theorem pt_l11 (c : Int32) : wL_lawOf_106 (fun r _ => r = 1) 244 3904 1 1 c 1 0 1 1 0 4 0 0 := by
  unfold wL_lawOf_106
  refine ⟨by decide, by decide, 16, 667, by decide, by decide, ?_⟩
  refine pt_init ?_
  refine pt_n0 (br_t rfl ?_)
  refine pt_n1 (br_t rfl ?_)
  refine pt_n2 (br_t rfl ?_)
  refine pt_n3 (br_t rfl ?_)
  refine pt_e11 (fun q r s => ?_)
  refine br_f (by decide +kernel) (br_t (by decide +kernel) ?_)
  rcases pk_ix c (n := 4) (by omega) with h | h | ⟨j, hj, rfl⟩
  · exact br_t h (pt_230_0123 (pt_ln (Or.inl h)))
  · exact br_f (pt_34 h).1 (br_f (pt_34 h).2 (pt_230_0123 (pt_ln (Or.inr h))))
  · have hj' : j = 0 ∨ j = 1 ∨ j = 2 ∨ j = 3 := by omega
    rcases hj' with rfl | rfl | rfl | rfl
    · exact br_f (by decide +kernel) (br_t (by decide +kernel) (br_t (by decide +kernel) (br_t (by decide +kernel) (pt_230_0123 (pt_ly (by decide +kernel) (by decide +kernel) (vp_in_iff.mpr (by decide +kernel)) (by decide +kernel))))))
    · exact br_f (by decide +kernel) (br_t (by decide +kernel) (br_t (by decide +kernel) (br_t (by decide +kernel) (pt_230_0123 (pt_ly (by decide +kernel) (by decide +kernel) (vp_in_iff.mpr (by decide +kernel)) (by decide +kernel))))))
    · exact br_f (by decide +kernel) (br_t (by decide +kernel) (br_t (by decide +kernel) (br_t (by decide +kernel) (pt_230_0123 (pt_ly (by decide +kernel) (by decide +kernel) (vp_in_iff.mpr (by decide +kernel)) (by decide +kernel))))))
    · exact br_f (by decide +kernel) (br_t (by decide +kernel) (br_t (by decide +kernel) (br_t (by decide +kernel) (pt_230_0123 (pt_ly (by decide +kernel) (by decide +kernel) (vp_in_iff.mpr (by decide +kernel)) (by decide +kernel))))))
theorem pt_l12 (c : Int32) : wL_lawOf_106 (fun r _ => r = 1) 244 3904 1 2 c 1 1 1 2 0 3 0 0 := by
  unfold wL_lawOf_106
  refine ⟨by decide, by decide, 16, 667, by decide, by decide, ?_⟩
  refine pt_init ?_
  refine pt_n0 (br_t rfl ?_)
  refine pt_n1 (br_t rfl ?_)
  refine pt_n2 (br_t rfl ?_)
  refine pt_n3 (br_t rfl ?_)
  refine pt_e12 (fun q r s => ?_)
  refine br_f (by decide +kernel) (br_t (by decide +kernel) ?_)
  rcases pk_ix c (n := 4) (by omega) with h | h | ⟨j, hj, rfl⟩
  · exact br_t h (pt_230_0113 (pt_ln (Or.inl h)))
  · exact br_f (pt_34 h).1 (br_f (pt_34 h).2 (pt_230_0113 (pt_ln (Or.inr h))))
  · have hj' : j = 0 ∨ j = 1 ∨ j = 2 ∨ j = 3 := by omega
    rcases hj' with rfl | rfl | rfl | rfl
    · exact br_f (by decide +kernel) (br_t (by decide +kernel) (br_f (by decide +kernel) (br_f (by decide +kernel) (br_t (by decide +kernel) (pt_230_0113 (pt_ly (by decide +kernel) (by decide +kernel) (vp_in_iff.mpr (by decide +kernel)) (by decide +kernel)))))))
    · exact br_f (by decide +kernel) (br_t (by decide +kernel) (br_f (by decide +kernel) (br_f (by decide +kernel) (br_t (by decide +kernel) (pt_230_0113 (pt_ly (by decide +kernel) (by decide +kernel) (vp_in_iff.mpr (by decide +kernel)) (by decide +kernel)))))))
    · exact br_f (by decide +kernel) (br_t (by decide +kernel) (br_f (by decide +kernel) (br_t (by decide +kernel) (pt_230_0113 (pt_ly (by decide +kernel) (by decide +kernel) (vp_in_iff.mpr (by decide +kernel)) (by decide +kernel))))))
    · exact br_f (by decide +kernel) (br_t (by decide +kernel) (br_f (by decide +kernel) (br_f (by decide +kernel) (br_t (by decide +kernel) (pt_230_0113 (pt_ly (by decide +kernel) (by decide +kernel) (vp_in_iff.mpr (by decide +kernel)) (by decide +kernel)))))))
theorem pt_l13 (c : Int32) : wL_lawOf_106 (fun r _ => r = 1) 244 3904 1 3 c 1 1 1 3 0 3 0 0 := by
  unfold wL_lawOf_106
  refine ⟨by decide, by decide, 16, 667, by decide, by decide, ?_⟩
  refine pt_init ?_
  refine pt_n0 (br_t rfl ?_)
  refine pt_n1 (br_t rfl ?_)
  refine pt_n2 (br_t rfl ?_)
  refine pt_n3 (br_t rfl ?_)
  refine pt_e13 (fun q r s => ?_)
  refine br_f (by decide +kernel) (br_t (by decide +kernel) ?_)
  rcases pk_ix c (n := 4) (by omega) with h | h | ⟨j, hj, rfl⟩
  · exact br_t h (pt_230_0121 (pt_ln (Or.inl h)))
  · exact br_f (pt_34 h).1 (br_f (pt_34 h).2 (pt_230_0121 (pt_ln (Or.inr h))))
  · have hj' : j = 0 ∨ j = 1 ∨ j = 2 ∨ j = 3 := by omega
    rcases hj' with rfl | rfl | rfl | rfl
    · exact br_f (by decide +kernel) (br_t (by decide +kernel) (br_f (by decide +kernel) (br_f (by decide +kernel) (br_t (by decide +kernel) (pt_230_0121 (pt_ly (by decide +kernel) (by decide +kernel) (vp_in_iff.mpr (by decide +kernel)) (by decide +kernel)))))))
    · exact br_f (by decide +kernel) (br_t (by decide +kernel) (br_f (by decide +kernel) (br_f (by decide +kernel) (br_t (by decide +kernel) (pt_230_0121 (pt_ly (by decide +kernel) (by decide +kernel) (vp_in_iff.mpr (by decide +kernel)) (by decide +kernel)))))))
    · exact br_f (by decide +kernel) (br_t (by decide +kernel) (br_f (by decide +kernel) (br_f (by decide +kernel) (br_t (by decide +kernel) (pt_230_0121 (pt_ly (by decide +kernel) (by decide +kernel) (vp_in_iff.mpr (by decide +kernel)) (by decide +kernel)))))))
    · exact br_f (by decide +kernel) (br_t (by decide +kernel) (br_f (by decide +kernel) (br_t (by decide +kernel) (pt_230_0121 (pt_ly (by decide +kernel) (by decide +kernel) (vp_in_iff.mpr (by decide +kernel)) (by decide +kernel))))))
theorem pt_l20 (c : Int32) : wL_lawOf_106 (fun r _ => r = 1) 244 3904 2 0 c 1 1 0 2 0 3 0 0 := by
  unfold wL_lawOf_106
  refine ⟨by decide, by decide, 16, 667, by decide, by decide, ?_⟩
  refine pt_init ?_
  refine pt_n0 (br_t rfl ?_)
  refine pt_n1 (br_t rfl ?_)
  refine pt_n2 (br_t rfl ?_)
  refine pt_n3 (br_t rfl ?_)
  refine pt_e20 (fun q r s => ?_)
  refine br_f (by decide +kernel) (br_t (by decide +kernel) ?_)
  rcases pk_ix c (n := 4) (by omega) with h | h | ⟨j, hj, rfl⟩
  · exact br_t h (pt_230_0103 (pt_ln (Or.inl h)))
  · exact br_f (pt_34 h).1 (br_f (pt_34 h).2 (pt_230_0103 (pt_ln (Or.inr h))))
  · have hj' : j = 0 ∨ j = 1 ∨ j = 2 ∨ j = 3 := by omega
    rcases hj' with rfl | rfl | rfl | rfl
    · exact br_f (by decide +kernel) (br_t (by decide +kernel) (br_f (by decide +kernel) (br_f (by decide +kernel) (br_t (by decide +kernel) (pt_230_0103 (pt_ly (by decide +kernel) (by decide +kernel) (vp_in_iff.mpr (by decide +kernel)) (by decide +kernel)))))))
    · exact br_f (by decide +kernel) (br_t (by decide +kernel) (br_f (by decide +kernel) (br_f (by decide +kernel) (br_t (by decide +kernel) (pt_230_0103 (pt_ly (by decide +kernel) (by decide +kernel) (vp_in_iff.mpr (by decide +kernel)) (by decide +kernel)))))))
    · exact br_f (by decide +kernel) (br_t (by decide +kernel) (br_f (by decide +kernel) (br_t (by decide +kernel) (pt_230_0103 (pt_ly (by decide +kernel) (by decide +kernel) (vp_in_iff.mpr (by decide +kernel)) (by decide +kernel))))))
    · exact br_f (by decide +kernel) (br_t (by decide +kernel) (br_f (by decide +kernel) (br_f (by decide +kernel) (br_t (by decide +kernel) (pt_230_0103 (pt_ly (by decide +kernel) (by decide +kernel) (vp_in_iff.mpr (by decide +kernel)) (by decide +kernel)))))))
theorem pt_l21 (c : Int32) : wL_lawOf_106 (fun r _ => r = 1) 244 3904 2 1 c 1 1 1 2 0 3 0 0 := by
  unfold wL_lawOf_106
  refine ⟨by decide, by decide, 16, 667, by decide, by decide, ?_⟩
  refine pt_init ?_
  refine pt_n0 (br_t rfl ?_)
  refine pt_n1 (br_t rfl ?_)
  refine pt_n2 (br_t rfl ?_)
  refine pt_n3 (br_t rfl ?_)
  refine pt_e21 (fun q r s => ?_)
  refine br_f (by decide +kernel) (br_t (by decide +kernel) ?_)
  rcases pk_ix c (n := 4) (by omega) with h | h | ⟨j, hj, rfl⟩
  · exact br_t h (pt_230_0113 (pt_ln (Or.inl h)))
  · exact br_f (pt_34 h).1 (br_f (pt_34 h).2 (pt_230_0113 (pt_ln (Or.inr h))))
  · have hj' : j = 0 ∨ j = 1 ∨ j = 2 ∨ j = 3 := by omega
    rcases hj' with rfl | rfl | rfl | rfl
    · exact br_f (by decide +kernel) (br_t (by decide +kernel) (br_f (by decide +kernel) (br_f (by decide +kernel) (br_t (by decide +kernel) (pt_230_0113 (pt_ly (by decide +kernel) (by decide +kernel) (vp_in_iff.mpr (by decide +kernel)) (by decide +kernel)))))))
    · exact br_f (by decide +kernel) (br_t (by decide +kernel) (br_f (by decide +kernel) (br_f (by decide +kernel) (br_t (by decide +kernel) (pt_230_0113 (pt_ly (by decide +kernel) (by decide +kernel) (vp_in_iff.mpr (by decide +kernel)) (by decide +kernel)))))))
    · exact br_f (by decide +kernel) (br_t (by decide +kernel) (br_f (by decide +kernel) (br_t (by decide +kernel) (pt_230_0113 (pt_ly (by decide +kernel) (by decide +kernel) (vp_in_iff.mpr (by decide +kernel)) (by decide +kernel))))))
    · exact br_f (by decide +kernel) (br_t (by decide +kernel) (br_f (by decide +kernel) (br_f (by decide +kernel) (br_t (by decide +kernel) (pt_230_0113 (pt_ly (by decide +kernel) (by decide +kernel) (vp_in_iff.mpr (by decide +kernel)) (by decide +kernel)))))))
theorem pt_l22 (c : Int32) : wL_lawOf_106 (fun r _ => r = 1) 244 3904 2 2 c 1 0 2 2 0 4 0 0 := by
  unfold wL_lawOf_106
  refine ⟨by decide, by decide, 16, 667, by decide, by decide, ?_⟩
  refine pt_init ?_
  refine pt_n0 (br_t rfl ?_)
  refine pt_n1 (br_t rfl ?_)
  refine pt_n2 (br_t rfl ?_)
  refine pt_n3 (br_t rfl ?_)
  refine pt_e22 (fun q r s => ?_)
  refine br_f (by decide +kernel) (br_t (by decide +kernel) ?_)
  rcases pk_ix c (n := 4) (by omega) with h | h | ⟨j, hj, rfl⟩
  · exact br_t h (pt_230_0123 (pt_ln (Or.inl h)))
  · exact br_f (pt_34 h).1 (br_f (pt_34 h).2 (pt_230_0123 (pt_ln (Or.inr h))))
  · have hj' : j = 0 ∨ j = 1 ∨ j = 2 ∨ j = 3 := by omega
    rcases hj' with rfl | rfl | rfl | rfl
    · exact br_f (by decide +kernel) (br_t (by decide +kernel) (br_t (by decide +kernel) (br_t (by decide +kernel) (pt_230_0123 (pt_ly (by decide +kernel) (by decide +kernel) (vp_in_iff.mpr (by decide +kernel)) (by decide +kernel))))))
    · exact br_f (by decide +kernel) (br_t (by decide +kernel) (br_t (by decide +kernel) (br_t (by decide +kernel) (pt_230_0123 (pt_ly (by decide +kernel) (by decide +kernel) (vp_in_iff.mpr (by decide +kernel)) (by decide +kernel))))))
    · exact br_f (by decide +kernel) (br_t (by decide +kernel) (br_t (by decide +kernel) (br_t (by decide +kernel) (pt_230_0123 (pt_ly (by decide +kernel) (by decide +kernel) (vp_in_iff.mpr (by decide +kernel)) (by decide +kernel))))))
    · exact br_f (by decide +kernel) (br_t (by decide +kernel) (br_t (by decide +kernel) (br_t (by decide +kernel) (pt_230_0123 (pt_ly (by decide +kernel) (by decide +kernel) (vp_in_iff.mpr (by decide +kernel)) (by decide +kernel))))))
theorem pt_l23 (c : Int32) : wL_lawOf_106 (fun r _ => r = 1) 244 3904 2 3 c 1 1 2 3 0 3 0 0 := by
  unfold wL_lawOf_106
  refine ⟨by decide, by decide, 16, 667, by decide, by decide, ?_⟩
  refine pt_init ?_
  refine pt_n0 (br_t rfl ?_)
  refine pt_n1 (br_t rfl ?_)
  refine pt_n2 (br_t rfl ?_)
  refine pt_n3 (br_t rfl ?_)
  refine pt_e23 (fun q r s => ?_)
  refine br_f (by decide +kernel) (br_t (by decide +kernel) ?_)
  rcases pk_ix c (n := 4) (by omega) with h | h | ⟨j, hj, rfl⟩
  · exact br_t h (pt_230_0122 (pt_ln (Or.inl h)))
  · exact br_f (pt_34 h).1 (br_f (pt_34 h).2 (pt_230_0122 (pt_ln (Or.inr h))))
  · have hj' : j = 0 ∨ j = 1 ∨ j = 2 ∨ j = 3 := by omega
    rcases hj' with rfl | rfl | rfl | rfl
    · exact br_f (by decide +kernel) (br_t (by decide +kernel) (br_f (by decide +kernel) (br_f (by decide +kernel) (br_t (by decide +kernel) (pt_230_0122 (pt_ly (by decide +kernel) (by decide +kernel) (vp_in_iff.mpr (by decide +kernel)) (by decide +kernel)))))))
    · exact br_f (by decide +kernel) (br_t (by decide +kernel) (br_f (by decide +kernel) (br_f (by decide +kernel) (br_t (by decide +kernel) (pt_230_0122 (pt_ly (by decide +kernel) (by decide +kernel) (vp_in_iff.mpr (by decide +kernel)) (by decide +kernel)))))))
    · exact br_f (by decide +kernel) (br_t (by decide +kernel) (br_f (by decide +kernel) (br_f (by decide +kernel) (br_t (by decide +kernel) (pt_230_0122 (pt_ly (by decide +kernel) (by decide +kernel) (vp_in_iff.mpr (by decide +kernel)) (by decide +kernel)))))))
    · exact br_f (by decide +kernel) (br_t (by decide +kernel) (br_f (by decide +kernel) (br_t (by decide +kernel) (pt_230_0122 (pt_ly (by decide +kernel) (by decide +kernel) (vp_in_iff.mpr (by decide +kernel)) (by decide +kernel))))))
theorem pt_l30 (c : Int32) : wL_lawOf_106 (fun r _ => r = 1) 244 3904 3 0 c 1 1 0 3 0 3 0 0 := by
  unfold wL_lawOf_106
  refine ⟨by decide, by decide, 16, 667, by decide, by decide, ?_⟩
  refine pt_init ?_
  refine pt_n0 (br_t rfl ?_)
  refine pt_n1 (br_t rfl ?_)
  refine pt_n2 (br_t rfl ?_)
  refine pt_n3 (br_t rfl ?_)
  refine pt_e30 (fun q r s => ?_)
  refine br_f (by decide +kernel) (br_t (by decide +kernel) ?_)
  rcases pk_ix c (n := 4) (by omega) with h | h | ⟨j, hj, rfl⟩
  · exact br_t h (pt_230_0120 (pt_ln (Or.inl h)))
  · exact br_f (pt_34 h).1 (br_f (pt_34 h).2 (pt_230_0120 (pt_ln (Or.inr h))))
  · have hj' : j = 0 ∨ j = 1 ∨ j = 2 ∨ j = 3 := by omega
    rcases hj' with rfl | rfl | rfl | rfl
    · exact br_f (by decide +kernel) (br_t (by decide +kernel) (br_f (by decide +kernel) (br_f (by decide +kernel) (br_t (by decide +kernel) (pt_230_0120 (pt_ly (by decide +kernel) (by decide +kernel) (vp_in_iff.mpr (by decide +kernel)) (by decide +kernel)))))))
    · exact br_f (by decide +kernel) (br_t (by decide +kernel) (br_f (by decide +kernel) (br_f (by decide +kernel) (br_t (by decide +kernel) (pt_230_0120 (pt_ly (by decide +kernel) (by decide +kernel) (vp_in_iff.mpr (by decide +kernel)) (by decide +kernel)))))))
    · exact br_f (by decide +kernel) (br_t (by decide +kernel) (br_f (by decide +kernel) (br_f (by decide +kernel) (br_t (by decide +kernel) (pt_230_0120 (pt_ly (by decide +kernel) (by decide +kernel) (vp_in_iff.mpr (by decide +kernel)) (by decide +kernel)))))))
    · exact br_f (by decide +kernel) (br_t (by decide +kernel) (br_f (by decide +kernel) (br_t (by decide +kernel) (pt_230_0120 (pt_ly (by decide +kernel) (by decide +kernel) (vp_in_iff.mpr (by decide +kernel)) (by decide +kernel))))))
theorem pt_l31 (c : Int32) : wL_lawOf_106 (fun r _ => r = 1) 244 3904 3 1 c 1 1 1 3 0 3 0 0 := by
  unfold wL_lawOf_106
  refine ⟨by decide, by decide, 16, 667, by decide, by decide, ?_⟩
  refine pt_init ?_
  refine pt_n0 (br_t rfl ?_)
  refine pt_n1 (br_t rfl ?_)
  refine pt_n2 (br_t rfl ?_)
  refine pt_n3 (br_t rfl ?_)
  refine pt_e31 (fun q r s => ?_)
  refine br_f (by decide +kernel) (br_t (by decide +kernel) ?_)
  rcases pk_ix c (n := 4) (by omega) with h | h | ⟨j, hj, rfl⟩
  · exact br_t h (pt_230_0121 (pt_ln (Or.inl h)))
  · exact br_f (pt_34 h).1 (br_f (pt_34 h).2 (pt_230_0121 (pt_ln (Or.inr h))))
  · have hj' : j = 0 ∨ j = 1 ∨ j = 2 ∨ j = 3 := by omega
    rcases hj' with rfl | rfl | rfl | rfl
    · exact br_f (by decide +kernel) (br_t (by decide +kernel) (br_f (by decide +kernel) (br_f (by decide +kernel) (br_t (by decide +kernel) (pt_230_0121 (pt_ly (by decide +kernel) (by decide +kernel) (vp_in_iff.mpr (by decide +kernel)) (by decide +kernel)))))))
    · exact br_f (by decide +kernel) (br_t (by decide +kernel) (br_f (by decide +kernel) (br_f (by decide +kernel) (br_t (by decide +kernel) (pt_230_0121 (pt_ly (by decide +kernel) (by decide +kernel) (vp_in_iff.mpr (by decide +kernel)) (by decide +kernel)))))))
    · exact br_f (by decide +kernel) (br_t (by decide +kernel) (br_f (by decide +kernel) (br_f (by decide +kernel) (br_t (by decide +kernel) (pt_230_0121 (pt_ly (by decide +kernel) (by decide +kernel) (vp_in_iff.mpr (by decide +kernel)) (by decide +kernel)))))))
    · exact br_f (by decide +kernel) (br_t (by decide +kernel) (br_f (by decide +kernel) (br_t (by decide +kernel) (pt_230_0121 (pt_ly (by decide +kernel) (by decide +kernel) (vp_in_iff.mpr (by decide +kernel)) (by decide +kernel))))))
theorem pt_l32 (c : Int32) : wL_lawOf_106 (fun r _ => r = 1) 244 3904 3 2 c 1 1 2 3 0 3 0 0 := by
  unfold wL_lawOf_106
  refine ⟨by decide, by decide, 16, 667, by decide, by decide, ?_⟩
  refine pt_init ?_
  refine pt_n0 (br_t rfl ?_)
  refine pt_n1 (br_t rfl ?_)
  refine pt_n2 (br_t rfl ?_)
  refine pt_n3 (br_t rfl ?_)
  refine pt_e32 (fun q r s => ?_)
  refine br_f (by decide +kernel) (br_t (by decide +kernel) ?_)
  rcases pk_ix c (n := 4) (by omega) with h | h | ⟨j, hj, rfl⟩
  · exact br_t h (pt_230_0122 (pt_ln (Or.inl h)))
  · exact br_f (pt_34 h).1 (br_f (pt_34 h).2 (pt_230_0122 (pt_ln (Or.inr h))))
  · have hj' : j = 0 ∨ j = 1 ∨ j = 2 ∨ j = 3 := by omega
    rcases hj' with rfl | rfl | rfl | rfl
    · exact br_f (by decide +kernel) (br_t (by decide +kernel) (br_f (by decide +kernel) (br_f (by decide +kernel) (br_t (by decide +kernel) (pt_230_0122 (pt_ly (by decide +kernel) (by decide +kernel) (vp_in_iff.mpr (by decide +kernel)) (by decide +kernel)))))))
    · exact br_f (by decide +kernel) (br_t (by decide +kernel) (br_f (by decide +kernel) (br_f (by decide +kernel) (br_t (by decide +kernel) (pt_230_0122 (pt_ly (by decide +kernel) (by decide +kernel) (vp_in_iff.mpr (by decide +kernel)) (by decide +kernel)))))))
    · exact br_f (by decide +kernel) (br_t (by decide +kernel) (br_f (by decide +kernel) (br_f (by decide +kernel) (br_t (by decide +kernel) (pt_230_0122 (pt_ly (by decide +kernel) (by decide +kernel) (vp_in_iff.mpr (by decide +kernel)) (by decide +kernel)))))))
    · exact br_f (by decide +kernel) (br_t (by decide +kernel) (br_f (by decide +kernel) (br_t (by decide +kernel) (pt_230_0122 (pt_ly (by decide +kernel) (by decide +kernel) (vp_in_iff.mpr (by decide +kernel)) (by decide +kernel))))))
theorem pt_l33 (c : Int32) : wL_lawOf_106 (fun r _ => r = 1) 244 3904 3 3 c 1 0 3 3 0 4 0 0 := by
  unfold wL_lawOf_106
  refine ⟨by decide, by decide, 16, 667, by decide, by decide, ?_⟩
  refine pt_init ?_
  refine pt_n0 (br_t rfl ?_)
  refine pt_n1 (br_t rfl ?_)
  refine pt_n2 (br_t rfl ?_)
  refine pt_n3 (br_t rfl ?_)
  refine pt_e33 (fun q r s => ?_)
  refine br_f (by decide +kernel) (br_t (by decide +kernel) ?_)
  rcases pk_ix c (n := 4) (by omega) with h | h | ⟨j, hj, rfl⟩
  · exact br_t h (pt_230_0123 (pt_ln (Or.inl h)))
  · exact br_f (pt_34 h).1 (br_f (pt_34 h).2 (pt_230_0123 (pt_ln (Or.inr h))))
  · have hj' : j = 0 ∨ j = 1 ∨ j = 2 ∨ j = 3 := by omega
    rcases hj' with rfl | rfl | rfl | rfl
    · exact br_f (by decide +kernel) (br_t (by decide +kernel) (br_t (by decide +kernel) (br_t (by decide +kernel) (pt_230_0123 (pt_ly (by decide +kernel) (by decide +kernel) (vp_in_iff.mpr (by decide +kernel)) (by decide +kernel))))))
    · exact br_f (by decide +kernel) (br_t (by decide +kernel) (br_t (by decide +kernel) (br_t (by decide +kernel) (pt_230_0123 (pt_ly (by decide +kernel) (by decide +kernel) (vp_in_iff.mpr (by decide +kernel)) (by decide +kernel))))))
    · exact br_f (by decide +kernel) (br_t (by decide +kernel) (br_t (by decide +kernel) (br_t (by decide +kernel) (pt_230_0123 (pt_ly (by decide +kernel) (by decide +kernel) (vp_in_iff.mpr (by decide +kernel)) (by decide +kernel))))))
    · exact br_f (by decide +kernel) (br_t (by decide +kernel) (br_t (by decide +kernel) (br_t (by decide +kernel) (pt_230_0123 (pt_ly (by decide +kernel) (by decide +kernel) (vp_in_iff.mpr (by decide +kernel)) (by decide +kernel))))))
theorem pt_lbad (a b c l h : Int32) (hb : (a < 0 ∨ 4 ≤ a) ∨ (b < 0 ∨ 4 ≤ b)) : wL_lawOf_106 (fun r _ => r = 1) 244 3904 a b c 0 0 l h 0 4 0 0 := by
  unfold wL_lawOf_106
  refine ⟨by decide, by decide, 16, 667, by decide, by decide, ?_⟩
  refine pt_init ?_
  refine pt_n0 (br_t rfl ?_)
  refine pt_n1 (br_t rfl ?_)
  refine pt_n2 (br_t rfl ?_)
  refine pt_n3 (br_t rfl ?_)
  refine pt_ebad hb ?_
  refine br_t (by decide +kernel) (br_t (by decide +kernel) ?_)
  rcases pk_ix c (n := 4) (by omega) with h | h | ⟨j, hj, rfl⟩
  · exact br_t h (pt_230_0123 (pt_ln (Or.inl h)))
  · exact br_f (pt_34 h).1 (br_f (pt_34 h).2 (pt_230_0123 (pt_ln (Or.inr h))))
  · have hj' : j = 0 ∨ j = 1 ∨ j = 2 ∨ j = 3 := by omega
    rcases hj' with rfl | rfl | rfl | rfl
    · exact br_f (by decide +kernel) (br_t (by decide +kernel) (br_t (by decide +kernel) (br_t (by decide +kernel) (pt_230_0123 (pt_ly (by decide +kernel) (by decide +kernel) (vp_in_iff.mpr (by decide +kernel)) (by decide +kernel))))))
    · exact br_f (by decide +kernel) (br_t (by decide +kernel) (br_t (by decide +kernel) (br_t (by decide +kernel) (pt_230_0123 (pt_ly (by decide +kernel) (by decide +kernel) (vp_in_iff.mpr (by decide +kernel)) (by decide +kernel))))))
    · exact br_f (by decide +kernel) (br_t (by decide +kernel) (br_t (by decide +kernel) (br_t (by decide +kernel) (pt_230_0123 (pt_ly (by decide +kernel) (by decide +kernel) (vp_in_iff.mpr (by decide +kernel)) (by decide +kernel))))))
    · exact br_f (by decide +kernel) (br_t (by decide +kernel) (br_t (by decide +kernel) (br_t (by decide +kernel) (pt_230_0123 (pt_ly (by decide +kernel) (by decide +kernel) (vp_in_iff.mpr (by decide +kernel)) (by decide +kernel))))))
end
section
theorem pt_22 (a b c : Int32) (hb : (a < 0 ∨ 4 ≤ a) ∨ (b < 0 ∨ 4 ≤ b)) : wL_lawOf_22 (fun r _ => r = 1) 244 3904 a b c 0 0 := by
  have e : ∀ l h, wL_lawOf_62 (fun r _ => r = 1) 244 3904 a b c 0 0 l h 0 0 := fun l h => br_t rfl (br_t rfl (pt_lbad a b c l h hb))
  have f : ∀ l, wL_lawOf_50 (fun r _ => r = 1) 244 3904 a b c 0 0 l 0 0 := fun l => br_c (fun _ => e l a) (fun _ => e l b)
  exact br_t rfl (br_c (fun _ => f b) (fun _ => f a))
theorem pt_f00 (c : Int32) : wL_lawOf_23 (fun r _ => r = 1) 244 3904 0 0 c 1 0 0 :=
  br_f (by decide +kernel) (br_t (by decide +kernel) (br_t (by decide +kernel) (br_t (by decide +kernel) (br_t (by decide +kernel) (br_t (by decide +kernel) (pt_l00 c))))))
theorem pt_f01 (c : Int32) : wL_lawOf_23 (fun r _ => r = 1) 244 3904 0 1 c 1 0 0 :=
  br_f (by decide +kernel) (br_f (by decide +kernel) (br_f (by decide +kernel) (br_f (by decide +kernel) (br_f (by decide +kernel) (br_t (by decide +kernel) (br_t (by decide +kernel) (br_f (by decide +kernel) (br_f (by decide +kernel) (pt_l01 c)))))))))
theorem pt_f02 (c : Int32) : wL_lawOf_23 (fun r _ => r = 1) 244 3904 0 2 c 1 0 0 :=
  br_f (by decide +kernel) (br_f (by decide +kernel) (br_f (by decide +kernel) (br_f (by decide +kernel) (br_f (by decide +kernel) (br_t (by decide +kernel) (br_f (by decide +kernel) (br_f (by decide +kernel) (br_t (by decide +kernel) (pt_l02 c)))))))))
theorem pt_f03 (c : Int32) : wL_lawOf_23 (fun r _ => r = 1) 244 3904 0 3 c 1 0 0 :=
  br_f (by decide +kernel) (br_f (by decide +kernel) (br_f (by decide +kernel) (br_f (by decide +kernel) (br_f (by decide +kernel) (br_t (by decide +kernel) (br_f (by decide +kernel) (br_f (by decide +kernel) (br_t (by decide +kernel) (pt_l03 c)))))))))
theorem pt_f10 (c : Int32) : wL_lawOf_23 (fun r _ => r = 1) 244 3904 1 0 c 1 0 0 :=
  br_f (by decide +kernel) (br_f (by decide +kernel) (br_t (by decide +kernel) (br_t (by decide +kernel) (br_f (by decide +kernel) (br_t (by decide +kernel) (br_t (by decide +kernel) (br_f (by decide +kernel) (br_f (by decide +kernel) (pt_l10 c)))))))))
theorem pt_f11 (c : Int32) : wL_lawOf_23 (fun r _ => r = 1) 244 3904 1 1 c 1 0 0 :=
  br_f (by decide +kernel) (br_t (by decide +kernel) (br_t (by decide +kernel) (br_t (by decide +kernel) (br_t (by decide +kernel) (br_t (by decide +kernel) (pt_l11 c))))))
theorem pt_f12 (c : Int32) : wL_lawOf_23 (fun r _ => r = 1) 244 3904 1 2 c 1 0 0 :=
  br_f (by decide +kernel) (br_f (by decide +kernel) (br_f (by decide +kernel) (br_f (by decide +kernel) (br_f (by decide +kernel) (br_f (by decide +kernel) (br_f (by decide +kernel) (br_t (by decide +kernel) (pt_l12 c))))))))
theorem pt_f13 (c : Int32) : wL_lawOf_23 (fun r _ => r = 1) 244 3904 1 3 c 1 0 0 :=
  br_f (by decide +kernel) (br_f (by decide +kernel) (br_f (by decide +kernel) (br_f (by decide +kernel) (br_f (by decide +kernel) (br_f (by decide +kernel) (br_f (by decide +kernel) (br_t (by decide +kernel) (pt_l13 c))))))))
theorem pt_f20 (c : Int32) : wL_lawOf_23 (fun r _ => r = 1) 244 3904 2 0 c 1 0 0 :=
  br_f (by decide +kernel) (br_f (by decide +kernel) (br_t (by decide +kernel) (br_t (by decide +kernel) (br_f (by decide +kernel) (br_t (by decide +kernel) (br_f (by decide +kernel) (br_f (by decide +kernel) (br_t (by decide +kernel) (pt_l20 c)))))))))
theorem pt_f21 (c : Int32) : wL_lawOf_23 (fun r _ => r = 1) 244 3904 2 1 c 1 0 0 :=
  br_f (by decide +kernel) (br_f (by decide +kernel) (br_t (by decide +kernel) (br_t (by decide +kernel) (br_f (by decide +kernel) (br_f (by decide +kernel) (br_f (by decide +kernel) (br_t (by decide +kernel) (pt_l21 c))))))))
theorem pt_f22 (c : Int32) : wL_lawOf_23 (fun r _ => r = 1) 244 3904 2 2 c 1 0 0 :=
  br_f (by decide +kernel) (br_t (by decide +kernel) (br_t (by decide +kernel) (br_t (by decide +kernel) (br_t (by decide +kernel) (br_t (by decide +kernel) (pt_l22 c))))))
theorem pt_f23 (c : Int32) : wL_lawOf_23 (fun r _ => r = 1) 244 3904 2 3 c 1 0 0 :=
  br_f (by decide +kernel) (br_f (by decide +kernel) (br_f (by decide +kernel) (br_f (by decide +kernel) (br_f (by decide +kernel) (br_f (by decide +kernel) (br_f (by decide +kernel) (br_t (by decide +kernel) (pt_l23 c))))))))
theorem pt_f30 (c : Int32) : wL_lawOf_23 (fun r _ => r = 1) 244 3904 3 0 c 1 0 0 :=
  br_f (by decide +kernel) (br_f (by decide +kernel) (br_t (by decide +kernel) (br_t (by decide +kernel) (br_f (by decide +kernel) (br_t (by decide +kernel) (br_f (by decide +kernel) (br_f (by decide +kernel) (br_t (by decide +kernel) (pt_l30 c)))))))))
theorem pt_f31 (c : Int32) : wL_lawOf_23 (fun r _ => r = 1) 244 3904 3 1 c 1 0 0 :=
  br_f (by decide +kernel) (br_f (by decide +kernel) (br_t (by decide +kernel) (br_t (by decide +kernel) (br_f (by decide +kernel) (br_f (by decide +kernel) (br_f (by decide +kernel) (br_t (by decide +kernel) (pt_l31 c))))))))
theorem pt_f32 (c : Int32) : wL_lawOf_23 (fun r _ => r = 1) 244 3904 3 2 c 1 0 0 :=
  br_f (by decide +kernel) (br_f (by decide +kernel) (br_t (by decide +kernel) (br_t (by decide +kernel) (br_f (by decide +kernel) (br_f (by decide +kernel) (br_f (by decide +kernel) (br_t (by decide +kernel) (pt_l32 c))))))))
theorem pt_f33 (c : Int32) : wL_lawOf_23 (fun r _ => r = 1) 244 3904 3 3 c 1 0 0 :=
  br_f (by decide +kernel) (br_t (by decide +kernel) (br_t (by decide +kernel) (br_t (by decide +kernel) (br_t (by decide +kernel) (br_t (by decide +kernel) (pt_l33 c))))))
theorem pt_law (a b c : Int32) : wpL_lawOf (fun r _ => r = 1) 244 3904 () a b c := by
  refine br_c (fun h => pt_22 a b c (Or.inl (Or.inl h))) (fun h0 => ?_)
  refine br_c (fun h => pt_22 a b c (Or.inl (Or.inr (pt_43 h)))) (fun h1 => ?_)
  refine br_c (fun h => pt_22 a b c (Or.inr (Or.inl h))) (fun h2 => ?_)
  refine br_c (fun h => pt_22 a b c (Or.inr (Or.inr (pt_43 h)))) (fun h3 => ?_)
  obtain ⟨i, hi, rfl⟩ := pt_03 h0 h1
  obtain ⟨j, hj, rfl⟩ := pt_03 h2 h3
  have hi' : i = 0 ∨ i = 1 ∨ i = 2 ∨ i = 3 := by omega
  have hj' : j = 0 ∨ j = 1 ∨ j = 2 ∨ j = 3 := by omega
  rcases hi' with rfl | rfl | rfl | rfl <;> rcases hj' with rfl | rfl | rfl | rfl
  · exact pt_f00 c
  · exact pt_f01 c
  · exact pt_f02 c
  · exact pt_f03 c
  · exact pt_f10 c
  · exact pt_f11 c
  · exact pt_f12 c
  · exact pt_f13 c
  · exact pt_f20 c
  · exact pt_f21 c
  · exact pt_f22 c
  · exact pt_f23 c
  · exact pt_f30 c
  · exact pt_f31 c
  · exact pt_f32 c
  · exact pt_f33 c
theorem pt_cell {post : Int32 → Prop} {L : Nat} {xs : Nat → Int32} (i : Nat) (hi : i < 3) (hL : L ≤ 3) (hp : ∀ x, post x) : wpL_cellAt post L xs () (nI i) :=
  pk_le L i (fun _ => hp 0) (fun z => ⟨pk_in i L z, hp _⟩)
theorem i_vc (xs : Nat → Int32) (L : Nat) (hL : L ≤ 3) : wpL_law (fun r => r = 1) L xs :=
  pt_cell 0 (by omega) hL (fun a => pt_cell 1 (by omega) hL (fun b => pt_cell 2 (by omega) hL (fun c => ⟨244, 3904, by omega, by omega, pt_law a b c⟩)))
end
