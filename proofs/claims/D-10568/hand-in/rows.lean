section
/-! ===== bits of an Int32 (rows out of kit/laws/BITS.to-paste, renamed) ===== -/
def mt_bt (x : Int32) (i : Nat) : Bool := x.toBitVec.getLsbD i
theorem mt_bext {x y : Int32} (h : ∀ i, i < 32 → mt_bt x i = mt_bt y i) : x = y := Int32.toBitVec_inj.mp (BitVec.eq_of_getLsbD_eq (fun i hi => h i hi))
theorem mt_bor (x y : Int32) (i : Nat) : mt_bt (x ||| y) i = (mt_bt x i || mt_bt y i) := by unfold mt_bt; rw [Int32.toBitVec_or, BitVec.getLsbD_or]
theorem mt_band (x y : Int32) (i : Nat) : mt_bt (x &&& y) i = (mt_bt x i && mt_bt y i) := by unfold mt_bt; rw [Int32.toBitVec_and, BitVec.getLsbD_and]
theorem mt_bxor (x y : Int32) (i : Nat) : mt_bt (x ^^^ y) i = (mt_bt x i ^^ mt_bt y i) := by unfold mt_bt; rw [Int32.toBitVec_xor, BitVec.getLsbD_xor]
theorem mt_bm1 : ∀ i, i < 32 → mt_bt (-1) i = true := by decide +kernel
theorem mt_b0 (i : Nat) : mt_bt 0 i = false := BitVec.getLsbD_zero
theorem mt_b1 : ∀ i, i < 32 → mt_bt 1 i = decide (i = 0) := by decide +kernel
theorem mt_b1023 : ∀ i, i < 10 → mt_bt 1023 i = true := by decide +kernel
theorem mt_sl : ∀ n, n < 32 → ((nI n &&& 31).toBitVec.smod 32).toNat = n := by decide +kernel
theorem mt_bshl (n : Nat) (hn : n < 32) (x : Int32) {i : Nat} (hi : i < 32) : mt_bt (x <<< (nI n &&& 31)) i = (decide (n ≤ i) && mt_bt x (i - n)) := by
  unfold mt_bt
  rw [Int32.toBitVec_shiftLeft]
  show (x.toBitVec <<< ((nI n &&& 31).toBitVec.smod 32).toNat).getLsbD i = _
  rw [mt_sl n hn, BitVec.getLsbD_shiftLeft]
  rcases Nat.lt_or_ge i n with h | h
  · simp [h, Nat.not_le.mpr h]
  · simp [hi, h, Nat.not_lt.mpr h]
theorem mt_bsshr (n : Nat) (hn : n < 32) (x : Int32) {i : Nat} (hi : i < 32) : mt_bt (x >>> (nI n &&& 31)) i = if n + i < 32 then mt_bt x (n + i) else mt_bt x 31 := by
  unfold mt_bt
  rw [Int32.toBitVec_shiftRight]
  show (x.toBitVec.sshiftRight ((nI n &&& 31).toBitVec.smod 32).toNat).getLsbD i = _
  rw [mt_sl n hn, BitVec.getLsbD_sshiftRight, BitVec.msb_eq_getLsbD_last]
  simp [hi]
/-- the program's question: is v in the set x -/
def mt_sb (x : Int32) (v : Nat) : Prop := ((x >>> (nI v &&& 31)) &&& 1) = 1
theorem mt_one (x : Int32) (v : Nat) (hv : v < 32) : (x >>> (nI v &&& 31)) &&& 1 = if mt_bt x v = true then 1 else 0 := by
  apply mt_bext
  intro i hi
  rw [mt_band, mt_bsshr v hv x hi, mt_b1 i hi]
  by_cases e : i = 0
  · subst e
    have h1 : mt_bt 1 0 = true := mt_b1 0 (by omega)
    cases h : mt_bt x v
    · simp [h, hv, mt_b0]
    · simp [h, hv, h1]
  · have h1 : mt_bt 1 i = false := by rw [mt_b1 i hi]; exact decide_eq_false e
    cases h : mt_bt x v
    · simp [e, mt_b0]
    · simp [e, h1]
theorem mt_sbI {x : Int32} {v : Nat} (hv : v < 32) : mt_sb x v ↔ mt_bt x v = true := by
  unfold mt_sb
  rw [mt_one x v hv]
  cases mt_bt x v
  · exact ⟨fun h => absurd h (by decide), fun h => absurd h (by decide)⟩
  · exact ⟨fun _ => rfl, fun _ => rfl⟩
theorem mt_sb_1 {x : Int32} {v : Nat} (h : mt_sb x v) : (x >>> (nI v &&& 31)) &&& 1 = 1 := h
theorem mt_sb_n {x : Int32} {v : Nat} (hv : v < 32) (h : ¬ mt_sb x v) : (x >>> (nI v &&& 31)) &&& 1 = 0 := by
  rw [mt_sbI hv] at h
  rw [mt_one x v hv]
  exact if_neg h
theorem mt_sb_or {x y : Int32} {v : Nat} (hv : v < 32) : mt_sb (x ||| y) v ↔ mt_sb x v ∨ mt_sb y v := by
  rw [mt_sbI hv, mt_sbI hv, mt_sbI hv, mt_bor, Bool.or_eq_true]
theorem mt_sb_and {x y : Int32} {v : Nat} (hv : v < 32) : mt_sb (x &&& y) v ↔ mt_sb x v ∧ mt_sb y v := by
  rw [mt_sbI hv, mt_sbI hv, mt_sbI hv, mt_band, Bool.and_eq_true]
theorem mt_sb_not {x : Int32} {v : Nat} (hv : v < 32) : mt_sb (x ^^^ (-1)) v ↔ ¬ mt_sb x v := by
  rw [mt_sbI hv, mt_sbI hv, mt_bxor, mt_bm1 v hv]
  cases mt_bt x v
  · exact ⟨fun _ h => absurd h (by decide), fun _ => rfl⟩
  · exact ⟨fun h => absurd h (by decide), fun h => absurd rfl h⟩
theorem mt_sb_bit {v w : Nat} (hv : v < 32) (hw : w < 32) : mt_sb ((1 : Int32) <<< (nI w &&& 31)) v ↔ v = w := by
  rw [mt_sbI hv, mt_bshl w hw 1 hv, mt_b1 (v - w) (by omega), Bool.and_eq_true, decide_eq_true_eq, decide_eq_true_eq]
  omega
theorem mt_sb_0 {v : Nat} (hv : v < 32) : ¬ mt_sb 0 v := by
  rw [mt_sbI hv, mt_b0]
  decide
theorem mt_sb_1023 {v : Nat} (hv : v < 10) : mt_sb 1023 v := by
  rw [mt_sbI (by omega)]
  exact mt_b1023 v hv
/-- v added to the set -/
theorem mt_sb_add {x : Int32} {v w : Nat} (hv : v < 32) (hw : w < 32) : mt_sb (x ||| ((1 : Int32) <<< (nI w &&& 31))) v ↔ mt_sb x v ∨ v = w := by
  rw [mt_sb_or hv, mt_sb_bit hv hw]
/-- w taken out of the set -/
theorem mt_sb_del {x : Int32} {v w : Nat} (hv : v < 32) (hw : w < 32) : mt_sb (x &&& (((1 : Int32) <<< (nI w &&& 31)) ^^^ (-1))) v ↔ mt_sb x v ∧ v ≠ w := by
  rw [mt_sb_and hv, mt_sb_not hv, mt_sb_bit hv hw]
/-! ===== small numbers ===== -/
theorem mt_nm1 {v : Nat} (h : v < 2 ^ 31) : ¬ nI v = -1 := by
  intro e
  have := nI_pos h
  rw [e] at this
  exact this (by decide)
theorem mt_m1n : (-1 : Int32) < 0 := by decide
theorem mt_m1p : ¬ (0 : Int32) ≤ -1 := by decide
/-- where an int stands against the vertices -/
theorem mt_ix (x : Int32) : (x < 0 ∧ ¬ 9 < x ∧ x ≤ 9) ∨ (¬ x < 0 ∧ 9 < x ∧ ¬ x ≤ 9) ∨ ∃ j : Nat, j < 10 ∧ x = nI j ∧ ¬ x < 0 ∧ ¬ 9 < x ∧ x ≤ 9 := by
  have h9 : (9 : Int32).toInt = 9 := by decide
  have h0 : (0 : Int32).toInt = 0 := by decide
  have h10 : (nI 10).toInt = 10 := by decide
  rcases pk_ix x (n := 10) (by omega) with h | h | ⟨j, hj, h⟩
  · left
    rw [Int32.lt_iff_toInt_lt, Int32.lt_iff_toInt_lt, Int32.le_iff_toInt_le]
    rw [Int32.lt_iff_toInt_lt] at h
    omega
  · right; left
    rw [Int32.lt_iff_toInt_lt, Int32.lt_iff_toInt_lt, Int32.le_iff_toInt_le]
    rw [Int32.le_iff_toInt_le] at h
    omega
  · right; right
    refine ⟨j, hj, h, ?_⟩
    have hx : x.toInt = (j : Int) := by rw [h]; exact nI_toInt (by omega)
    rw [Int32.lt_iff_toInt_lt, Int32.lt_iff_toInt_lt, Int32.le_iff_toInt_le]
    omega
/-! ===== in, bad ===== -/
theorem mt_in {A B : Prop} {x : Int32} {v : Nat} (hB : mt_sb x v → B) (hA : ¬ mt_sb x v → A) : wpX_in (fun r => (r = 0 → A) ∧ (¬ r = 0 → B)) () x (nI v) :=
  ⟨fun h => br_f (by decide) (hB h), fun h => br_t rfl (hA h)⟩
theorem mt_bad_in {A B : Prop} {v : Nat} (hv : v < 10) (h : A) : wpX_bad (fun r => (r = 0 → A) ∧ (¬ r = 0 → B)) () (nI v) :=
  br_f (nI_pos (by omega)) (pk_lt v 10 (fun _ => br_t rfl h) (fun z => absurd z (by omega)))
theorem mt_bad_out {A B : Prop} {x : Int32} (hx : x < 0 ∨ 9 < x) (h : B) : wpX_bad (fun r => (r = 0 → A) ∧ (¬ r = 0 → B)) () x := by
  refine br_c (fun _ => br_f (by decide) h) (fun g => br_f ?_ (br_f (by decide) h))
  have h9 : (9 : Int32).toInt = 9 := by decide
  have h10 : (10 : Int32).toInt = 10 := by decide
  rcases hx with hx | hx
  · exact absurd hx g
  · rw [Int32.lt_iff_toInt_lt] at hx ⊢
    omega
end
section
section
variable {on am bA bB ev wt mk sh : Int32} {a1 a2 a3 a4 a5 a6 : Nat → Int32}
/-! ===== setEdge, with true ===== -/
theorem mt_setB {a1 : Nat → Int32} {v w : Nat} (hv : v < 10) (hw : w < 10) (hvw : v ≠ w) {A B C D : Int32}
    (hA : A = a1 v &&& (((1 : Int32) <<< (nI w &&& 31)) ^^^ (-1))) (hB : B = a1 w &&& (((1 : Int32) <<< (nI v &&& 31)) ^^^ (-1)))
    (hC : C = A ||| ((1 : Int32) <<< (nI w &&& 31))) (hD : D = B ||| ((1 : Int32) <<< (nI v &&& 31))) :
    ∀ x y, x < 10 → y < 10 → (mt_sb (upd (upd (upd (upd a1 v A) w B) v C) w D x) y ↔ mt_sb (a1 x) y ∨ (x = v ∧ y = w) ∨ (x = w ∧ y = v)) := by
  intro x y hx hy
  by_cases e1 : x = w
  · subst e1
    rw [pk_us, hD, hB, mt_sb_add (by omega) (by omega), mt_sb_del (by omega) (by omega)]
    by_cases e2 : y = v
    · simp [e2]
    · simp [e2, Ne.symm hvw]
  · rw [pk_un e1]
    by_cases e2 : x = v
    · subst e2
      rw [pk_us, hC, hA, mt_sb_add (by omega) (by omega), mt_sb_del (by omega) (by omega)]
      by_cases e3 : y = w
      · simp [e3]
      · simp [e3, hvw]
    · rw [pk_un e2, pk_un e1, pk_un e2]
      simp [e1, e2]
theorem mt_set {post : Int32 → St2 → Prop} {v w : Nat} (hv : v < 10) (hw : w < 10) (hvw : v ≠ w)
    (H : ∀ (r : Int32) (b1 : Nat → Int32), ((mt_sb (a1 v) w ∧ r = 1) ∨ (¬ mt_sb (a1 v) w ∧ r = 0)) →
      (∀ x y, x < 10 → y < 10 → (mt_sb (b1 x) y ↔ mt_sb (a1 x) y ∨ (x = v ∧ y = w) ∨ (x = w ∧ y = v))) →
      post r (on, am, bA, bB, ev, wt, mk, sh, b1, a2, a3, a4, a5, a6)) :
    wpX_setEdge post (on, am, bA, bB, ev, wt, mk, sh, a1, a2, a3, a4, a5, a6) (nI v) (nI w) 1 := by
  unfold wpX_setEdge
  refine ⟨pk_in v 10 hv, nm_e ⟨pk_in v 10 hv, pk_in v 10 hv, nm_e ⟨pk_in w 10 hw, pk_in w 10 hw, nm_e (br_f (by decide) ⟨pk_in v 10 hv, pk_in v 10 hv, nm_e ⟨pk_in w 10 hw, pk_in w 10 hw, nm_e ?_⟩⟩)⟩⟩⟩
  rw [nI_clamp (show v < 2 ^ 31 by omega), nI_clamp (show w < 2 ^ 31 by omega)]
  refine H _ _ ?_ (mt_setB hv hw hvw rfl ?_ ?_ ?_)
  · by_cases h : mt_sb (a1 v) w
    · exact Or.inl ⟨h, h⟩
    · exact Or.inr ⟨h, mt_sb_n (by omega) h⟩
  · rw [pk_un (Ne.symm hvw)]
  · rw [pk_un hvw, pk_us]
  · rw [pk_un (Ne.symm hvw), pk_us]
/-! ===== usable, with nothing barred ===== -/
theorem mt_usable {post : Int32 → Prop} {v w : Nat} (hv : v < 10) (hw : w < 10) (h1 : mt_sb (a1 v) w ∧ mt_sb am w → post 1) (h0 : ¬ (mt_sb (a1 v) w ∧ mt_sb am w) → post 0) :
    wpX_usable post (on, am, -1, -1, ev, wt, mk, sh, a1, a2, a3, a4, a5, a6) (nI v) (nI w) := by
  unfold wpX_usable
  refine br_f (mt_nm1 (by omega)) ?_
  unfold wX_usable_16
  refine br_f (mt_nm1 (by omega)) ?_
  unfold wX_usable_34
  refine ⟨pk_in v 10 hv, ?_⟩
  rw [nI_clamp (show v < 2 ^ 31 by omega)]
  exact mt_in (fun g1 => mt_in (fun g2 => h1 ⟨g1, g2⟩) (fun g2 => h0 (fun z => g2 z.2))) (fun g1 => h0 (fun z => g1 z.1))
/-! ===== meetEven, the first one met ===== -/
theorem mt_meet0 {post : St2 → Prop} {r : Nat} (hr : r < 10)
    (H : post (on, am, bA, bB, 0 ||| ((1 : Int32) <<< (nI r &&& 31)), 1, mk, sh, a1, a2, a3, a4, upd a5 0 (nI r), a6)) :
    wpX_meetEven post (on, am, bA, bB, 0, 0, mk, sh, a1, a2, a3, a4, a5, a6) (nI r) := by
  unfold wpX_meetEven
  exact mt_in (fun h => absurd h (mt_sb_0 (by omega))) (fun _ => nm_e ⟨pk_in 0 10 (by omega), nm_r (by rw [sb_cl0]) (nm_r (show (0 : Int32) + 1 = 1 by decide) H)⟩)
/-! ===== look along the edge, before anything is matched ===== -/
theorem mt_look {post : Int32 → St2 → Prop} {r t : Nat} (hr : r < 10) (ht : t < 10) (hn : t ≠ r) (h3 : ∀ v, v < 10 → a3 v = nI v) (h2r : a2 r = -1) (h2t : a2 t = -1) (h4 : a4 t = -1)
    (H : post (nI t) (on, am, bA, bB, ev, wt, mk, sh, a1, a2, a3, upd a4 t (nI r), a5, a6)) :
    wpX_look post (on, am, bA, bB, ev, wt, mk, sh, a1, a2, a3, a4, a5, a6) (nI r) (nI t) (nI r) := by
  unfold wpX_look
  dsimp only
  rw [nI_clamp (show r < 2 ^ 31 by omega), nI_clamp (show t < 2 ^ 31 by omega), h3 r hr, h3 t ht, h2r, h2t]
  refine ⟨pk_in r 10 hr, pk_in t 10 ht, pk_eq r t (fun z => absurd z (by omega)) (fun _ => ⟨pk_in r 10 hr, br_f (fun z => mt_nm1 (by omega) z.symm) (pk_eq t r (fun z => absurd z hn) (fun _ => ⟨pk_in t 10 ht, br_t mt_m1n ?_⟩))⟩)⟩
  unfold wX_look_59 wX_look_60
  rw [nI_clamp (show t < 2 ^ 31 by omega), h4, h2t]
  exact br_t rfl ⟨pk_in t 10 ht, br_t mt_m1n ⟨pk_in t 10 ht, nm_e ⟨pk_in t 10 ht, br_f mt_m1p H⟩⟩⟩
/-! ===== search: from r, one edge at most is open, that to t (t at least 10: none) ===== -/
theorem mt_s63 {post : Int32 → St2 → Prop} {J45 : Int32 → Int32 → Int32 → Int32 → Int32 → Int32 → Int32 → Int32 → Int32 → (Nat → Int32) → (Nat → Int32) → (Nat → Int32) → (Nat → Int32) → (Nat → Int32) → (Nat → Int32) → Prop} {x2 : Int32} {r t : Nat}
    (hr : r < 10) (hn : t ≠ r) (hG : ∀ w, w < 10 → (mt_sb (a1 r) w ∧ mt_sb am w ↔ w = t)) (h2r : a2 r = -1) (h2t : t < 10 → a2 t = -1)
    (h3 : ∀ v, v < 10 → a3 v = nI v) (h4 : ∀ v, v < 10 → a4 v = -1)
    (H1 : t < 10 → post (nI t) (on, am, -1, -1, ev, wt, mk, sh, a1, a2, a3, upd a4 t (nI r), a5, a6))
    (H0 : 10 ≤ t → J45 (x2 + 1) on am (-1) (-1) ev wt mk sh a1 a2 a3 a4 a5 a6) :
    ∃ n, wX_search_63 post J45 (nI r) x2 (nI r) n 0 on am (-1) (-1) ev wt mk sh a1 a2 a3 a4 a5 a6 := by
  refine pk_loop (σ := Unit) (fun n i _ => wX_search_63 post J45 (nI r) x2 (nI r) n (nI i) on am (-1) (-1) ev wt mk sh a1 a2 a3 a4 a5 a6) (fun _ _ => True) (min t 10) 0 () (by omega) trivial ?_ ?_
  · intro n _ _
    show wX_search_63 post J45 (nI r) x2 (nI r) (n + 1) (nI (min t 10)) on am (-1) (-1) ev wt mk sh a1 a2 a3 a4 a5 a6
    by_cases ht : t < 10
    · rw [show min t 10 = t by omega]
      refine pk_le 10 t (fun z => absurd z (by omega)) (fun _ => mt_usable hr ht (fun _ => br_f (by decide) ?_) (fun z => absurd ((hG t ht).mpr rfl) z))
      refine mt_look hr ht hn h3 h2r (h2t ht) (h4 t ht) ?_
      exact br_f (nI_pos (by omega)) (H1 ht)
    · rw [show min t 10 = 10 by omega]
      exact pk_le 10 10 (fun _ => nm_e (H0 (by omega))) (fun z => absurd z (by omega))
  · intro n i _ hi _ hw
    have hi' : i < 10 := by omega
    refine pk_le 10 i (fun z => absurd z (by omega)) (fun _ => mt_usable hr hi' (fun z => ?_) (fun _ => br_t rfl ?_))
    · have := (hG i hi').mp z
      omega
    · exact br_t mt_m1n (nm_r (nI_1 i) (hw () trivial))
theorem mt_s45 {post : Int32 → St2 → Prop} {r t : Nat}
    (hr : r < 10) (hn : t ≠ r) (hG : ∀ w, w < 10 → (mt_sb (a1 r) w ∧ mt_sb am w ↔ w = t)) (h2r : a2 r = -1) (h2t : t < 10 → a2 t = -1)
    (h3 : ∀ v, v < 10 → a3 v = nI v) (h4 : ∀ v, v < 10 → a4 v = -1) (h5 : a5 0 = nI r)
    (H1 : t < 10 → post (nI t) (on, am, -1, -1, ev, 1, mk, sh, a1, a2, a3, upd a4 t (nI r), a5, a6))
    (H0 : 10 ≤ t → post (-1) (on, am, -1, -1, ev, 1, mk, sh, a1, a2, a3, a4, a5, a6)) :
    ∃ n, wX_search_45 post (nI r) n 0 on am (-1) (-1) ev 1 mk sh a1 a2 a3 a4 a5 a6 := by
  refine ⟨0 + 1 + 1, pk_le 1 0 (fun z => absurd z (by omega)) (fun _ => ⟨pk_in 0 10 (by omega), nm_r (by rw [sb_cl0, h5]) ?_⟩)⟩
  refine mt_s63 hr hn hG h2r h2t h3 h4 H1 (fun z => ?_)
  exact pk_le 1 1 (fun _ => H0 z) (fun z => absurd z (by omega)) rfl (by decide)
theorem mt_search {post : Int32 → St2 → Prop} {r t : Nat}
    (hr : r < 10) (hn : t ≠ r) (hG : ∀ w, w < 10 → (mt_sb (a1 r) w ∧ mt_sb am w ↔ w = t)) (h2r : a2 r = -1) (h2t : t < 10 → a2 t = -1)
    (H1 : t < 10 → ∀ (ev wt : Int32) (a3 a4 a5 : Nat → Int32), a4 t = nI r → post (nI t) (on, am, -1, -1, ev, wt, mk, sh, a1, a2, a3, a4, a5, a6))
    (H0 : 10 ≤ t → ∀ (ev wt : Int32) (a3 a4 a5 : Nat → Int32), (∀ v, v < 10 → (mt_sb ev v ↔ v = r)) → post (-1) (on, am, -1, -1, ev, wt, mk, sh, a1, a2, a3, a4, a5, a6)) :
    wpX_search post (on, am, -1, -1, ev, wt, mk, sh, a1, a2, a3, a4, a5, a6) (nI r) := by
  unfold wpX_search
  refine pk_loop (σ := (Nat → Int32) × (Nat → Int32)) (fun n i s => wX_search_2 post (nI r) on am (-1) (-1) ev wt mk sh n (nI i) a1 a2 s.1 s.2 a5 a6) (fun i s => ∀ v, v < i → s.1 v = nI v ∧ s.2 v = -1) 10 0 (a3, a4) (by omega) (fun v hv => absurd hv (by omega)) ?_ ?_
  · intro n s h
    refine pk_le 10 10 (fun _ => mt_meet0 hr ?_) (fun z => absurd z (by omega))
    refine mt_s45 hr hn hG h2r h2t (fun v hv => (h v hv).1) (fun v hv => (h v hv).2) pk_us (fun ht => H1 ht _ _ _ _ _ pk_us) (fun ht => H0 ht _ _ _ _ _ (fun v hv => ?_))
    rw [mt_sb_add (by omega) (by omega)]
    exact ⟨fun z => z.elim (fun g => absurd g (mt_sb_0 (by omega))) id, Or.inr⟩
  · intro n i s hi h hw
    refine pk_le 10 i (fun z => absurd z (by omega)) (fun _ => ⟨pk_in i 10 hi, nm_e ⟨pk_in i 10 hi, nm_e (nm_r (nI_1 i) ?_)⟩⟩)
    rw [nI_clamp (show i < 2 ^ 31 by omega)]
    refine hw (upd s.1 i (nI i), upd s.2 i (-1)) (fun v hv => ?_)
    by_cases e : v = i
    · subst e
      exact ⟨pk_us, pk_us⟩
    · show upd s.1 i (nI i) v = nI v ∧ upd s.2 i (-1) v = -1
      rw [pk_un e, pk_un e]
      exact h v (by omega)
/-! ===== turnRound along one edge ===== -/
theorem mt_round {post : St2 → Prop} {r t : Nat} (hr : r < 10) (ht : t < 10) (h4 : a4 t = nI r) (h2 : a2 r = -1)
    (H : post (on, am, bA, bB, ev, wt, mk, sh, a1, upd (upd a2 r (nI t)) t (nI r), a3, a4, a5, a6)) :
    wpX_turnRound post (on, am, bA, bB, ev, wt, mk, sh, a1, a2, a3, a4, a5, a6) (nI t) := by
  unfold wpX_turnRound
  refine ⟨0 + 1 + 1, pk_le 10 0 (fun z => absurd z (by omega)) (fun _ => br_f (nI_pos (by omega)) ⟨pk_in t 10 ht, nm_r (e' := nI r) ?_ ⟨pk_in r 10 hr, nm_r (e' := -1) ?_ ⟨pk_in r 10 hr, nm_e ⟨pk_in t 10 ht, nm_e (nm_e ?_)⟩⟩⟩⟩)⟩
  · rw [nI_clamp (show t < 2 ^ 31 by omega), h4]
  · rw [nI_clamp (show r < 2 ^ 31 by omega), h2]
  · rw [nI_clamp (show t < 2 ^ 31 by omega), nI_clamp (show r < 2 ^ 31 by omega)]
    exact pk_le 10 1 (fun z => absurd z (by omega)) (fun _ => br_t mt_m1n H) rfl (by decide)
end
end
section
/-- partners (a place without one holds d) when the vertices below i have had their turn -/
def mt_mate (d : Int32) (lo hi i v : Nat) : Int32 := if lo < i ∧ v = lo then nI hi else if lo < i ∧ v = hi then nI lo else d
def mt_cnt (lo i : Nat) : Nat := if lo < i then 1 else 0
/-- the graph: one edge, lo to hi; none where both are 10 or more -/
def mt_G (a1 : Nat → Int32) (lo hi : Nat) : Prop := lo < hi ∧ (hi < 10 ∨ 10 ≤ lo) ∧ ∀ v w, v < 10 → w < 10 → (mt_sb (a1 v) w ↔ (v = lo ∧ w = hi) ∨ (v = hi ∧ w = lo))
theorem mt_mate_keep {d : Int32} {lo hi i v : Nat} (h : i ≠ lo) : mt_mate d lo hi (i + 1) v = mt_mate d lo hi i v := by
  unfold mt_mate
  have e : (lo < i + 1) = (lo < i) := propext ⟨fun _ => by omega, fun _ => by omega⟩
  simp only [e]
theorem mt_cnt_keep {lo i : Nat} (h : i ≠ lo) : mt_cnt lo (i + 1) = mt_cnt lo i := by
  unfold mt_cnt
  have e : (lo < i + 1) = (lo < i) := propext ⟨fun _ => by omega, fun _ => by omega⟩
  simp only [e]
theorem mt_mate_d {d : Int32} {lo hi i v : Nat} (h : i ≤ lo) : mt_mate d lo hi i v = d := by
  unfold mt_mate
  rw [if_neg (fun z => absurd z.1 (by omega)), if_neg (fun z => absurd z.1 (by omega))]
theorem mt_mate_n {d : Int32} {lo hi i v : Nat} (h1 : v ≠ lo) (h2 : v ≠ hi) : mt_mate d lo hi i v = d := by
  unfold mt_mate
  rw [if_neg (fun z => h1 z.2), if_neg (fun z => h2 z.2)]
theorem mt_mate_lo {d : Int32} {lo hi i : Nat} (h : lo < i) : mt_mate d lo hi i lo = nI hi := by
  unfold mt_mate
  rw [if_pos ⟨h, rfl⟩]
theorem mt_mate_hi {d : Int32} {lo hi i : Nat} (h : lo < i) (h2 : lo < hi) : mt_mate d lo hi i hi = nI lo := by
  unfold mt_mate
  rw [if_neg (fun z => absurd z.2 (by omega)), if_pos ⟨h, rfl⟩]
/-- the pair is stored -/
theorem mt_mate_put {d : Int32} {lo hi : Nat} {f : Nat → Int32} (h2 : lo < hi) (h : ∀ v, v < 10 → f v = mt_mate d lo hi lo v) : ∀ v, v < 10 → upd (upd f lo (nI hi)) hi (nI lo) v = mt_mate d lo hi (lo + 1) v := by
  intro v hv
  by_cases e1 : v = hi
  · subst e1
    rw [pk_us, mt_mate_hi (by omega) h2]
  · rw [pk_un e1]
    by_cases e2 : v = lo
    · subst e2
      rw [pk_us, mt_mate_lo (by omega)]
    · rw [pk_un e2, mt_mate_n e2 e1, h v hv, mt_mate_n e2 e1]
section
variable {on am bA bB ev wt mk sh : Int32} {a1 a2 a3 a4 a5 a6 : Nat → Int32}
theorem mt_m30 {post : Int32 → St2 → Prop} {S : Int32} {lo hi : Nat} (hlh : lo < hi) (hE : hi < 10 ∨ 10 ≤ lo) (hS : hi < 10 → mt_sb S lo ∧ mt_sb S hi)
    (hG : ∀ v w, v < 10 → w < 10 → mt_sb S v → (mt_sb (a1 v) w ∧ mt_sb S w ↔ (v = lo ∧ w = hi) ∨ (v = hi ∧ w = lo))) (h2 : ∀ v, v < 10 → a2 v = -1)
    (H : ∀ (ev wt : Int32) (a2 a3 a4 a5 : Nat → Int32), (∀ v, v < 10 → a2 v = mt_mate (-1) lo hi 10 v) → post (nI (mt_cnt lo 10)) (on, S, -1, -1, ev, wt, mk, sh, a1, a2, a3, a4, a5, a6)) :
    ∃ n, wX_matchAmong_30 post S n 0 0 on S (-1) (-1) ev wt mk sh a1 a2 a3 a4 a5 a6 := by
  refine pk_loop (σ := Int32 × Int32 × Int32 × (Nat → Int32) × (Nat → Int32) × (Nat → Int32) × (Nat → Int32))
    (fun n i s => wX_matchAmong_30 post S n s.1 (nI i) on S (-1) (-1) s.2.1 s.2.2.1 mk sh a1 s.2.2.2.1 s.2.2.2.2.1 s.2.2.2.2.2.1 s.2.2.2.2.2.2 a6)
    (fun i s => s.1 = nI (mt_cnt lo i) ∧ ∀ v, v < 10 → s.2.2.2.1 v = mt_mate (-1) lo hi i v) 10 0 (0, ev, wt, a2, a3, a4, a5) (by omega) ⟨?_, ?_⟩ ?_ ?_
  · show (0 : Int32) = nI (mt_cnt lo 0)
    unfold mt_cnt
    rw [if_neg (by omega)]
    rfl
  · intro v hv
    show a2 v = mt_mate (-1) lo hi 0 v
    rw [h2 v hv, mt_mate_d (by omega)]
  · intro n s h
    obtain ⟨x2, ev, wt, a2, a3, a4, a5⟩ := s
    obtain ⟨hx, h⟩ := h
    have hx' : x2 = nI (mt_cnt lo 10) := hx
    subst hx'
    exact pk_le 10 10 (fun _ => H ev wt a2 a3 a4 a5 h) (fun z => absurd z (by omega))
  · intro n i s hi' h hw
    obtain ⟨x2, ev, wt, a2, a3, a4, a5⟩ := s
    obtain ⟨hx, h⟩ := h
    have hx' : x2 = nI (mt_cnt lo i) := hx
    have h' : ∀ v, v < 10 → a2 v = mt_mate (-1) lo hi i v := h
    clear hx h
    show wX_matchAmong_30 post S (n + 1) x2 (nI i) on S (-1) (-1) ev wt mk sh a1 a2 a3 a4 a5 a6
    have keep : i ≠ lo → ∀ (ev wt : Int32) (a3 a4 a5 : Nat → Int32), wX_matchAmong_30 post S n x2 (nI (i + 1)) on S (-1) (-1) ev wt mk sh a1 a2 a3 a4 a5 a6 := by
      intro e ev wt a3 a4 a5
      refine hw (x2, ev, wt, a2, a3, a4, a5) ⟨?_, ?_⟩
      · show x2 = nI (mt_cnt lo (i + 1))
        rw [mt_cnt_keep e, hx']
      · intro v hv
        show a2 v = mt_mate (-1) lo hi (i + 1) v
        rw [mt_mate_keep e]
        exact h' v hv
    refine pk_le 10 i (fun z => absurd z (by omega)) (fun _ => mt_in (fun hs => ⟨pk_in i 10 hi', ?_⟩) (fun hs => nm_r (nI_1 i) (keep ?_ ev wt a3 a4 a5)))
    rotate_left
    · intro e
      subst e
      exact hs (hS (by omega)).1
    rw [nI_clamp (show i < 2 ^ 31 by omega)]
    refine br_c (fun g => nm_r (nI_1 i) (keep ?_ ev wt a3 a4 a5)) (fun g => ?_)
    · intro e
      subst e
      rw [h' i hi', mt_mate_d (by omega)] at g
      exact mt_m1p g
    · have ehi : i ≠ hi := by
        intro e
        subst e
        rw [h' i hi', mt_mate_hi (by omega) hlh] at g
        exact g (nI_pos' (by omega))
      by_cases e : i = lo
      · subst e
        have hh : hi < 10 := by omega
        have e1 : a2 i = -1 := by rw [h' i hi', mt_mate_d (by omega)]
        have e2 : a2 hi = -1 := by rw [h' hi hh, mt_mate_d (by omega)]
        refine mt_search hi' (Ne.symm ehi) (fun w hw' => ?_) e1 (fun _ => e2) (fun _ ev wt a3 a4 a5 h4 => ?_) (fun z => absurd z (by omega))
        · rw [hG i w hi' hw' hs]
          exact ⟨fun z => z.elim (fun q => q.2) (fun q => absurd q.1 ehi), fun z => Or.inl ⟨rfl, z⟩⟩
        · refine br_f (nI_pos (by omega)) (mt_round hi' hh h4 e1 (nm_e (nm_r (nI_1 i) ?_)))
          refine hw (x2 + 1, ev, wt, upd (upd a2 i (nI hi)) hi (nI i), a3, a4, a5) ⟨?_, ?_⟩
          · show x2 + 1 = nI (mt_cnt i (i + 1))
            rw [hx']
            unfold mt_cnt
            rw [if_neg (by omega), if_pos (by omega)]
            rfl
          · exact mt_mate_put hlh h'
      · refine mt_search (t := 10) hi' (by omega) (fun w hw' => ?_) ?_ (fun z => absurd z (by omega)) (fun z => absurd z (by omega)) (fun _ ev wt a3 a4 a5 _ => br_t mt_m1n (nm_r (nI_1 i) (keep e ev wt a3 a4 a5)))
        · rw [hG i w hi' hw' hs]
          exact ⟨fun z => z.elim (fun q => absurd q.1 e) (fun q => absurd q.1 ehi), fun z => absurd z (by omega)⟩
        · rw [h' i hi', mt_mate_n e ehi]
theorem mt_match {post : Int32 → St2 → Prop} {S : Int32} {lo hi : Nat} (hlh : lo < hi) (hE : hi < 10 ∨ 10 ≤ lo) (hS : hi < 10 → mt_sb S lo ∧ mt_sb S hi)
    (hG : ∀ v w, v < 10 → w < 10 → mt_sb S v → (mt_sb (a1 v) w ∧ mt_sb S w ↔ (v = lo ∧ w = hi) ∨ (v = hi ∧ w = lo)))
    (H : ∀ (ev wt : Int32) (a2 a3 a4 a5 : Nat → Int32), (∀ v, v < 10 → a2 v = mt_mate (-1) lo hi 10 v) → post (nI (mt_cnt lo 10)) (on, S, -1, -1, ev, wt, mk, sh, a1, a2, a3, a4, a5, a6)) :
    wpX_matchAmong post (on, am, -1, -1, ev, wt, mk, sh, a1, a2, a3, a4, a5, a6) S := by
  unfold wpX_matchAmong
  refine pk_loop (σ := Nat → Int32) (fun n i s => wX_matchAmong_7 post S on S (-1) (-1) ev wt mk sh n (nI i) a1 s a3 a4 a5 a6) (fun i s => ∀ v, v < i → s v = -1) 10 0 a2 (by omega) (fun v hv => absurd hv (by omega)) ?_ ?_
  · intro n s h
    exact pk_le 10 10 (fun _ => mt_m30 hlh hE hS hG h H) (fun z => absurd z (by omega))
  · intro n i s hi h hw
    refine pk_le 10 i (fun z => absurd z (by omega)) (fun _ => ⟨pk_in i 10 hi, nm_e (nm_r (nI_1 i) (hw _ (fun v hv => ?_)))⟩)
    rw [nI_clamp (show i < 2 ^ 31 by omega)]
    by_cases e : v = i
    · subst e
      exact pk_us
    · rw [pk_un e]
      exact h v (by omega)
theorem mt_sz {post : Int32 → St2 → Prop} {S : Int32} {lo hi : Nat} (hlh : lo < hi) (hE : hi < 10 ∨ 10 ≤ lo) (hS : hi < 10 → mt_sb S lo ∧ mt_sb S hi)
    (hG : ∀ v w, v < 10 → w < 10 → mt_sb S v → (mt_sb (a1 v) w ∧ mt_sb S w ↔ (v = lo ∧ w = hi) ∨ (v = hi ∧ w = lo)))
    (H : ∀ (ev wt : Int32) (a2 a3 a4 a5 : Nat → Int32), (∀ v, v < 10 → a2 v = mt_mate (-1) lo hi 10 v) → post (nI (mt_cnt lo 10)) (on, S, -1, -1, ev, wt, mk, sh, a1, a2, a3, a4, a5, a6)) :
    wpX_sizeAmong post (on, am, bA, bB, ev, wt, mk, sh, a1, a2, a3, a4, a5, a6) S := by
  unfold wpX_sizeAmong
  exact mt_match hlh hE hS hG H
/-- a set that holds both ends of the edge (or there is none) -/
theorem mt_szT {post : Int32 → St2 → Prop} {S : Int32} {lo hi : Nat} (hg : mt_G a1 lo hi) (hS : hi < 10 → mt_sb S lo ∧ mt_sb S hi)
    (H : ∀ (ev wt : Int32) (a2 a3 a4 a5 : Nat → Int32), (∀ v, v < 10 → a2 v = mt_mate (-1) lo hi 10 v) → post (nI (mt_cnt lo 10)) (on, S, -1, -1, ev, wt, mk, sh, a1, a2, a3, a4, a5, a6)) :
    wpX_sizeAmong post (on, am, bA, bB, ev, wt, mk, sh, a1, a2, a3, a4, a5, a6) S := by
  refine mt_sz hg.1 hg.2.1 hS (fun v w hv hw hs => ?_) H
  rw [hg.2.2 v w hv hw]
  refine ⟨fun z => z.1, fun z => ⟨z, ?_⟩⟩
  have hlh := hg.1
  rcases z with ⟨z1, z2⟩ | ⟨z1, z2⟩
  · rw [z2]
    exact (hS (by omega)).2
  · rw [z2]
    exact (hS (by omega)).1
/-- a set that lacks an end of the edge -/
theorem mt_szF {post : Int32 → St2 → Prop} {S : Int32} {lo hi : Nat} (hg : mt_G a1 lo hi) (hS : ¬ (mt_sb S lo ∧ mt_sb S hi))
    (H : ∀ (ev wt : Int32) (a2 a3 a4 a5 : Nat → Int32), post 0 (on, S, -1, -1, ev, wt, mk, sh, a1, a2, a3, a4, a5, a6)) :
    wpX_sizeAmong post (on, am, bA, bB, ev, wt, mk, sh, a1, a2, a3, a4, a5, a6) S := by
  refine mt_sz (lo := 10) (hi := 11) (by omega) (by omega) (fun z => absurd z (by omega)) (fun v w hv hw hs => ?_) (fun ev wt a2 a3 a4 a5 _ => H ev wt a2 a3 a4 a5)
  rw [hg.2.2 v w hv hw]
  refine ⟨fun z => ?_, fun z => ?_⟩
  · obtain ⟨z, hs2⟩ := z
    rcases z with ⟨z1, z2⟩ | ⟨z1, z2⟩
    · rw [z1] at hs
      rw [z2] at hs2
      exact absurd ⟨hs, hs2⟩ hS
    · rw [z1] at hs
      rw [z2] at hs2
      exact absurd ⟨hs2, hs⟩ hS
  · omega
theorem mt_all {lo hi : Nat} (hlh : lo < hi) : hi < 10 → mt_sb 1023 lo ∧ mt_sb 1023 hi := fun h => ⟨mt_sb_1023 (by omega), mt_sb_1023 h⟩
theorem mt_size {post : Int32 → St2 → Prop} {lo hi : Nat} (hg : mt_G a1 lo hi)
    (H : ∀ (ev wt : Int32) (a2 a3 a4 a5 : Nat → Int32), post (nI (mt_cnt lo 10)) (1023, 1023, -1, -1, ev, wt, mk, sh, a1, a2, a3, a4, a5, a6)) :
    wpX_size post (1023, am, bA, bB, ev, wt, mk, sh, a1, a2, a3, a4, a5, a6) := by
  unfold wpX_size
  exact mt_szT hg (mt_all hg.1) (fun ev wt a2 a3 a4 a5 _ => H ev wt a2 a3 a4 a5)
end
end
section
section
variable {on am bA bB ev wt mk sh : Int32} {a1 a2 a3 a4 a5 a6 : Nat → Int32}
theorem mt_free {post : Int32 → St2 → Prop} {lo hi : Nat} (hg : mt_G a1 lo hi)
    (H : ∀ (ev wt : Int32) (a2 a3 a4 a5 : Nat → Int32) (x : Int32), (∀ v, v < 10 → (mt_sb x v ↔ v ≠ lo ∧ v ≠ hi)) → post x (1023, 1023, -1, -1, ev, wt, mk, sh, a1, a2, a3, a4, a5, a6)) :
    wpX_freeVertices post (1023, am, bA, bB, ev, wt, mk, sh, a1, a2, a3, a4, a5, a6) := by
  unfold wpX_freeVertices
  refine mt_szT hg (mt_all hg.1) (fun ev wt a2 a3 a4 a5 h2 => ?_)
  have hlh := hg.1
  have hE := hg.2.1
  refine pk_loop (σ := Int32 × Int32 × Int32 × (Nat → Int32) × (Nat → Int32) × (Nat → Int32))
    (fun n i s => wX_freeVertices_13 post n s.1 (nI i) 1023 1023 (-1) (-1) s.2.1 s.2.2.1 mk sh a1 a2 s.2.2.2.1 s.2.2.2.2.1 s.2.2.2.2.2 a6)
    (fun i s => ∀ v, v < 10 → (mt_sb s.1 v ↔ v < i ∧ v ≠ lo ∧ v ≠ hi)) 10 0 (0, ev, wt, a3, a4, a5) (by omega) ?_ ?_ ?_
  · intro v hv
    exact ⟨fun z => absurd z (mt_sb_0 (by omega)), fun z => absurd z.1 (by omega)⟩
  · intro n s h
    obtain ⟨x, ev, wt, a3, a4, a5⟩ := s
    exact pk_le 10 10 (fun _ => H ev wt a2 a3 a4 a5 x (fun v hv => (h v hv).trans ⟨fun z => z.2, fun z => ⟨hv, z⟩⟩)) (fun z => absurd z (by omega))
  · intro n i s hi' h hw
    obtain ⟨x, ev, wt, a3, a4, a5⟩ := s
    have h' : ∀ v, v < 10 → (mt_sb x v ↔ v < i ∧ v ≠ lo ∧ v ≠ hi) := h
    clear h
    show wX_freeVertices_13 post (n + 1) x (nI i) 1023 1023 (-1) (-1) ev wt mk sh a1 a2 a3 a4 a5 a6
    refine pk_le 10 i (fun z => absurd z (by omega)) (fun _ => mt_in (fun _ => ⟨pk_in i 10 hi', ?_⟩) (fun z => absurd (mt_sb_1023 hi') z))
    rw [nI_clamp (show i < 2 ^ 31 by omega), h2 i hi']
    by_cases e : i = lo ∨ i = hi
    · have hp : 0 ≤ mt_mate (-1) lo hi 10 i := by
        rcases e with e | e
        · subst e
          rw [mt_mate_lo hi']
          exact nI_pos' (by omega)
        · subst e
          rw [mt_mate_hi (by omega) hlh]
          exact nI_pos' (by omega)
      refine br_t hp (nm_r (nI_1 i) (hw (x, ev, wt, a3, a4, a5) (fun v hv => ?_)))
      show mt_sb x v ↔ v < i + 1 ∧ v ≠ lo ∧ v ≠ hi
      rw [h' v hv]
      omega
    · have e1 : i ≠ lo := fun z => e (Or.inl z)
      have e2 : i ≠ hi := fun z => e (Or.inr z)
      rw [mt_mate_n e1 e2]
      refine br_f mt_m1p (mt_search (t := 10) hi' (by omega) (fun w hw' => ?_) ?_ (fun z => absurd z (by omega)) (fun z => absurd z (by omega)) (fun _ ev wt a3 a4 a5 hev => ?_))
      · rw [hg.2.2 i w hi' hw']
        omega
      · rw [h2 i hi', mt_mate_n e1 e2]
      · refine nm_e (nm_r (nI_1 i) (hw (x ||| ev, ev, wt, a3, a4, a5) (fun v hv => ?_)))
        show mt_sb (x ||| ev) v ↔ v < i + 1 ∧ v ≠ lo ∧ v ≠ hi
        rw [mt_sb_or (by omega), h' v hv, hev v hv]
        omega
theorem mt_border {post : Int32 → Prop} {lo hi : Nat} {x : Int32} (hg : mt_G a1 lo hi) (hx : ∀ v, v < 10 → mt_sb x v → v ≠ lo ∧ v ≠ hi)
    (H : ∀ y : Int32, (∀ w, w < 10 → ¬ mt_sb y w) → post y) :
    wpX_borderVertices post (on, am, bA, bB, ev, wt, mk, sh, a1, a2, a3, a4, a5, a6) x := by
  unfold wpX_borderVertices
  refine pk_loop (σ := Int32) (fun n i s => wX_borderVertices_4 post x on am bA bB ev wt mk sh a1 a2 a3 a4 a5 a6 n s (nI i)) (fun _ s => ∀ w, w < 10 → ¬ mt_sb s w) 10 0 0 (by omega) (fun w hw => mt_sb_0 (by omega)) ?_ ?_
  · intro n s h
    refine pk_le 10 10 (fun _ => H _ (fun w hw z => ?_)) (fun z => absurd z (by omega))
    rw [mt_sb_and (by omega), mt_sb_and (by omega)] at z
    exact h w hw z.1.1
  · intro n i s hi h hw
    refine pk_le 10 i (fun z => absurd z (by omega)) (fun _ => mt_in (fun hs => ⟨pk_in i 10 hi, nm_e (nm_r (nI_1 i) (hw _ (fun w hw' z => ?_)))⟩) (fun _ => nm_r (nI_1 i) (hw s h)))
    rw [nI_clamp (show i < 2 ^ 31 by omega), mt_sb_or (by omega), hg.2.2 i w hi hw'] at z
    have e := hx i hi hs
    rcases z with z | z
    · exact h w hw' z
    · omega
theorem mt_part {post : Int32 → St2 → Prop} {lo hi v : Nat} (hv : v < 10) (hg : mt_G a1 lo hi)
    (HC : (v = lo ∨ v = hi) → ∀ (ev wt : Int32) (a2 a3 a4 a5 : Nat → Int32), post 3 (1023, 1023, -1, -1, ev, wt, mk, sh, a1, a2, a3, a4, a5, a6))
    (HF : ¬ (v = lo ∨ v = hi) → ∀ (ev wt : Int32) (a2 a3 a4 a5 : Nat → Int32), post 1 (1023, 1023, -1, -1, ev, wt, mk, sh, a1, a2, a3, a4, a5, a6)) :
    wpX_part post (1023, am, bA, bB, ev, wt, mk, sh, a1, a2, a3, a4, a5, a6) (nI v) := by
  unfold wpX_part
  refine mt_bad_in hv (mt_in (fun _ => mt_free hg (fun ev wt a2 a3 a4 a5 x hx => ?_)) (fun z => absurd (mt_sb_1023 hv) z))
  refine mt_border hg (fun u hu hs => (hx u hu).mp hs) (fun y hy => ?_)
  refine mt_in (fun g => HF (fun z => ?_) ev wt a2 a3 a4 a5) (fun g => mt_in (fun g2 => absurd g2 (hy v hv)) (fun _ => HC ?_ ev wt a2 a3 a4 a5))
  · have := (hx v hv).mp g
    omega
  · rw [hx v hv] at g
    omega
theorem mt_part_out {post : Int32 → St2 → Prop} {x : Int32} (hx : x < 0 ∨ 9 < x) (H : post (-1) (on, am, bA, bB, ev, wt, mk, sh, a1, a2, a3, a4, a5, a6)) :
    wpX_part post (on, am, bA, bB, ev, wt, mk, sh, a1, a2, a3, a4, a5, a6) x := by
  unfold wpX_part
  exact mt_bad_out hx H
end
end
section
section
variable {on am bA bB ev wt mk sh : Int32} {a1 a2 a3 a4 a5 a6 : Nat → Int32}
/-- firstPartner's loop up to e: no edge to a vertex between -/
theorem mt_fp5 {post : Int32 → St2 → Prop} {v e : Nat} {S nd : Int32} (hv : v < 10) (he : v + 1 ≤ e) (he' : e ≤ 10) (hk : ∀ w, v < w → w < e → ¬ mt_sb (a1 v) w)
    (hx : ∀ n, wX_firstPartner_5 post (nI v) S nd (n + 1) (nI e) on am bA bB ev wt mk sh a1 a2 a3 a4 a5 a6) :
    ∃ n, wX_firstPartner_5 post (nI v) S nd n (nI (v + 1)) on am bA bB ev wt mk sh a1 a2 a3 a4 a5 a6 := by
  refine pk_loop (σ := Unit) (fun n i _ => wX_firstPartner_5 post (nI v) S nd n (nI i) on am bA bB ev wt mk sh a1 a2 a3 a4 a5 a6) (fun i _ => v < i) e (v + 1) () he (by omega) (fun n _ _ => hx n) ?_
  intro n i _ hi h hw
  have h1 : v < i := h
  have hn : wX_firstPartner_5 post (nI v) S nd n (nI (i + 1)) on am bA bB ev wt mk sh a1 a2 a3 a4 a5 a6 := hw () (by omega)
  refine pk_le 10 i (fun z => absurd z (by omega)) (fun _ => mt_in (fun _ => ⟨pk_in v 10 hv, ?_⟩) (fun _ => nm_r (nI_1 i) hn))
  rw [nI_clamp (show v < 2 ^ 31 by omega)]
  exact mt_in (fun g => absurd g (hk i h1 hi)) (fun _ => nm_r (nI_1 i) hn)
theorem mt_fp {post : Int32 → St2 → Prop} {lo hi v : Nat} {S nd : Int32} (hv : v < 10) (hg : mt_G a1 lo hi) (hn : v = lo → mt_sb S hi ∧ nd = 1)
    (H1 : v = lo → ∀ (am ev wt : Int32) (a2 a3 a4 a5 : Nat → Int32), post (nI hi) (on, am, -1, -1, ev, wt, mk, sh, a1, a2, a3, a4, a5, a6))
    (H0 : v ≠ lo → post (-1) (on, am, bA, bB, ev, wt, mk, sh, a1, a2, a3, a4, a5, a6)) :
    wpX_firstPartner post (on, am, bA, bB, ev, wt, mk, sh, a1, a2, a3, a4, a5, a6) (nI v) S nd := by
  unfold wpX_firstPartner
  have hlh := hg.1
  have hE := hg.2.1
  by_cases e : v = lo
  · subst e
    obtain ⟨hs, hnd⟩ := hn rfl
    have hh : hi < 10 := by omega
    refine nm_r (nI_1 v) (mt_fp5 (e := hi) hv (by omega) (by omega) (fun w h1 h2 z => ?_) (fun n => ?_))
    · rw [hg.2.2 v w hv (by omega)] at z
      omega
    · refine pk_le 10 hi (fun z => absurd z (by omega)) (fun _ => mt_in (fun _ => ⟨pk_in v 10 hv, ?_⟩) (fun z => absurd hs z))
      rw [nI_clamp (show v < 2 ^ 31 by omega)]
      refine mt_in (fun _ => mt_szF hg (fun z => ?_) (fun ev wt a2 a3 a4 a5 => br_t ?_ (H1 rfl _ ev wt a2 a3 a4 a5))) (fun z => absurd ((hg.2.2 v hi hv hh).mpr (Or.inl ⟨rfl, rfl⟩)) z)
      · have z1 := z.1
        rw [mt_sb_del (by omega) (by omega), mt_sb_del (by omega) (by omega)] at z1
        exact z1.1.2 rfl
      · rw [hnd]
        decide
  · refine nm_r (nI_1 v) (mt_fp5 (e := 10) hv (by omega) (by omega) (fun w h1 h2 z => ?_) (fun n => ?_))
    · rw [hg.2.2 v w hv (by omega)] at z
      omega
    · exact pk_le 10 10 (fun _ => H0 e) (fun z => absurd z (by omega))
/-- how many pairs are still wanted -/
def mt_nd (lo i : Nat) : Nat := if i ≤ lo ∧ lo < 10 then 1 else 0
theorem mt_ff38 {post : St2 → Prop} {lo hi : Nat} (hg : mt_G a1 lo hi) (h6 : ∀ v, v < 10 → a6 v = -2)
    (H : ∀ (am ev wt : Int32) (a2 a3 a4 a5 a6 : Nat → Int32), (∀ v, v < 10 → a6 v = mt_mate (-2) lo hi 10 v) → post (on, am, -1, -1, ev, wt, mk, sh, a1, a2, a3, a4, a5, a6)) :
    ∃ n, wX_findFirst_38 post n 1023 (nI (mt_cnt lo 10)) 0 on am (-1) (-1) ev wt mk sh a1 a2 a3 a4 a5 a6 := by
  have hlh := hg.1
  have hE := hg.2.1
  refine pk_loop (σ := Int32 × Int32 × Int32 × Int32 × Int32 × (Nat → Int32) × (Nat → Int32) × (Nat → Int32) × (Nat → Int32) × (Nat → Int32))
    (fun n i s => wX_findFirst_38 post n s.1 s.2.1 (nI i) on s.2.2.1 (-1) (-1) s.2.2.2.1 s.2.2.2.2.1 mk sh a1 s.2.2.2.2.2.1 s.2.2.2.2.2.2.1 s.2.2.2.2.2.2.2.1 s.2.2.2.2.2.2.2.2.1 s.2.2.2.2.2.2.2.2.2)
    (fun i s => (∀ w, w < 10 → (mt_sb s.1 w ↔ i ≤ w ∧ ¬ (lo < i ∧ w = hi))) ∧ s.2.1 = nI (mt_nd lo i) ∧ ∀ v, v < 10 → s.2.2.2.2.2.2.2.2.2 v = mt_mate (-2) lo hi i v) 10 0
    (1023, nI (mt_cnt lo 10), am, ev, wt, a2, a3, a4, a5, a6) (by omega) ⟨?_, ?_, ?_⟩ ?_ ?_
  · intro w hw
    exact ⟨fun _ => ⟨by omega, fun z => absurd z.1 (by omega)⟩, fun _ => mt_sb_1023 hw⟩
  · show nI (mt_cnt lo 10) = nI (mt_nd lo 0)
    unfold mt_cnt mt_nd
    by_cases e : lo < 10
    · rw [if_pos e, if_pos ⟨by omega, e⟩]
    · rw [if_neg e, if_neg (fun z => e z.2)]
  · intro v hv
    show a6 v = mt_mate (-2) lo hi 0 v
    rw [h6 v hv, mt_mate_d (by omega)]
  · intro n s h
    obtain ⟨x1, x2, am, ev, wt, a2, a3, a4, a5, a6⟩ := s
    exact pk_le 10 10 (fun _ => H am ev wt a2 a3 a4 a5 a6 h.2.2) (fun z => absurd z (by omega))
  · intro n i s hi' h hw
    obtain ⟨x1, x2, am, ev, wt, a2, a3, a4, a5, a6⟩ := s
    have h1 : ∀ w, w < 10 → (mt_sb x1 w ↔ i ≤ w ∧ ¬ (lo < i ∧ w = hi)) := h.1
    have h2 : x2 = nI (mt_nd lo i) := h.2.1
    have h3 : ∀ v, v < 10 → a6 v = mt_mate (-2) lo hi i v := h.2.2
    clear h
    have nd : i ≠ lo → x2 = nI (mt_nd lo (i + 1)) := by
      intro e
      rw [h2]
      unfold mt_nd
      by_cases g : i ≤ lo ∧ lo < 10
      · rw [if_pos g, if_pos (by omega)]
      · rw [if_neg g, if_neg (by omega)]
    show wX_findFirst_38 post (n + 1) x1 x2 (nI i) on am (-1) (-1) ev wt mk sh a1 a2 a3 a4 a5 a6
    refine pk_le 10 i (fun z => absurd z (by omega)) (fun _ => mt_in (fun hs => ?_) (fun hs => nm_r (nI_1 i) ?_))
    · rw [h1 i hi'] at hs
      refine mt_fp hi' hg (fun e => ?_) (fun e am ev wt a2 a3 a4 a5 => nm_e ?_) (fun e => nm_e ?_)
      · subst e
        refine ⟨(h1 hi (by omega)).mpr ⟨by omega, fun z => absurd z.1 (by omega)⟩, ?_⟩
        rw [h2]
        unfold mt_nd
        rw [if_pos ⟨by omega, hi'⟩]
        rfl
      · subst e
        have hh : hi < 10 := by omega
        refine br_f (nI_pos (by omega)) ⟨pk_in i 10 hi', nm_e ⟨pk_in hi 10 hh, nm_e (nm_e (nm_e (nm_r (nI_1 i) ?_)))⟩⟩
        rw [nI_clamp (show i < 2 ^ 31 by omega), nI_clamp (show hi < 2 ^ 31 by omega)]
        refine hw (_, _, am, ev, wt, a2, a3, a4, a5, _) ⟨fun w hw' => ?_, ?_, ?_⟩
        · rw [mt_sb_del (by omega) (by omega), mt_sb_del (by omega) (by omega), h1 w hw']
          omega
        · show x2 + (-1) = nI (mt_nd i (i + 1))
          rw [h2]
          unfold mt_nd
          rw [if_pos ⟨by omega, hi'⟩, if_neg (fun z => absurd z.1 (by omega))]
          decide
        · exact mt_mate_put hlh h3
      · refine br_t mt_m1n (nm_r (nI_1 i) ?_)
        refine hw (_, x2, am, ev, wt, a2, a3, a4, a5, a6) ⟨fun w hw' => ?_, nd e, fun v hv => ?_⟩
        · rw [mt_sb_del (by omega) (by omega), h1 w hw']
          omega
        · rw [mt_mate_keep e]
          exact h3 v hv
    · rw [h1 i hi'] at hs
      have e : i = hi ∧ lo < i := by omega
      refine hw (x1, x2, am, ev, wt, a2, a3, a4, a5, a6) ⟨fun w hw' => ?_, nd (by omega), fun v hv => ?_⟩
      · rw [h1 w hw']
        omega
      · rw [mt_mate_keep (by omega)]
        exact h3 v hv
theorem mt_ff {post : St2 → Prop} {lo hi : Nat} (hg : mt_G a1 lo hi)
    (H : ∀ (am ev wt : Int32) (a2 a3 a4 a5 a6 : Nat → Int32), (∀ v, v < 10 → a6 v = mt_mate (-2) lo hi 10 v) → post (1023, am, -1, -1, ev, wt, mk, sh, a1, a2, a3, a4, a5, a6)) :
    wpX_findFirst post (1023, am, bA, bB, ev, wt, mk, sh, a1, a2, a3, a4, a5, a6) := by
  unfold wpX_findFirst
  refine mt_szT hg (mt_all hg.1) (fun ev wt a2 a3 a4 a5 _ => ?_)
  refine pk_loop (σ := Nat → Int32) (fun n i s => wX_findFirst_16 post 1023 (nI (mt_cnt lo 10)) 1023 1023 (-1) (-1) ev wt mk sh n (nI i) a1 a2 a3 a4 a5 s) (fun i s => ∀ v, v < i → s v = -2) 10 0 a6 (by omega) (fun v hv => absurd hv (by omega)) ?_ ?_
  · intro n s h
    exact pk_le 10 10 (fun _ => mt_ff38 hg h H) (fun z => absurd z (by omega))
  · intro n i s hi h hw
    refine pk_le 10 i (fun z => absurd z (by omega)) (fun _ => ⟨pk_in i 10 hi, nm_e (nm_r (nI_1 i) (hw _ (fun v hv => ?_)))⟩)
    rw [nI_clamp (show i < 2 ^ 31 by omega)]
    by_cases e : v = i
    · subst e
      exact pk_us
    · rw [pk_un e]
      exact h v (by omega)
theorem mt_partner {post : Int32 → St2 → Prop} {lo hi v : Nat} (hv : v < 10) (hg : mt_G a1 lo hi)
    (H : ∀ (am ev wt : Int32) (a2 a3 a4 a5 a6 : Nat → Int32), post (mt_mate (-2) lo hi 10 v) (1023, am, -1, -1, ev, wt, mk, sh, a1, a2, a3, a4, a5, a6)) :
    wpX_partner post (1023, am, bA, bB, ev, wt, mk, sh, a1, a2, a3, a4, a5, a6) (nI v) := by
  unfold wpX_partner
  refine mt_bad_in hv (mt_ff hg (fun am ev wt a2 a3 a4 a5 a6 h6 => ⟨pk_in v 10 hv, ?_⟩))
  rw [nI_clamp (show v < 2 ^ 31 by omega), h6 v hv]
  exact H am ev wt a2 a3 a4 a5 a6
theorem mt_partner_out {post : Int32 → St2 → Prop} {x : Int32} (hx : x < 0 ∨ 9 < x) (H : post (-1) (on, am, bA, bB, ev, wt, mk, sh, a1, a2, a3, a4, a5, a6)) :
    wpX_partner post (on, am, bA, bB, ev, wt, mk, sh, a1, a2, a3, a4, a5, a6) x := by
  unfold wpX_partner
  exact mt_bad_out hx H
end
end
section
section
variable {on am bA bB ev wt mk sh : Int32} {a1 a2 a3 a4 a5 a6 : Nat → Int32}
/-! ===== edge ===== -/
theorem mt_edge {post : Int32 → St2 → Prop} {a b : Nat} (ha : a < 10) (hb : b < 10) (hab : a ≠ b) (h0 : ∀ x y, x < 10 → y < 10 → ¬ mt_sb (a1 x) y)
    (H : ∀ b1 : Nat → Int32, mt_G b1 (min a b) (max a b) → post 0 (on, am, bA, bB, ev, wt, mk, sh, b1, a2, a3, a4, a5, a6)) :
    wpX_edge post (on, am, bA, bB, ev, wt, mk, sh, a1, a2, a3, a4, a5, a6) (nI a) (nI b) 1 := by
  unfold wpX_edge wpX_badPair
  refine mt_bad_in ha (mt_bad_in hb (pk_eq a b (fun z => absurd z hab) (fun _ => br_t rfl (mt_set ha hb hab (fun r b1 hr hb1 => ?_)))))
  rcases hr with ⟨z, _⟩ | ⟨_, hr⟩
  · exact absurd z (h0 a b ha hb)
  · subst hr
    refine H b1 ⟨by omega, by omega, fun v w hv hw => ?_⟩
    rw [hb1 v w hv hw]
    have hn := h0 v w hv hw
    constructor
    · intro z
      rcases z with z | z
      · exact absurd z hn
      · omega
    · intro z
      right
      omega
theorem mt_edge_out {post : Int32 → St2 → Prop} {x y : Int32} (hn : ¬ ∃ a b : Nat, a < 10 ∧ b < 10 ∧ a ≠ b ∧ x = nI a ∧ y = nI b)
    (H : post (-1) (on, am, bA, bB, ev, wt, mk, sh, a1, a2, a3, a4, a5, a6)) :
    wpX_edge post (on, am, bA, bB, ev, wt, mk, sh, a1, a2, a3, a4, a5, a6) x y 1 := by
  unfold wpX_edge wpX_badPair
  rcases mt_ix x with h | h | ⟨a, ha, h, _⟩
  · exact mt_bad_out (Or.inl h.1) (br_f (by decide) H)
  · exact mt_bad_out (Or.inr h.2.1) (br_f (by decide) H)
  · subst h
    refine mt_bad_in ha ?_
    rcases mt_ix y with g | g | ⟨b, hb, g, _⟩
    · exact mt_bad_out (Or.inl g.1) (br_f (by decide) H)
    · exact mt_bad_out (Or.inr g.2.1) (br_f (by decide) H)
    · subst g
      exact mt_bad_in hb (pk_eq a b (fun _ => br_f (by decide) H) (fun z => absurd ⟨a, b, ha, hb, z, rfl, rfl⟩ hn))
/-! ===== turn, with false ===== -/
theorem mt_turn {post : Int32 → St2 → Prop} {v : Nat} (hv : v < 10) (H : post 1 (1023 &&& (((1 : Int32) <<< (nI v &&& 31)) ^^^ (-1)), am, bA, bB, ev, wt, mk, sh, a1, a2, a3, a4, a5, a6)) :
    wpX_turn post (1023, am, bA, bB, ev, wt, mk, sh, a1, a2, a3, a4, a5, a6) (nI v) 0 := by
  unfold wpX_turn
  exact mt_bad_in hv (nm_r (mt_sb_1 (mt_sb_1023 hv)) (nm_e (br_t rfl H)))
theorem mt_turn_out {post : Int32 → St2 → Prop} {x : Int32} (hx : x < 0 ∨ 9 < x) (H : post (-1) (on, am, bA, bB, ev, wt, mk, sh, a1, a2, a3, a4, a5, a6)) :
    wpX_turn post (on, am, bA, bB, ev, wt, mk, sh, a1, a2, a3, a4, a5, a6) x 0 := by
  unfold wpX_turn
  exact mt_bad_out hx H
/-! ===== bits, missed ===== -/
def mt_pc (x : Int32) : Nat → Int32
  | 0 => 0
  | n + 1 => mt_pc x n + ((x >>> (nI n &&& 31)) &&& 1)
theorem mt_bits {post : Int32 → Prop} {x : Int32} (H : post (mt_pc x 10)) : wpX_bits post () x := by
  unfold wpX_bits
  refine pk_loop (σ := Int32) (fun n i s => wX_bits_4 post x n s (nI i)) (fun i s => s = mt_pc x i) 10 0 0 (by omega) rfl ?_ ?_
  · intro n s h
    have h' : s = mt_pc x 10 := h
    subst h'
    exact pk_le 10 10 (fun _ => H) (fun z => absurd z (by omega))
  · intro n i s hi h hw
    refine pk_le 10 i (fun z => absurd z (by omega)) (fun _ => nm_e (nm_r (nI_1 i) (hw _ ?_)))
    show s + ((x >>> (nI i &&& 31)) &&& 1) = mt_pc x i + ((x >>> (nI i &&& 31)) &&& 1)
    rw [h]
theorem mt_pc_all : mt_pc 1023 10 = 10 := by decide +kernel
theorem mt_pc_del : ∀ v, v < 10 → mt_pc (1023 &&& (((1 : Int32) <<< (nI v &&& 31)) ^^^ (-1))) 10 = 9 := by decide +kernel
theorem mt_missedT {post : Int32 → St2 → Prop} {lo hi : Nat} (hg : mt_G a1 lo hi) (hS : hi < 10 → mt_sb on lo ∧ mt_sb on hi)
    (H : ∀ (am ev wt : Int32) (a2 a3 a4 a5 : Nat → Int32), post (mt_pc on 10 - 2 * nI (mt_cnt lo 10)) (on, am, -1, -1, ev, wt, mk, sh, a1, a2, a3, a4, a5, a6)) :
    wpX_missed post (on, am, bA, bB, ev, wt, mk, sh, a1, a2, a3, a4, a5, a6) := by
  unfold wpX_missed
  exact mt_szT hg hS (fun ev wt a2 a3 a4 a5 _ => mt_bits (H on ev wt a2 a3 a4 a5))
theorem mt_missedF {post : Int32 → St2 → Prop} {lo hi : Nat} (hg : mt_G a1 lo hi) (hS : ¬ (mt_sb on lo ∧ mt_sb on hi))
    (H : ∀ (am ev wt : Int32) (a2 a3 a4 a5 : Nat → Int32), post (mt_pc on 10 - 2 * 0) (on, am, -1, -1, ev, wt, mk, sh, a1, a2, a3, a4, a5, a6)) :
    wpX_missed post (on, am, bA, bB, ev, wt, mk, sh, a1, a2, a3, a4, a5, a6) := by
  unfold wpX_missed
  exact mt_szF hg hS (fun ev wt a2 a3 a4 a5 => mt_bits (H on ev wt a2 a3 a4 a5))
/-! ===== circle ===== -/
theorem mt_d2 {p q : Nat} (hp : p < 10) (hq : q < 10) : 2 ≤ nI q - nI p ↔ p + 2 ≤ q := by
  have h2 : (2 : Int32).toInt = 2 := by decide
  rw [Int32.le_iff_toInt_le, pk_sub_toInt (by omega) (by omega), h2]
  omega
theorem mt_c36 {post : Int32 → St2 → Prop} {lo hi p q : Nat} {r : Int32} {b1 : Nat → Int32} (hp : p < 10) (hq : q < 10) (hpq : p + 2 ≤ q) (hlh : lo < hi)
    (h0 : (r = 1 ∧ ∀ v, p ≤ v → v < q → (mt_sb (b1 v) (v + 1) ↔ v = lo ∧ v + 1 = hi)) ∨ (r = 0 ∧ ∀ v, p ≤ v → v < q → ¬ mt_sb (b1 v) (v + 1)))
    (H : ∀ (c : Nat) (b1 : Nat → Int32), (c = q - p ∨ c = q - p + 1) → post (nI c) (on, am, bA, bB, ev, wt, mk, sh, b1, a2, a3, a4, a5, a6)) :
    ∃ n, wX_circle_36 post (nI q) n r (nI p) on am bA bB ev wt mk sh b1 a2 a3 a4 a5 a6 := by
  refine pk_loop (σ := Int32 × (Nat → Int32)) (fun n i s => wX_circle_36 post (nI q) n s.1 (nI i) on am bA bB ev wt mk sh s.2 a2 a3 a4 a5 a6)
    (fun i s => p ≤ i ∧ ((s.1 = nI (i - p + 1) ∧ ∀ v, i ≤ v → v < q → (mt_sb (s.2 v) (v + 1) ↔ v = lo ∧ v + 1 = hi)) ∨ (s.1 = nI (i - p) ∧ ∀ v, i ≤ v → v < q → ¬ mt_sb (s.2 v) (v + 1)))) q p (r, b1) (by omega) ⟨by omega, ?_⟩ ?_ ?_
  · rw [Nat.sub_self]
    rcases h0 with ⟨h1, h2⟩ | ⟨h1, h2⟩
    · exact Or.inl ⟨h1, h2⟩
    · exact Or.inr ⟨h1, h2⟩
  · intro n s h
    obtain ⟨x, b1⟩ := s
    refine pk_le q q (fun _ => ?_) (fun z => absurd z (by omega))
    rcases h.2 with ⟨h1, _⟩ | ⟨h1, _⟩
    · have h1' : x = nI (q - p + 1) := h1
      subst h1'
      exact H _ b1 (Or.inr rfl)
    · have h1' : x = nI (q - p) := h1
      subst h1'
      exact H _ b1 (Or.inl rfl)
  · intro n i s hi' h hw
    obtain ⟨x, b1⟩ := s
    have hpi : p ≤ i := h.1
    have h' : (x = nI (i - p + 1) ∧ ∀ v, i ≤ v → v < q → (mt_sb (b1 v) (v + 1) ↔ v = lo ∧ v + 1 = hi)) ∨ (x = nI (i - p) ∧ ∀ v, i ≤ v → v < q → ¬ mt_sb (b1 v) (v + 1)) := h.2
    clear h
    show wX_circle_36 post (nI q) (n + 1) x (nI i) on am bA bB ev wt mk sh b1 a2 a3 a4 a5 a6
    refine pk_le q i (fun z => absurd z (by omega)) (fun _ => ?_)
    rw [nI_1 i]
    refine mt_set (v := i) (w := i + 1) (by omega) (by omega) (by omega) (fun r c1 hr hc => nm_e (nm_e (hw (x + (1 - r), c1) ⟨by omega, ?_⟩)))
    have hk : ∀ v, i + 1 ≤ v → v < q → (mt_sb (c1 v) (v + 1) ↔ mt_sb (b1 v) (v + 1)) := by
      intro v h1 h2
      rw [hc v (v + 1) (by omega) (by omega)]
      exact ⟨fun z => z.elim id (fun z => absurd z (by omega)), Or.inl⟩
    rcases h' with ⟨h1, h2⟩ | ⟨h1, h2⟩
    · rcases hr with ⟨hr1, hr2⟩ | ⟨hr1, hr2⟩
      · right
        have e := (h2 i (by omega) hi').mp hr1
        refine ⟨?_, fun v g1 g2 z => ?_⟩
        · show x + (1 - r) = nI (i + 1 - p)
          rw [h1, hr2, show i + 1 - p = i - p + 1 by omega]
          show nI (i - p + 1) + (1 - 1) = nI (i - p + 1)
          rw [show (1 : Int32) - 1 = nI 0 by decide, nI_add]
        · have z' : mt_sb (c1 v) (v + 1) := z
          rw [hk v g1 g2, h2 v (by omega) g2] at z'
          omega
      · left
        refine ⟨?_, fun v g1 g2 => ?_⟩
        · show x + (1 - r) = nI (i + 1 - p + 1)
          rw [h1, hr2, show i + 1 - p + 1 = i - p + 1 + 1 by omega, show (1 : Int32) - 0 = nI 1 by decide, nI_add]
        · show mt_sb (c1 v) (v + 1) ↔ v = lo ∧ v + 1 = hi
          rw [hk v g1 g2, h2 v (by omega) g2]
    · rcases hr with ⟨hr1, hr2⟩ | ⟨hr1, hr2⟩
      · exact absurd hr1 (h2 i (by omega) hi')
      · right
        refine ⟨?_, fun v g1 g2 z => ?_⟩
        · show x + (1 - r) = nI (i + 1 - p)
          rw [h1, hr2, show i + 1 - p = i - p + 1 by omega, show (1 : Int32) - 0 = nI 1 by decide, nI_add]
        · have z' : mt_sb (c1 v) (v + 1) := z
          rw [hk v g1 g2] at z'
          exact h2 v (by omega) g2 z'
theorem mt_circle {post : Int32 → St2 → Prop} {lo hi p q : Nat} (hp : p < 10) (hq : q < 10) (hpq : p + 2 ≤ q) (hg : mt_G a1 lo hi)
    (H : ∀ (c : Nat) (b1 : Nat → Int32), (c = q - p ∨ c = q - p + 1) → post (nI c) (on, am, bA, bB, ev, wt, mk, sh, b1, a2, a3, a4, a5, a6)) :
    wpX_circle post (on, am, bA, bB, ev, wt, mk, sh, a1, a2, a3, a4, a5, a6) (nI p) (nI q) := by
  unfold wpX_circle
  have hlh := hg.1
  refine mt_bad_in hp (mt_bad_in hq (br_t ((mt_d2 hp hq).mpr hpq) (mt_set hq hp (by omega) (fun r b1 hr hb => nm_e ?_))))
  refine mt_c36 hp hq hpq hlh ?_ H
  have hk : ∀ v, p ≤ v → v < q → (mt_sb (b1 v) (v + 1) ↔ v = lo ∧ v + 1 = hi) := by
    intro v h1 h2
    rw [hb v (v + 1) (by omega) (by omega), hg.2.2 v (v + 1) (by omega) (by omega)]
    omega
  rcases hr with ⟨hr1, hr2⟩ | ⟨hr1, hr2⟩
  · right
    rw [hg.2.2 q p hq hp] at hr1
    refine ⟨by rw [hr2]; decide, fun v h1 h2 z => ?_⟩
    rw [hk v h1 h2] at z
    omega
  · left
    exact ⟨by rw [hr2]; decide, hk⟩
theorem mt_circle_out {post : Int32 → St2 → Prop} {x y : Int32} (hn : ¬ ∃ p q : Nat, p < 10 ∧ q < 10 ∧ p + 2 ≤ q ∧ x = nI p ∧ y = nI q)
    (H : post (-1) (on, am, bA, bB, ev, wt, mk, sh, a1, a2, a3, a4, a5, a6)) :
    wpX_circle post (on, am, bA, bB, ev, wt, mk, sh, a1, a2, a3, a4, a5, a6) x y := by
  unfold wpX_circle
  rcases mt_ix x with h | h | ⟨p, hp, h, _⟩
  · exact mt_bad_out (Or.inl h.1) H
  · exact mt_bad_out (Or.inr h.2.1) H
  · subst h
    refine mt_bad_in hp ?_
    rcases mt_ix y with g | g | ⟨q, hq, g, _⟩
    · exact mt_bad_out (Or.inl g.1) H
    · exact mt_bad_out (Or.inr g.2.1) H
    · subst g
      refine mt_bad_in hq (br_f (fun z => hn ⟨p, q, hp, hq, (mt_d2 hp hq).mp z, rfl, rfl⟩) H)
end
end
section
section
variable {on am bA bB ev wt mk sh : Int32} {a1 a2 a3 a4 a5 a6 : Nat → Int32} {mc ms kc ks : Nat} {post : Int32 → St0 → Prop}
/-! ===== the last check: circle ===== -/
theorem mt_L288 {x3 x4 : Int32} (hp : post 1 ()) (hn : ¬ ∃ p q : Nat, p < 10 ∧ q < 10 ∧ p + 2 ≤ q ∧ x3 = nI p ∧ x4 = nI q) :
    wL_lawOf_288 post mc ms x3 x4 kc ks on am bA bB ev wt mk sh a1 a2 a3 a4 a5 a6 := by
  unfold wL_lawOf_288 wL_lawOf_293
  exact mt_circle_out hn (br_f (by decide) (br_t rfl hp))
theorem mt_L293 {lo hi p q : Nat} (hp : post 1 ()) (hg : mt_G a1 lo hi) (h1 : p < 10) (h2 : q < 10) (h3 : p + 2 ≤ q) :
    wL_lawOf_293 post mc ms (nI p) (nI q) 0 kc ks on am bA bB ev wt mk sh a1 a2 a3 a4 a5 a6 := by
  unfold wL_lawOf_293
  refine mt_circle h1 h2 h3 hg (fun c b1 hc => br_t rfl ?_)
  rw [pk_sub (show p ≤ q by omega), nI_1]
  exact pk_lt (q - p + 1) c (fun z => absurd z (by omega)) (fun _ => pk_lt c (q - p) (fun z => absurd z (by omega)) (fun _ => hp))
theorem mt_L253 {lo hi : Nat} {x3 x4 z : Int32} (hp : post 1 ()) (hg : mt_G a1 lo hi) :
    wL_lawOf_253 post mc ms x3 x4 z z kc ks on am bA bB ev wt mk sh a1 a2 a3 a4 a5 a6 := by
  unfold wL_lawOf_253
  refine br_t rfl ?_
  by_cases hn : ∃ p q : Nat, p < 10 ∧ q < 10 ∧ p + 2 ≤ q ∧ x3 = nI p ∧ x4 = nI q
  · obtain ⟨p, q, h1, h2, h3, e1, e2⟩ := hn
    subst e1 e2
    exact br_f (nI_pos (by omega)) (br_f (nI_nlt (a := 9) (by omega) (by omega)) (br_f (nI_pos (by omega)) (br_f (nI_nlt (a := 9) (by omega) (by omega)) (br_t ((mt_d2 h1 h2).mpr h3) (mt_L293 hp hg h1 h2 h3)))))
  · refine br_c (fun _ => mt_L288 hp hn) (fun g1 => br_c (fun _ => mt_L288 hp hn) (fun g2 => br_c (fun _ => mt_L288 hp hn) (fun g3 => br_c (fun _ => mt_L288 hp hn) (fun g4 => br_c (fun g5 => ?_) (fun _ => mt_L288 hp hn)))))
    rcases mt_ix x3 with h | h | ⟨p, h1, e1, _⟩
    · exact absurd h.1 g1
    · exact absurd h.2.1 g4
    · rcases mt_ix x4 with h | h | ⟨q, h2, e2, _⟩
      · exact absurd h.1 g3
      · exact absurd h.2.1 g2
      · subst e1 e2
        exact absurd ⟨p, q, h1, h2, (mt_d2 h1 h2).mp g5, rfl, rfl⟩ hn
/-! ===== missed, with the answer M ===== -/
theorem mt_L203 {lo hi : Nat} {x3 x4 x6 x7 x8 z M : Int32} (hp : post 1 ()) (hg : mt_G a1 lo hi)
    (hm : ∀ ψ : Int32 → St2 → Prop, (∀ (am ev wt : Int32) (a2 a3 a4 a5 : Nat → Int32), ψ M (on, am, -1, -1, ev, wt, mk, sh, a1, a2, a3, a4, a5, a6)) → wpX_missed ψ (on, am, bA, bB, ev, wt, mk, sh, a1, a2, a3, a4, a5, a6))
    (hc : (x6 = 0 ∧ x7 = 0 ∧ x8 = 0 ∧ M = 7) ∨ (x6 = 0 ∧ x7 = 0 ∧ x8 = 1 ∧ M = 9) ∨ (x6 = 0 ∧ x7 = 1 ∧ M = 8) ∨ (x6 = 1 ∧ x7 = 0 ∧ M = 9) ∨ (x6 = 1 ∧ x7 = 1 ∧ M = 10)) :
    wL_lawOf_203 post mc ms x3 x4 x6 x7 x8 z z kc ks on am bA bB ev wt mk sh a1 a2 a3 a4 a5 a6 := by
  unfold wL_lawOf_203
  refine br_t rfl (hm _ (fun am ev wt a2 a3 a4 a5 => ?_))
  rcases hc with ⟨e1, e2, e3, e4⟩ | ⟨e1, e2, e3, e4⟩ | ⟨e1, e2, e4⟩ | ⟨e1, e2, e4⟩ | ⟨e1, e2, e4⟩
  · subst e1 e2 e3 e4
    exact br_t rfl (br_t rfl (br_t rfl (mt_L253 hp hg)))
  · subst e1 e2 e3 e4
    exact br_t rfl (br_t rfl (br_f (by decide) (mt_L253 hp hg)))
  · subst e1 e2 e4
    exact br_t rfl (br_f (by decide) (mt_L253 hp hg))
  · subst e1 e2 e4
    exact br_f (by decide) (br_t rfl (mt_L253 hp hg))
  · subst e1 e2 e4
    exact br_f (by decide) (br_f (by decide) (mt_L253 hp hg))
/-! ===== what the flag 'bad' says of the graph ===== -/
def mt_K (x0 x1 x6 : Int32) (lo hi : Nat) : Prop := (x6 = 1 ∧ lo = 10 ∧ hi = 11) ∨ (x6 = 0 ∧ ∃ a b : Nat, a < 10 ∧ b < 10 ∧ a ≠ b ∧ x0 = nI a ∧ x1 = nI b ∧ lo = min a b ∧ hi = max a b)
/-- v is no vertex -/
theorem mt_Lout {lo hi : Nat} {x0 x1 x2 x3 x4 x6 e : Int32} (hp : post 1 ()) (hg : mt_G a1 lo hi) (hK : mt_K x0 x1 x6 lo hi) (hx : x2 < 0 ∨ 9 < x2) :
    wL_lawOf_119 post mc ms x0 x1 x2 x3 x4 x6 1 e kc ks 1023 am bA bB ev wt mk sh a1 a2 a3 a4 a5 a6 := by
  unfold wL_lawOf_119
  refine mt_part_out hx (br_f (by decide) ?_)
  unfold wL_lawOf_146
  refine br_t rfl (mt_partner_out hx (br_f (by decide) ?_))
  unfold wL_lawOf_181
  refine br_t rfl (mt_turn_out hx (br_f (by decide) ?_))
  refine mt_L203 (M := mt_pc 1023 10 - 2 * nI (mt_cnt lo 10)) hp hg (fun ψ h => mt_missedT hg (mt_all hg.1) h) ?_
  rw [mt_pc_all]
  rcases hK with ⟨e6, el, eh⟩ | ⟨e6, a, b, ha, hb, hab, _, _, el, eh⟩
  · subst el
    exact Or.inr (Or.inr (Or.inr (Or.inr ⟨e6, rfl, by decide⟩)))
  · have hc : mt_cnt lo 10 = 1 := if_pos (by omega)
    rw [hc]
    exact Or.inr (Or.inr (Or.inl ⟨e6, rfl, by decide⟩))
/-- v is a vertex -/
theorem mt_Lin {lo hi v : Nat} {x0 x1 x3 x4 x6 e : Int32} (hp : post 1 ()) (hg : mt_G a1 lo hi) (hK : mt_K x0 x1 x6 lo hi) (hv : v < 10) (he : (e = 1 ∧ (v = lo ∨ v = hi)) ∨ (e = 0 ∧ ¬ (v = lo ∨ v = hi))) :
    wL_lawOf_119 post mc ms x0 x1 (nI v) x3 x4 x6 0 e kc ks 1023 am bA bB ev wt mk sh a1 a2 a3 a4 a5 a6 := by
  unfold wL_lawOf_119
  have hlh := hg.1
  rcases he with ⟨e1, he⟩ | ⟨e1, he⟩
  · subst e1
    have hK' : x6 = 0 ∧ lo < 10 ∧ hi < 10 ∧ (x0 + x1) - nI v = mt_mate (-2) lo hi 10 v := by
      rcases hK with ⟨e6, el, eh⟩ | ⟨e6, a, b, ha, hb, hab, e0, e1, el, eh⟩
      · omega
      · refine ⟨e6, by omega, by omega, ?_⟩
        rw [e0, e1, nI_add, pk_sub (by omega)]
        rcases he with he | he
        · rw [he, mt_mate_lo (by omega)]
          exact congrArg nI (by omega)
        · rw [he, mt_mate_hi (by omega) hlh]
          exact congrArg nI (by omega)
    obtain ⟨e6, hl, hh, hm⟩ := hK'
    refine mt_part hv hg (fun _ ev wt a2 a3 a4 a5 => br_t rfl (br_f (by decide) ?_)) (fun z => absurd he z)
    unfold wL_lawOf_146
    refine br_t rfl (mt_partner hv hg (fun am ev wt a2 a3 a4 a5 a6 => br_t rfl (br_f (by decide) ?_)))
    unfold wL_lawOf_181
    refine br_t hm.symm (mt_turn hv (br_t rfl ?_))
    refine mt_L203 (M := mt_pc (1023 &&& (((1 : Int32) <<< (nI v &&& 31)) ^^^ (-1))) 10 - 2 * 0) hp hg (fun ψ h => mt_missedF hg ?_ h) ?_
    · intro z
      rw [mt_sb_del (by omega) (by omega), mt_sb_del (by omega) (by omega)] at z
      rcases he with he | he
      · exact z.1.2 he.symm
      · exact z.2.2 he.symm
    · rw [mt_pc_del v hv]
      exact Or.inr (Or.inl ⟨e6, rfl, rfl, by decide⟩)
  · subst e1
    have n1 : v ≠ lo := fun z => he (Or.inl z)
    have n2 : v ≠ hi := fun z => he (Or.inr z)
    refine mt_part hv hg (fun z => absurd z he) (fun _ ev wt a2 a3 a4 a5 => br_t rfl (br_t rfl ?_))
    unfold wL_lawOf_146
    refine br_t rfl (mt_partner hv hg (fun am ev wt a2 a3 a4 a5 a6 => br_t rfl (br_t rfl ?_)))
    unfold wL_lawOf_181
    refine br_t (mt_mate_n n1 n2) (mt_turn hv (br_t rfl ?_))
    refine mt_L203 (M := mt_pc (1023 &&& (((1 : Int32) <<< (nI v &&& 31)) ^^^ (-1))) 10 - 2 * nI (mt_cnt lo 10)) hp hg (fun ψ h => mt_missedT hg (fun hh => ?_) h) ?_
    · rw [mt_sb_del (by omega) (by omega), mt_sb_del (by omega) (by omega)]
      exact ⟨⟨mt_sb_1023 (by omega), Ne.symm n1⟩, ⟨mt_sb_1023 hh, Ne.symm n2⟩⟩
    · rw [mt_pc_del v hv]
      rcases hK with ⟨e6, el, eh⟩ | ⟨e6, a, b, ha, hb, hab, _, _, el, eh⟩
      · subst el
        exact Or.inr (Or.inr (Or.inr (Or.inl ⟨e6, rfl, by decide⟩)))
      · have hc : mt_cnt lo 10 = 1 := if_pos (by omega)
        rw [hc]
        exact Or.inl ⟨e6, rfl, rfl, by decide⟩
/-! ===== size, then what v is ===== -/
theorem mt_L59 {lo hi : Nat} {x0 x1 x2 x3 x4 x6 z : Int32} (hp : post 1 ()) (hg : mt_G a1 lo hi) (hK : mt_K x0 x1 x6 lo hi) :
    wL_lawOf_59 post mc ms x0 x1 x2 x3 x4 x6 z z kc ks 1023 am bA bB ev wt mk sh a1 a2 a3 a4 a5 a6 := by
  have hlh := hg.1
  have hout : ∀ (am ev wt : Int32) (a2 a3 a4 a5 : Nat → Int32), (x2 < 0 ∨ 9 < x2) → wL_lawOf_92 post mc ms x0 x1 x2 x3 x4 x6 kc ks 1023 am (-1) (-1) ev wt mk sh a1 a2 a3 a4 a5 a6 := by
    intro am ev wt a2 a3 a4 a5 hx
    unfold wL_lawOf_92 wL_lawOf_97 wL_lawOf_114 wL_lawOf_118
    exact br_c (fun _ => br_c (fun _ => mt_Lout hp hg hK hx) (fun _ => br_c (fun _ => mt_Lout hp hg hK hx) (fun _ => mt_Lout hp hg hK hx))) (fun _ => mt_Lout hp hg hK hx)
  have hin : ∀ (am ev wt : Int32) (a2 a3 a4 a5 : Nat → Int32) (v : Nat), v < 10 → x2 = nI v → wL_lawOf_97 post mc ms x0 x1 x2 x3 x4 x6 0 kc ks 1023 am (-1) (-1) ev wt mk sh a1 a2 a3 a4 a5 a6 := by
    intro am ev wt a2 a3 a4 a5 v hv e2
    subst e2
    unfold wL_lawOf_97 wL_lawOf_114 wL_lawOf_118
    have hK' := hK
    rcases hK' with ⟨e6, el, eh⟩ | ⟨e6, a, b, ha, hb, hab, e0, e1, el, eh⟩
    · exact br_f (by rw [e6]; decide) (mt_Lin hp hg hK hv (Or.inr ⟨rfl, by omega⟩))
    · refine br_t e6 ?_
      refine pk_eq v a (fun z => mt_Lin hp hg hK hv (Or.inl ⟨rfl, by omega⟩)) (fun z1 => pk_eq v b (fun z => mt_Lin hp hg hK hv (Or.inl ⟨rfl, by omega⟩)) (fun z2 => mt_Lin hp hg hK hv (Or.inr ⟨rfl, by omega⟩)) rfl e1) rfl e0
  have h77 : ∀ (am ev wt : Int32) (a2 a3 a4 a5 : Nat → Int32) (z : Int32), wL_lawOf_77 post mc ms x0 x1 x2 x3 x4 x6 z z kc ks 1023 am (-1) (-1) ev wt mk sh a1 a2 a3 a4 a5 a6 := by
    intro am ev wt a2 a3 a4 a5 z
    unfold wL_lawOf_77
    refine br_t rfl ?_
    rcases mt_ix x2 with h | h | ⟨v, hv, e, h⟩
    · exact br_t h.1 (hout am ev wt a2 a3 a4 a5 (Or.inl h.1))
    · exact br_f h.1 (br_f h.2.2 (hout am ev wt a2 a3 a4 a5 (Or.inr h.2.1)))
    · exact br_f h.1 (br_t h.2.2 (hin am ev wt a2 a3 a4 a5 v hv e))
  unfold wL_lawOf_59
  refine br_t rfl (mt_size hg (fun ev wt a2 a3 a4 a5 => ?_))
  have hK' := hK
  rcases hK' with ⟨e6, el, eh⟩ | ⟨e6, a, b, ha, hb, hab, e0, e1, el, eh⟩
  · have hc : mt_cnt lo 10 = 0 := if_neg (by omega)
    rw [hc]
    exact br_f (by rw [e6]; decide) (h77 _ ev wt a2 a3 a4 a5 0)
  · have hc : mt_cnt lo 10 = 1 := if_pos (by omega)
    rw [hc]
    exact br_t e6 (h77 _ ev wt a2 a3 a4 a5 1)
theorem mt_L39b {x0 x1 x2 x3 x4 : Int32} (hp : post 1 ()) (hn : ¬ ∃ a b : Nat, a < 10 ∧ b < 10 ∧ a ≠ b ∧ x0 = nI a ∧ x1 = nI b) (h0 : ∀ x y, x < 10 → y < 10 → ¬ mt_sb (a1 x) y) :
    wL_lawOf_34 post mc ms x0 x1 x2 x3 x4 kc ks 1023 am bA bB ev wt mk sh a1 a2 a3 a4 a5 a6 := by
  unfold wL_lawOf_34 wL_lawOf_39
  refine mt_edge_out hn (br_f (by decide) ?_)
  exact mt_L59 (lo := 10) (hi := 11) hp ⟨by omega, by omega, fun v w hv hw => ⟨fun z => absurd z (h0 v w hv hw), fun z => by omega⟩⟩ (Or.inl ⟨rfl, rfl, rfl⟩)
theorem mt_L39g {a b : Nat} {x2 x3 x4 : Int32} (hp : post 1 ()) (ha : a < 10) (hb : b < 10) (hab : a ≠ b) (h0 : ∀ x y, x < 10 → y < 10 → ¬ mt_sb (a1 x) y) :
    wL_lawOf_39 post mc ms (nI a) (nI b) x2 x3 x4 0 kc ks 1023 am bA bB ev wt mk sh a1 a2 a3 a4 a5 a6 := by
  unfold wL_lawOf_39
  refine mt_edge ha hb hab h0 (fun b1 hg => br_t rfl ?_)
  exact mt_L59 hp hg (Or.inr ⟨rfl, a, b, ha, hb, hab, rfl, rfl, rfl, rfl⟩)
theorem mt_lawOf {p0 p1 p2 p3 p4 : Int32} (hp : post 1 ()) : wpL_lawOf post 52 816 () p0 p1 p2 p3 p4 := by
  unfold wpL_lawOf
  refine ⟨by omega, by omega, 51, 802, by omega, by omega, ?_⟩
  unfold wpX_init
  refine ⟨by omega, by omega, by omega, by omega, by omega, by omega, by omega, by omega, by omega, by omega, by omega, by omega, ?_⟩
  have h0 : ∀ x y, x < 10 → y < 10 → ¬ mt_sb ((fun _ => 0 : Nat → Int32) x) y := fun x y _ hy => mt_sb_0 (by omega)
  by_cases hn : ∃ a b : Nat, a < 10 ∧ b < 10 ∧ a ≠ b ∧ p0 = nI a ∧ p1 = nI b
  · obtain ⟨a, b, ha, hb, hab, e0, e1⟩ := hn
    subst e0 e1
    exact br_f (nI_pos (by omega)) (br_f (nI_nlt (a := 9) (by omega) (by omega)) (br_f (nI_pos (by omega)) (br_f (nI_nlt (a := 9) (by omega) (by omega)) (pk_eq a b (fun z => absurd z hab) (fun _ => mt_L39g hp ha hb hab h0)))))
  · refine br_c (fun _ => mt_L39b hp hn h0) (fun g1 => br_c (fun _ => mt_L39b hp hn h0) (fun g2 => br_c (fun _ => mt_L39b hp hn h0) (fun g3 => br_c (fun _ => mt_L39b hp hn h0) (fun g4 => br_c (fun _ => mt_L39b hp hn h0) (fun g5 => ?_)))))
    rcases mt_ix p0 with h | h | ⟨a, ha, e0, _⟩
    · exact absurd h.1 g1
    · exact absurd h.2.1 g2
    · rcases mt_ix p1 with h | h | ⟨b, hb, e1, _⟩
      · exact absurd h.1 g3
      · exact absurd h.2.1 g4
      · exact absurd ⟨a, b, ha, hb, fun z => g5 (by rw [e0, e1, z]), e0, e1⟩ hn
theorem mt_cell {ψ : Int32 → Prop} {L : Nat} {xs : Nat → Int32} (k : Nat) (hL : L ≤ 5) (hk : k < 5) (H : ∀ y, ψ y) : wpL_cellAt ψ L xs () (nI k) :=
  pk_le L k (fun _ => H 0) (fun z => ⟨pk_in k L z, H _⟩)
end
theorem i_vc (xs : Nat → Int32) (L : Nat) (hL : L ≤ 5) : wpL_law (fun r => r = 1) L xs :=
  mt_cell 0 hL (by omega) (fun _ => mt_cell 1 hL (by omega) (fun _ => mt_cell 2 hL (by omega) (fun _ => mt_cell 3 hL (by omega) (fun _ => mt_cell 4 hL (by omega) (fun _ => ⟨52, 816, by omega, by omega, mt_lawOf rfl⟩)))))
end
