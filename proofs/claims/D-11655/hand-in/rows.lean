section
/-- the two bits of variable x in a frame's values -/
def lo_v (p x : Int32) : Int32 := ((p.toUInt32 >>> ((2 * x).toUInt32 &&& Int32.toUInt32 31)).toInt32) &&& 3
/-- atomsWith, k turns of it -/
def lo_awk (A B : Nat → Int32) (x : Int32) : Nat → Int32
  | 0 => 0
  | k + 1 => if A k = x ∨ B k = x then lo_awk A B x k ||| ((1 : Int32) <<< (nI k &&& 31)) else lo_awk A B x k
def lo_aw (A B : Nat → Int32) (x : Int32) : Int32 := lo_awk A B x 4
theorem lo_awk_t {A B : Nat → Int32} {x s : Int32} {i : Nat} (hs : s = lo_awk A B x i) (hi : i < 4) (g : A (nI i).toNatClampNeg = x ∨ B (nI i).toNatClampNeg = x) : s ||| ((1 : Int32) <<< (nI i &&& 31)) = lo_awk A B x (i + 1) := by
  rw [nI_clamp (by omega)] at g
  rw [hs, lo_awk, if_pos g]
theorem lo_awk_f {A B : Nat → Int32} {x s : Int32} {i : Nat} (hs : s = lo_awk A B x i) (hi : i < 4) (g : ¬ A (nI i).toNatClampNeg = x) (g2 : ¬ B (nI i).toNatClampNeg = x) : s = lo_awk A B x (i + 1) := by
  rw [nI_clamp (by omega)] at g g2
  rw [hs, lo_awk, if_neg (fun z => z.elim g g2)]
theorem lo_atomsWith {post : Int32 → Prop} {ro ao dp : Int32} {sh : Int64} {ex : Int32} {L W A B : Nat → Int32} {a5 a6 a7 a8 a9 a10 a11 a12 : Nat → Int32} {a13 : Nat → Int64} {a14 : Nat → Int32} {x c : Int32} (hc : lo_aw A B x = c) (h : post c) : wpX_atomsWith post (ro, ao, dp, sh, ex, L, W, A, B, a5, a6, a7, a8, a9, a10, a11, a12, a13, a14) x :=
  loop_0 (fun n i s => wX_atomsWith_4 post x ro ao dp sh ex L W A B a5 a6 a7 a8 a9 a10 a11 a12 a13 a14 n s (nI i)) (fun i s => s = lo_awk A B x i) 4 0 rfl
    (fun n s hs => pk_le 4 4 (fun _ => by rw [show s = c from hs.trans hc]; exact h) (fun z => absurd z (by omega)))
    (fun n i s hi hs hw => pk_le 4 i (fun z => absurd z (by omega)) (fun _ => ⟨pk_in i 4 hi, br_c (fun g => nm_e (nm_r (nI_1 i) (hw _ (lo_awk_t hs hi (Or.inl g))))) (fun g => ⟨pk_in i 4 hi, br_c (fun g2 => nm_e (nm_r (nI_1 i) (hw _ (lo_awk_t hs hi (Or.inr g2))))) (fun g2 => nm_r (nI_1 i) (hw _ (lo_awk_f hs hi g g2)))⟩)⟩))
theorem lo_isFree {post : Int32 → Prop} {ro ao dp : Int32} {sh : Int64} {ex : Int32} {L W A B : Nat → Int32} {a5 a6 a7 a8 a9 a10 a11 a12 : Nat → Int32} {a13 : Nat → Int64} {a14 : Nat → Int32} {p x : Int32} (h1 : lo_v p x = 3 → post 1) (h0 : ¬ lo_v p x = 3 → post 0) : wpX_isFree post (ro, ao, dp, sh, ex, L, W, A, B, a5, a6, a7, a8, a9, a10, a11, a12, a13, a14) p x := br_c h1 h0
/-- one turn of componentOf's inner loop -/
def lo_co1 (A B : Nat → Int32) (set val part x : Int32) : Int32 := if lo_v val x = 3 ∧ ¬ ((lo_aw A B x &&& set) &&& part) = 0 then part ||| (lo_aw A B x &&& set) else part
def lo_coi (A B : Nat → Int32) (set val part : Int32) : Nat → Int32
  | 0 => part
  | k + 1 => lo_co1 A B set val (lo_coi A B set val part k) (nI k)
def lo_coo (A B : Nat → Int32) (set val : Int32) : Nat → Int32
  | 0 => set &&& (-set)
  | k + 1 => lo_coi A B set val (lo_coo A B set val k) 3
def lo_co (A B : Nat → Int32) (set val : Int32) : Int32 := lo_coo A B set val 4
theorem lo_coi_t {A B : Nat → Int32} {set val part s : Int32} {i : Nat} (hs : s = lo_coi A B set val part i) (g : lo_v val (nI i) = 3) (g2 : ¬ ((lo_aw A B (nI i) &&& set) &&& s) = 0) : s ||| (lo_aw A B (nI i) &&& set) = lo_coi A B set val part (i + 1) := by
  rw [lo_coi, ← hs, lo_co1, if_pos ⟨g, g2⟩]
theorem lo_coi_f {A B : Nat → Int32} {set val part s : Int32} {i : Nat} (hs : s = lo_coi A B set val part i) (g : ¬ (lo_v val (nI i) = 3 ∧ ¬ ((lo_aw A B (nI i) &&& set) &&& s) = 0)) : s = lo_coi A B set val part (i + 1) := by
  rw [lo_coi, ← hs, lo_co1, if_neg g]
theorem lo_co17 {post : Int32 → Prop} {J8 : Int32 → Int32 → Prop} {x1 x2 x4 part : Int32} {ro ao dp : Int32} {sh : Int64} {ex : Int32} {L W A B : Nat → Int32} {a5 a6 a7 a8 a9 a10 a11 a12 : Nat → Int32} {a13 : Nat → Int64} {a14 : Nat → Int32} (h : ∀ y, y = x4 + 1 → J8 (lo_coi A B x1 x2 part 3) y) : ∃ n, wX_componentOf_17 post J8 x1 x2 x4 ro ao dp sh ex L W A B a5 a6 a7 a8 a9 a10 a11 a12 a13 a14 n part 0 :=
  loop_0 (fun n i s => wX_componentOf_17 post J8 x1 x2 x4 ro ao dp sh ex L W A B a5 a6 a7 a8 a9 a10 a11 a12 a13 a14 n s (nI i)) (fun i s => s = lo_coi A B x1 x2 part i) 3 part rfl
    (fun n s hs => pk_le 3 3 (fun _ => by rw [hs]; exact h) (fun z => absurd z (by omega)))
    (fun n i s hi hs hw => pk_le 3 i (fun z => absurd z (by omega)) (fun _ => lo_atomsWith rfl (nm_e (lo_isFree (fun g => br_f (by decide) (br_c (fun g2 => nm_r (nI_1 i) (hw _ (lo_coi_f hs (fun z => z.2 g2)))) (fun g2 => nm_e (nm_r (nI_1 i) (hw _ (lo_coi_t hs g g2)))))) (fun g => br_t rfl (nm_r (nI_1 i) (hw _ (lo_coi_f hs (fun z => g z.1)))))))))
theorem lo_componentOf {post : Int32 → Prop} {ro ao dp : Int32} {sh : Int64} {ex : Int32} {L W A B : Nat → Int32} {a5 a6 a7 a8 a9 a10 a11 a12 : Nat → Int32} {a13 : Nat → Int64} {a14 : Nat → Int32} {set val c : Int32} (hc : lo_co A B set val = c) (h : post c) : wpX_componentOf post (ro, ao, dp, sh, ex, L, W, A, B, a5, a6, a7, a8, a9, a10, a11, a12, a13, a14) set val :=
  nm_e (loop_0 (fun n i s => wX_componentOf_8 post set val ro ao dp sh ex L W A B a5 a6 a7 a8 a9 a10 a11 a12 a13 a14 n s (nI i)) (fun i s => s = lo_coo A B set val i) 4 (set &&& (-set)) rfl
    (fun n s hs => pk_le 4 4 (fun _ => by rw [show s = c from hs.trans hc]; exact h) (fun z => absurd z (by omega)))
    (fun n i s hi hs hw => pk_le 4 i (fun z => absurd z (by omega)) (fun _ => lo_co17 (nm_r (nI_1 i) (hw _ (by rw [hs, lo_coo]))))))
/-- isGround -/
def lo_gr (A B : Nat → Int32) (set val : Int32) : Int32 :=
  if lo_v val (nI 0) = 3 ∧ ¬ (lo_aw A B (nI 0) &&& set) = 0 then 0 else if lo_v val (nI 1) = 3 ∧ ¬ (lo_aw A B (nI 1) &&& set) = 0 then 0 else if lo_v val (nI 2) = 3 ∧ ¬ (lo_aw A B (nI 2) &&& set) = 0 then 0 else 1
theorem lo_gr2 {post : Int32 → Prop} {ro ao dp : Int32} {sh : Int64} {ex : Int32} {L W A B : Nat → Int32} {a5 a6 a7 a8 a9 a10 a11 a12 : Nat → Int32} {a13 : Nat → Int64} {a14 : Nat → Int32} {set val : Int32} {n i : Nat} (hi : i < 3) (h0 : (lo_v val (nI i) = 3 ∧ ¬ (lo_aw A B (nI i) &&& set) = 0) → post 0) (h1 : ¬ (lo_v val (nI i) = 3 ∧ ¬ (lo_aw A B (nI i) &&& set) = 0) → wX_isGround_2 post set val ro ao dp sh ex L W A B a5 a6 a7 a8 a9 a10 a11 a12 a13 a14 n (nI (i + 1))) : wX_isGround_2 post set val ro ao dp sh ex L W A B a5 a6 a7 a8 a9 a10 a11 a12 a13 a14 (n + 1) (nI i) :=
  pk_le 3 i (fun z => absurd z (by omega)) (fun _ => lo_isFree (fun g => br_f (by decide) (lo_atomsWith rfl (br_c (fun g2 => nm_r (nI_1 i) (h1 (fun z => z.2 g2))) (fun g2 => h0 ⟨g, g2⟩)))) (fun g => br_t rfl (nm_r (nI_1 i) (h1 (fun z => g z.1)))))
theorem lo_isGround {post : Int32 → Prop} {ro ao dp : Int32} {sh : Int64} {ex : Int32} {L W A B : Nat → Int32} {a5 a6 a7 a8 a9 a10 a11 a12 : Nat → Int32} {a13 : Nat → Int64} {a14 : Nat → Int32} {set val c : Int32} (hc : lo_gr A B set val = c) (h : post c) : wpX_isGround post (ro, ao, dp, sh, ex, L, W, A, B, a5, a6, a7, a8, a9, a10, a11, a12, a13, a14) set val := by
  subst hc
  unfold lo_gr at h
  refine ⟨4, lo_gr2 (i := 0) (by omega) (fun g => ?_) (fun g0 => lo_gr2 (i := 1) (by omega) (fun g => ?_) (fun g1 => lo_gr2 (i := 2) (by omega) (fun g => ?_) (fun g2 => pk_le 3 3 (fun _ => ?_) (fun z => absurd z (by omega)))))⟩
  · rw [if_pos g] at h; exact h
  · rw [if_neg g0, if_pos g] at h; exact h
  · rw [if_neg g0, if_neg g1, if_pos g] at h; exact h
  · rw [if_neg g0, if_neg g1, if_neg g2] at h; exact h
/-- commonVariable -/
def lo_cv (A B : Nat → Int32) (set val : Int32) : Int32 :=
  if lo_v val (nI 0) = 3 ∧ (lo_aw A B (nI 0) &&& set) = set then nI 0 else if lo_v val (nI 1) = 3 ∧ (lo_aw A B (nI 1) &&& set) = set then nI 1 else if lo_v val (nI 2) = 3 ∧ (lo_aw A B (nI 2) &&& set) = set then nI 2 else -1
theorem lo_cv2 {post : Int32 → Prop} {ro ao dp : Int32} {sh : Int64} {ex : Int32} {L W A B : Nat → Int32} {a5 a6 a7 a8 a9 a10 a11 a12 : Nat → Int32} {a13 : Nat → Int64} {a14 : Nat → Int32} {set val : Int32} {n i : Nat} (hi : i < 3) (h0 : (lo_v val (nI i) = 3 ∧ (lo_aw A B (nI i) &&& set) = set) → post (nI i)) (h1 : ¬ (lo_v val (nI i) = 3 ∧ (lo_aw A B (nI i) &&& set) = set) → wX_commonVariable_2 post set val ro ao dp sh ex L W A B a5 a6 a7 a8 a9 a10 a11 a12 a13 a14 n (nI (i + 1))) : wX_commonVariable_2 post set val ro ao dp sh ex L W A B a5 a6 a7 a8 a9 a10 a11 a12 a13 a14 (n + 1) (nI i) :=
  pk_le 3 i (fun z => absurd z (by omega)) (fun _ => lo_isFree (fun g => br_f (by decide) (lo_atomsWith rfl (br_c (fun g2 => h0 ⟨g, g2⟩) (fun g2 => nm_r (nI_1 i) (h1 (fun z => g2 z.2)))))) (fun g => br_t rfl (nm_r (nI_1 i) (h1 (fun z => g z.1)))))
theorem lo_commonVariable {post : Int32 → Prop} {ro ao dp : Int32} {sh : Int64} {ex : Int32} {L W A B : Nat → Int32} {a5 a6 a7 a8 a9 a10 a11 a12 : Nat → Int32} {a13 : Nat → Int64} {a14 : Nat → Int32} {set val c : Int32} (hc : lo_cv A B set val = c) (h : post c) : wpX_commonVariable post (ro, ao, dp, sh, ex, L, W, A, B, a5, a6, a7, a8, a9, a10, a11, a12, a13, a14) set val := by
  subst hc
  unfold lo_cv at h
  refine ⟨4, lo_cv2 (i := 0) (by omega) (fun g => ?_) (fun g0 => lo_cv2 (i := 1) (by omega) (fun g => ?_) (fun g1 => lo_cv2 (i := 2) (by omega) (fun g => ?_) (fun g2 => pk_le 3 3 (fun _ => ?_) (fun z => absurd z (by omega)))))⟩
  · rw [if_pos g] at h; exact h
  · rw [if_neg g0, if_pos g] at h; exact h
  · rw [if_neg g0, if_neg g1, if_pos g] at h; exact h
  · rw [if_neg g0, if_neg g1, if_neg g2] at h; exact h
/-- power -/
theorem lo_power {post : Int64 → Prop} {e : Nat} (he : e ≤ 10) (h : post (lN (10 ^ e))) : wpX_power post () (nI e) :=
  loop_0 (fun n i s => wX_power_4 post (nI e) n s (nI i)) (fun i s => s = lN (10 ^ i)) e 1 rfl
    (fun n s hs => pk_le e e (fun _ => by rw [hs]; exact h) (fun z => absurd z (by omega)))
    (fun n i s hi hs hw => pk_le e i (fun z => absurd z (by omega)) (fun _ => pk_le 10 i (fun z => absurd z (by omega)) (fun _ => nm_e (nm_r (nI_1 i) (hw _ (by rw [hs, Nat.pow_succ, ← lN_mul]; rfl))))))
theorem lo_power_any {post : Int64 → Prop} {e : Int32} (h : ∀ v, post v) : wpX_power post () e :=
  loop_0 (fun n i s => wX_power_4 post e n s (nI i)) (fun _ _ => True) 10 1 trivial
    (fun n s _ => br_c (fun _ => h _) (fun _ => pk_le 10 10 (fun _ => h _) (fun z => absurd z (by omega))))
    (fun n i s hi _ hw => br_c (fun _ => h _) (fun _ => pk_le 10 i (fun z => absurd z (by omega)) (fun _ => nm_e (nm_r (nI_1 i) (hw _ trivial)))))
/-- enter and leave -/
theorem lo_enter {post : St2 → Prop} {d : Nat} {set val : Int32} {ro ao : Int32} {sh : Int64} {ex : Int32} {L W A B : Nat → Int32} {a5 a6 a7 a8 a9 a10 a11 a12 : Nat → Int32} {a13 : Nat → Int64} {a14 : Nat → Int32} (hd : d < 48) (h : post (ro, ao, nI (d + 1), sh, ex, L, W, A, B, upd a5 d 0, upd a6 d set, upd a7 d val, a8, a9, a10, a11, a12, a13, a14)) : wpX_enter post (ro, ao, nI d, sh, ex, L, W, A, B, a5, a6, a7, a8, a9, a10, a11, a12, a13, a14) set val := by
  have e : (nI d).toNatClampNeg = d := nI_clamp (by omega)
  exact ⟨pk_in d 48 hd, nm_r (by rw [e]) ⟨pk_in d 48 hd, nm_r (by rw [e]) ⟨pk_in d 48 hd, nm_r (by rw [e]) (nm_r (nI_1 d) h)⟩⟩⟩
theorem lo_leave {post : St2 → Prop} {d : Nat} {s : Int64} {e : Int32} {ro ao : Int32} {sh : Int64} {ex : Int32} {L W A B : Nat → Int32} {a5 a6 a7 a8 a9 a10 a11 a12 : Nat → Int32} {a13 : Nat → Int64} {a14 : Nat → Int32} (h : post (ro, ao, nI d, s, e, L, W, A, B, a5, a6, a7, a8, a9, a10, a11, a12, a13, a14)) : wpX_leave post (ro, ao, nI (d + 1), sh, ex, L, W, A, B, a5, a6, a7, a8, a9, a10, a11, a12, a13, a14) s e :=
  nm_r (nI_pred d) h
/-- groundRow -/
theorem lo_groundRow {post : Int32 → Prop} {ro ao dp : Int32} {sh : Int64} {ex : Int32} {L W A B : Nat → Int32} {a5 a6 a7 a8 a9 a10 a11 a12 : Nat → Int32} {a13 : Nat → Int64} {a14 : Nat → Int32} {r : Nat} {x val y : Int32} (hx : x = nI r) (hr : r < 4) (hy : 9 * nI r + 3 * lo_v val (A r) + lo_v val (B r) = y) (h : post y) : wpX_groundRow post (ro, ao, dp, sh, ex, L, W, A, B, a5, a6, a7, a8, a9, a10, a11, a12, a13, a14) x val := by
  subst hx
  have e : (nI r).toNatClampNeg = r := nI_clamp (by omega)
  refine ⟨pk_in r 4 hr, pk_in r 4 hr, ?_⟩
  show post (9 * nI r + 3 * lo_v val (A (nI r).toNatClampNeg) + lo_v val (B (nI r).toNatClampNeg))
  rw [e, hy]
  exact h
/-- a ground atom's share and exponent -/
def lo_gs (w : Int32) : Int64 := if w < 0 then 0 else w.toInt64
def lo_en (w : Int32) : Nat := if w < 0 then 0 else 1
/-- the relation that finishGround picks, k turns -/
def lo_fgk (set : Int32) : Nat → Int32
  | 0 => 0
  | k + 1 => if (((set.toUInt32 >>> ((nI k).toUInt32 &&& Int32.toUInt32 31)).toInt32) &&& 1) = 0 then lo_fgk set k else nI k
theorem lo_finishGround {post : St2 → Prop} {d r j : Nat} {set val : Int32} {ro ao : Int32} {sh : Int64} {ex : Int32} {L W A B : Nat → Int32} {a5 a6 a7 a8 a9 a10 a11 a12 : Nat → Int32} {a13 : Nat → Int64} {a14 : Nat → Int32} (hr : lo_fgk set 4 = nI r) (hr4 : r < 4) (hj : 9 * nI r + 3 * lo_v val (A r) + lo_v val (B r) = nI j) (hj36 : j < 36) (h : post (ro, ao, nI d, lo_gs (W j), nI (lo_en (W j)), L, W, A, B, a5, a6, a7, a8, a9, a10, a11, a12, a13, a14)) : wpX_finishGround post (ro, ao, nI (d + 1), sh, ex, L, W, A, B, a5, a6, a7, a8, a9, a10, a11, a12, a13, a14) set val := by
  have e : (nI j).toNatClampNeg = j := nI_clamp (by omega)
  refine loop_0 (fun n i s => wX_finishGround_5 post set val ro ao (nI (d + 1)) sh ex L W A B a5 a6 a7 a8 a9 a10 a11 a12 a13 a14 n s (nI i)) (fun i s => s = lo_fgk set i) 4 0 rfl
    (fun n s hs => pk_le 4 4 (fun _ => lo_groundRow (hs.trans hr) hr4 hj ⟨pk_in j 36 hj36, nm_r (e' := W j) (by rw [e]) ?_⟩) (fun z => absurd z (by omega)))
    (fun n i s hi hs hw => pk_le 4 i (fun z => absurd z (by omega)) (fun _ => br_c (fun g => nm_r (nI_1 i) (hw _ (by rw [hs, lo_fgk, if_pos g]))) (fun g => nm_r (nI_1 i) (hw _ (by rw [lo_fgk, if_neg g])))))
  unfold lo_gs lo_en at h
  refine br_c (fun g => lo_leave ?_) (fun g => lo_leave ?_)
  · rw [if_neg (Int32.not_lt.mpr g), if_neg (Int32.not_lt.mpr g)] at h
    exact h
  · rw [if_pos (Int32.not_le.mp g), if_pos (Int32.not_le.mp g)] at h
    exact h
end
section
/-- the loop of evaluateAll over a whole state -/
def lo_W (post : Int64 → St2 → Prop) (n : Nat) (x : Int32) (s : St2) : Prop := match s with
  | (ro, ao, dp, sh, ex, L, W, A, B, a5, a6, a7, a8, a9, a10, a11, a12, a13, a14) => wX_evaluateAll_44 post n x ro ao dp sh ex L W A B a5 a6 a7 a8 a9 a10 a11 a12 a13 a14
/-- k turns of that loop lead from s to t -/
def lo_R (k : Nat) (s t : St2) : Prop := ∀ (post : Int64 → St2 → Prop) (n j : Nat), j + k ≤ 90000 → lo_W post n (nI (j + k)) t → lo_W post (n + k) (nI j) s
theorem lo_R_trans {k m : Nat} {s t u : St2} (h1 : lo_R k s t) (h2 : lo_R m t u) : lo_R (k + m) s u := by
  intro post n j hj hw
  have a := h2 post n (j + k) (by omega) (by rw [Nat.add_assoc]; exact hw)
  have b := h1 post (n + m) j (by omega) a
  rw [show n + (k + m) = n + m + k by omega]
  exact b
theorem lo_R_begin {d : Nat} {t : St2} {ro ao : Int32} {sh : Int64} {ex : Int32} {L W A B : Nat → Int32} {a5 a6 a7 a8 a9 a10 a11 a12 : Nat → Int32} {a13 : Nat → Int64} {a14 : Nat → Int32} (hd : d < 48) (hk : a5 d = 0) (H : ∀ post : St2 → Prop, post t → wpX_begin post (ro, ao, nI (d + 1), sh, ex, L, W, A, B, a5, a6, a7, a8, a9, a10, a11, a12, a13, a14) (nI d)) : lo_R 1 (ro, ao, nI (d + 1), sh, ex, L, W, A, B, a5, a6, a7, a8, a9, a10, a11, a12, a13, a14) t := by
  intro post n j hj hw
  obtain ⟨r', c', d', s', e', l', w', p', q', b5, b6, b7, b8, b9, b10, b11, b12, b13, b14⟩ := t
  have e : (nI d).toNatClampNeg = d := nI_clamp (by omega)
  show wX_evaluateAll_44 post (n + 1) (nI j) ro ao (nI (d + 1)) sh ex L W A B a5 a6 a7 a8 a9 a10 a11 a12 a13 a14
  refine pk_le 100000 j (fun z => absurd z (by omega)) (fun _ => br_f (nI_nle (by omega) (by omega)) (nm_r (nI_pred d) ⟨pk_in d 48 hd, br_t (by rw [e]; exact hk) (H _ ?_)⟩))
  exact nm_r (nI_1 j) hw
theorem lo_R_prod {d : Nat} {t : St2} {ro ao : Int32} {sh : Int64} {ex : Int32} {L W A B : Nat → Int32} {a5 a6 a7 a8 a9 a10 a11 a12 : Nat → Int32} {a13 : Nat → Int64} {a14 : Nat → Int32} (hd : d < 48) (hk : a5 d = 1) (H : ∀ post : St2 → Prop, post t → wpX_goOnProduct post (ro, ao, nI (d + 1), sh, ex, L, W, A, B, a5, a6, a7, a8, a9, a10, a11, a12, a13, a14) (nI d)) : lo_R 1 (ro, ao, nI (d + 1), sh, ex, L, W, A, B, a5, a6, a7, a8, a9, a10, a11, a12, a13, a14) t := by
  intro post n j hj hw
  obtain ⟨r', c', d', s', e', l', w', p', q', b5, b6, b7, b8, b9, b10, b11, b12, b13, b14⟩ := t
  have e : (nI d).toNatClampNeg = d := nI_clamp (by omega)
  show wX_evaluateAll_44 post (n + 1) (nI j) ro ao (nI (d + 1)) sh ex L W A B a5 a6 a7 a8 a9 a10 a11 a12 a13 a14
  refine pk_le 100000 j (fun z => absurd z (by omega)) (fun _ => br_f (nI_nle (by omega) (by omega)) (nm_r (nI_pred d) ⟨pk_in d 48 hd, br_f (by rw [e, hk]; decide) ⟨pk_in d 48 hd, br_t (by rw [e]; exact hk) (H _ ?_)⟩⟩))
  exact nm_r (nI_1 j) hw
theorem lo_R_proj {d : Nat} {t : St2} {ro ao : Int32} {sh : Int64} {ex : Int32} {L W A B : Nat → Int32} {a5 a6 a7 a8 a9 a10 a11 a12 : Nat → Int32} {a13 : Nat → Int64} {a14 : Nat → Int32} (hd : d < 48) (hk : a5 d = 2) (H : ∀ post : St2 → Prop, post t → wpX_goOnProject post (ro, ao, nI (d + 1), sh, ex, L, W, A, B, a5, a6, a7, a8, a9, a10, a11, a12, a13, a14) (nI d)) : lo_R 1 (ro, ao, nI (d + 1), sh, ex, L, W, A, B, a5, a6, a7, a8, a9, a10, a11, a12, a13, a14) t := by
  intro post n j hj hw
  obtain ⟨r', c', d', s', e', l', w', p', q', b5, b6, b7, b8, b9, b10, b11, b12, b13, b14⟩ := t
  have e : (nI d).toNatClampNeg = d := nI_clamp (by omega)
  show wX_evaluateAll_44 post (n + 1) (nI j) ro ao (nI (d + 1)) sh ex L W A B a5 a6 a7 a8 a9 a10 a11 a12 a13 a14
  refine pk_le 100000 j (fun z => absurd z (by omega)) (fun _ => br_f (nI_nle (by omega) (by omega)) (nm_r (nI_pred d) ⟨pk_in d 48 hd, br_f (by rw [e, hk]; decide) ⟨pk_in d 48 hd, br_f (by rw [e, hk]; decide) ⟨pk_in d 48 hd, br_t (by rw [e]; exact hk) (H _ ?_)⟩⟩⟩))
  exact nm_r (nI_1 j) hw
theorem lo_R_dec {d : Nat} {t : St2} {ro ao : Int32} {sh : Int64} {ex : Int32} {L W A B : Nat → Int32} {a5 a6 a7 a8 a9 a10 a11 a12 : Nat → Int32} {a13 : Nat → Int64} {a14 : Nat → Int32} (hd : d < 48) (hk : a5 d = 3 ∨ a5 d = 4) (H : ∀ post : St2 → Prop, post t → wpX_goOnDeciding post (ro, ao, nI (d + 1), sh, ex, L, W, A, B, a5, a6, a7, a8, a9, a10, a11, a12, a13, a14) (nI d)) : lo_R 1 (ro, ao, nI (d + 1), sh, ex, L, W, A, B, a5, a6, a7, a8, a9, a10, a11, a12, a13, a14) t := by
  intro post n j hj hw
  obtain ⟨r', c', d', s', e', l', w', p', q', b5, b6, b7, b8, b9, b10, b11, b12, b13, b14⟩ := t
  have e : (nI d).toNatClampNeg = d := nI_clamp (by omega)
  have k0 : ¬ a5 (nI d).toNatClampNeg = 0 := by rw [e]; rcases hk with z | z <;> rw [z] <;> decide
  have k1 : ¬ a5 (nI d).toNatClampNeg = 1 := by rw [e]; rcases hk with z | z <;> rw [z] <;> decide
  have k2 : ¬ a5 (nI d).toNatClampNeg = 2 := by rw [e]; rcases hk with z | z <;> rw [z] <;> decide
  show wX_evaluateAll_44 post (n + 1) (nI j) ro ao (nI (d + 1)) sh ex L W A B a5 a6 a7 a8 a9 a10 a11 a12 a13 a14
  refine pk_le 100000 j (fun z => absurd z (by omega)) (fun _ => br_f (nI_nle (by omega) (by omega)) (nm_r (nI_pred d) ⟨pk_in d 48 hd, br_f k0 ⟨pk_in d 48 hd, br_f k1 ⟨pk_in d 48 hd, br_f k2 (H _ ?_)⟩⟩⟩))
  exact nm_r (nI_1 j) hw
/-- begin: an empty set -/
theorem lo_begin_zero {post : St2 → Prop} {d : Nat} {ro ao : Int32} {sh : Int64} {ex : Int32} {L W A B : Nat → Int32} {a5 a6 a7 a8 a9 a10 a11 a12 : Nat → Int32} {a13 : Nat → Int64} {a14 : Nat → Int32} (hd : d < 48) (hs : a6 d = 0) (h : post (ro, ao, nI d, 1, 0, L, W, A, B, a5, a6, a7, a8, a9, a10, a11, a12, vp_updL a13 d 1, upd a14 d 0)) : wpX_begin post (ro, ao, nI (d + 1), sh, ex, L, W, A, B, a5, a6, a7, a8, a9, a10, a11, a12, a13, a14) (nI d) := by
  have e : (nI d).toNatClampNeg = d := nI_clamp (by omega)
  exact ⟨pk_in d 48 hd, nm_r (e' := 0) (by rw [e, hs]) ⟨pk_in d 48 hd, nm_e ⟨pk_in d 48 hd, nm_r (e' := vp_updL a13 d 1) (by rw [e]) ⟨pk_in d 48 hd, nm_r (e' := upd a14 d 0) (by rw [e]) (br_t rfl (lo_leave h))⟩⟩⟩⟩
/-- begin: the first of several parts -/
theorem lo_begin_prod {post : St2 → Prop} {d : Nat} {set val part : Int32} {ro ao : Int32} {sh : Int64} {ex : Int32} {L W A B : Nat → Int32} {a5 a6 a7 a8 a9 a10 a11 a12 : Nat → Int32} {a13 : Nat → Int64} {a14 : Nat → Int32} (hd : d + 1 < 48) (hs : a6 d = set) (hv : a7 d = val) (h0 : ¬ set = 0) (hc : lo_co A B set val = part) (hp : ¬ part = set) (h : post (ro, ao, nI (d + 1 + 1), sh, ex, L, W, A, B, upd (upd a5 d 1) (d + 1) 0, upd a6 (d + 1) part, upd a7 (d + 1) val, upd a8 d (set &&& (part ^^^ (-1))), a9, a10, a11, a12, vp_updL a13 d 1, upd a14 d 0)) : wpX_begin post (ro, ao, nI (d + 1), sh, ex, L, W, A, B, a5, a6, a7, a8, a9, a10, a11, a12, a13, a14) (nI d) := by
  have e : (nI d).toNatClampNeg = d := nI_clamp (by omega)
  have i : vp_in (nI d) 48 := pk_in d 48 (by omega)
  exact ⟨i, nm_r (e' := set) (by rw [e, hs]) ⟨i, nm_r (e' := val) (by rw [e, hv]) ⟨i, nm_r (e' := vp_updL a13 d 1) (by rw [e]) ⟨i, nm_r (e' := upd a14 d 0) (by rw [e]) (br_f h0 (lo_componentOf hc (br_f hp ⟨i, nm_r (e' := upd a5 d 1) (by rw [e]) ⟨i, nm_r (e' := upd a8 d (set &&& (part ^^^ (-1)))) (by rw [e]) (lo_enter hd h)⟩⟩)))⟩⟩⟩⟩
/-- begin: a part without free variables -/
theorem lo_begin_ground {post : St2 → Prop} {d r j : Nat} {set val : Int32} {ro ao : Int32} {sh : Int64} {ex : Int32} {L W A B : Nat → Int32} {a5 a6 a7 a8 a9 a10 a11 a12 : Nat → Int32} {a13 : Nat → Int64} {a14 : Nat → Int32} (hd : d < 48) (hs : a6 d = set) (hv : a7 d = val) (h0 : ¬ set = 0) (hc : lo_co A B set val = set) (hg : lo_gr A B set val = 1) (hr : lo_fgk set 4 = nI r) (hr4 : r < 4) (hj : 9 * nI r + 3 * lo_v val (A r) + lo_v val (B r) = nI j) (hj36 : j < 36) (h : post (ro, ao, nI d, lo_gs (W j), nI (lo_en (W j)), L, W, A, B, a5, a6, a7, a8, a9, a10, a11, a12, vp_updL a13 d 1, upd a14 d 0)) : wpX_begin post (ro, ao, nI (d + 1), sh, ex, L, W, A, B, a5, a6, a7, a8, a9, a10, a11, a12, a13, a14) (nI d) := by
  have e : (nI d).toNatClampNeg = d := nI_clamp (by omega)
  have i : vp_in (nI d) 48 := pk_in d 48 (by omega)
  exact ⟨i, nm_r (e' := set) (by rw [e, hs]) ⟨i, nm_r (e' := val) (by rw [e, hv]) ⟨i, nm_r (e' := vp_updL a13 d 1) (by rw [e]) ⟨i, nm_r (e' := upd a14 d 0) (by rw [e]) (br_f h0 (lo_componentOf hc (br_t rfl (lo_isGround hg (br_f (by decide) (lo_finishGround hr hr4 hj hj36 h))))))⟩⟩⟩⟩
/-- begin: a common variable -/
theorem lo_begin_proj {post : St2 → Prop} {d x : Nat} {set val : Int32} {ro ao : Int32} {sh : Int64} {ex : Int32} {L W A B : Nat → Int32} {a5 a6 a7 a8 a9 a10 a11 a12 : Nat → Int32} {a13 : Nat → Int64} {a14 : Nat → Int32} (hd : d + 1 < 48) (hs : a6 d = set) (hv : a7 d = val) (h0 : ¬ set = 0) (hc : lo_co A B set val = set) (hg : lo_gr A B set val = 0) (hx : lo_cv A B set val = nI x) (hx3 : x < 3) (h : post (ro, ao, nI (d + 1 + 1), sh, ex, L, W, A, B, upd (upd a5 d 2) (d + 1) 0, upd a6 (d + 1) set, upd a7 (d + 1) (val &&& (((3 : Int32) <<< ((2 * nI x) &&& 31)) ^^^ (-1))), a8, upd a9 d (nI x), upd a10 d (nI 0), a11, a12, vp_updL a13 d 1, upd a14 d (nI 0))) : wpX_begin post (ro, ao, nI (d + 1), sh, ex, L, W, A, B, a5, a6, a7, a8, a9, a10, a11, a12, a13, a14) (nI d) := by
  have e : (nI d).toNatClampNeg = d := nI_clamp (by omega)
  have i : vp_in (nI d) 48 := pk_in d 48 (by omega)
  exact ⟨i, nm_r (e' := set) (by rw [e, hs]) ⟨i, nm_r (e' := val) (by rw [e, hv]) ⟨i, nm_r (e' := vp_updL a13 d 1) (by rw [e]) ⟨i, nm_r (e' := upd a14 d (nI 0)) (by rw [e]; rfl) (br_f h0 (lo_componentOf hc (br_t rfl (lo_isGround hg (br_t rfl (lo_commonVariable hx (br_f (nI_pos (by omega)) ⟨i, nm_r (e' := upd a5 d 2) (by rw [e]) ⟨i, nm_r (e' := upd a9 d (nI x)) (by rw [e]) ⟨i, nm_r (e' := upd a10 d (nI 0)) (by rw [e]; rfl) (lo_enter hd h)⟩⟩⟩)))))))⟩⟩⟩⟩
/-- begin: row by row -/
theorem lo_begin_dec {post : St2 → Prop} {d : Nat} {set val : Int32} {t : St2} {ro ao : Int32} {sh : Int64} {ex : Int32} {L W A B : Nat → Int32} {a5 a6 a7 a8 a9 a10 a11 a12 : Nat → Int32} {a13 : Nat → Int64} {a14 : Nat → Int32} (hd : d < 48) (hs : a6 d = set) (hv : a7 d = val) (h0 : ¬ set = 0) (hc : lo_co A B set val = set) (hg : lo_gr A B set val = 0) (hx : lo_cv A B set val = -1) (h : ∀ P : St2 → Prop, P t → wpX_startDeciding P (ro, ao, nI (d + 1), sh, ex, L, W, A, B, a5, a6, a7, a8, a9, a10, a11, a12, vp_updL a13 d 1, upd a14 d 0) (nI d) set val) (hp : post t) : wpX_begin post (ro, ao, nI (d + 1), sh, ex, L, W, A, B, a5, a6, a7, a8, a9, a10, a11, a12, a13, a14) (nI d) := by
  obtain ⟨r', c', d', s', e', l', w', p', q', b5, b6, b7, b8, b9, b10, b11, b12, b13, b14⟩ := t
  have e : (nI d).toNatClampNeg = d := nI_clamp (by omega)
  have i : vp_in (nI d) 48 := pk_in d 48 (by omega)
  exact ⟨i, nm_r (e' := set) (by rw [e, hs]) ⟨i, nm_r (e' := val) (by rw [e, hv]) ⟨i, nm_r (e' := vp_updL a13 d 1) (by rw [e]) ⟨i, nm_r (e' := upd a14 d 0) (by rw [e]) (br_f h0 (lo_componentOf hc (br_t rfl (lo_isGround hg (br_t rfl (lo_commonVariable hx (br_t (by decide) (h _ hp)))))))) ⟩⟩⟩⟩
/-- goOnProject: another value -/
theorem lo_goProj_more {post : St2 → Prop} {d x t g e : Nat} {ro ao : Int32} {sh : Int64} {L W A B : Nat → Int32} {a5 a6 a7 a8 a9 a10 a11 a12 : Nat → Int32} {a13 : Nat → Int64} {a14 : Nat → Int32} (hd : d + 1 < 48) (hx : a9 d = nI x) (ht : a10 d = nI t) (ht2 : t < 2) (hg : a14 d = nI g) (he : e ≤ 10) (h : post (ro, ao, nI (d + 1 + 1), sh, nI e, L, W, A, B, upd a5 (d + 1) 0, upd a6 (d + 1) (a6 d), upd a7 (d + 1) (((a7 d) &&& (((3 : Int32) <<< ((2 * nI x) &&& 31)) ^^^ (-1))) ||| (nI (t + 1) <<< ((2 * nI x) &&& 31))), a8, a9, upd a10 d (nI (t + 1)), a11, a12, vp_updL a13 d (a13 d * (lN (10 ^ e) - sh)), upd a14 d (nI (g + e)))) : wpX_goOnProject post (ro, ao, nI (d + 1), sh, nI e, L, W, A, B, a5, a6, a7, a8, a9, a10, a11, a12, a13, a14) (nI d) := by
  have c : (nI d).toNatClampNeg = d := nI_clamp (by omega)
  have i : vp_in (nI d) 48 := pk_in d 48 (by omega)
  refine ⟨i, lo_power he ⟨i, nm_r (e' := vp_updL a13 d (a13 d * (lN (10 ^ e) - sh))) (by rw [c]) ⟨i, i, nm_r (e' := upd a14 d (nI (g + e))) (by rw [c, hg, nI_add]) ⟨i, i, nm_r (e' := upd a10 d (nI (t + 1))) (by rw [c, ht, nI_1]) ⟨i, nm_r (e' := nI x) (by rw [c, hx]) ⟨i, br_f (by rw [c, pk_us]; exact nI_ge (b := 3) (by omega) (by decide)) ⟨i, i, i, ?_⟩⟩⟩⟩⟩⟩⟩
  rw [c, pk_us]
  exact lo_enter hd h
/-- goOnProject: the last value -/
theorem lo_goProj_last {post : St2 → Prop} {d x g e : Nat} {ro ao : Int32} {sh : Int64} {L W A B : Nat → Int32} {a5 a6 a7 a8 a9 a10 a11 a12 : Nat → Int32} {a13 : Nat → Int64} {a14 : Nat → Int32} (hd : d < 48) (hx : a9 d = nI x) (ht : a10 d = nI 2) (hg : a14 d = nI g) (he : g + e ≤ 10) (h : post (ro, ao, nI d, lN (10 ^ (g + e)) - a13 d * (lN (10 ^ e) - sh), nI (g + e), L, W, A, B, a5, a6, a7, a8, a9, upd a10 d (nI 3), a11, a12, vp_updL a13 d (a13 d * (lN (10 ^ e) - sh)), upd a14 d (nI (g + e)))) : wpX_goOnProject post (ro, ao, nI (d + 1), sh, nI e, L, W, A, B, a5, a6, a7, a8, a9, a10, a11, a12, a13, a14) (nI d) := by
  have c : (nI d).toNatClampNeg = d := nI_clamp (by omega)
  have i : vp_in (nI d) 48 := pk_in d 48 (by omega)
  refine ⟨i, lo_power (by omega) ⟨i, nm_r (e' := vp_updL a13 d (a13 d * (lN (10 ^ e) - sh))) (by rw [c]) ⟨i, i, nm_r (e' := upd a14 d (nI (g + e))) (by rw [c, hg, nI_add]) ⟨i, i, nm_r (e' := upd a10 d (nI 3)) (by rw [c, ht, nI_1]) ⟨i, nm_r (e' := nI x) (by rw [c, hx]) ⟨i, br_t (by rw [c, pk_us]; exact nI_le (a := 3) (by omega) (by decide)) ⟨i, ?_⟩⟩⟩⟩⟩⟩⟩
  rw [c, pk_us]
  refine lo_power he ⟨i, i, ?_⟩
  rw [pk_uLs]
  exact lo_leave h
/-- goOnProduct: another part -/
theorem lo_goProd_more {post : St2 → Prop} {d : Nat} {rest part : Int32} {ro ao : Int32} {sh : Int64} {ex : Int32} {L W A B : Nat → Int32} {a5 a6 a7 a8 a9 a10 a11 a12 : Nat → Int32} {a13 : Nat → Int64} {a14 : Nat → Int32} (hd : d + 1 < 48) (hr : a8 d = rest) (hr0 : ¬ rest = 0) (hc : lo_co A B rest (a7 d) = part) (h : post (ro, ao, nI (d + 1 + 1), sh, ex, L, W, A, B, upd a5 (d + 1) 0, upd a6 (d + 1) part, upd a7 (d + 1) (a7 d), upd a8 d (rest &&& (part ^^^ (-1))), a9, a10, a11, a12, vp_updL a13 d (a13 d * sh), upd a14 d (a14 d + ex))) : wpX_goOnProduct post (ro, ao, nI (d + 1), sh, ex, L, W, A, B, a5, a6, a7, a8, a9, a10, a11, a12, a13, a14) (nI d) := by
  have c : (nI d).toNatClampNeg = d := nI_clamp (by omega)
  have i : vp_in (nI d) 48 := pk_in d 48 (by omega)
  refine ⟨i, i, nm_r (e' := vp_updL a13 d (a13 d * sh)) (by rw [c]) ⟨i, i, nm_r (e' := upd a14 d (a14 d + ex)) (by rw [c]) ⟨i, br_f (by rw [c, hr]; exact hr0) ⟨i, i, ?_⟩⟩⟩⟩
  rw [c, hr]
  exact lo_componentOf hc ⟨i, i, nm_e ⟨i, lo_enter hd h⟩⟩
/-- goOnProduct: no part is left -/
theorem lo_goProd_last {post : St2 → Prop} {d : Nat} {ro ao : Int32} {sh : Int64} {ex : Int32} {L W A B : Nat → Int32} {a5 a6 a7 a8 a9 a10 a11 a12 : Nat → Int32} {a13 : Nat → Int64} {a14 : Nat → Int32} (hd : d < 48) (hr : a8 d = 0) (h : post (ro, ao, nI d, a13 d * sh, a14 d + ex, L, W, A, B, a5, a6, a7, a8, a9, a10, a11, a12, vp_updL a13 d (a13 d * sh), upd a14 d (a14 d + ex))) : wpX_goOnProduct post (ro, ao, nI (d + 1), sh, ex, L, W, A, B, a5, a6, a7, a8, a9, a10, a11, a12, a13, a14) (nI d) := by
  have c : (nI d).toNatClampNeg = d := nI_clamp (by omega)
  have i : vp_in (nI d) 48 := pk_in d 48 (by omega)
  refine ⟨i, i, nm_r (e' := vp_updL a13 d (a13 d * sh)) (by rw [c]) ⟨i, i, nm_r (e' := upd a14 d (a14 d + ex)) (by rw [c]) ⟨i, br_t (by rw [c]; exact hr) ⟨i, i, ?_⟩⟩⟩⟩
  rw [c, pk_uLs, pk_us]
  exact lo_leave h
/-- goOnDeciding: the row was there, now it is absent -/
theorem lo_goDec_1 {post : St2 → Prop} {d o : Nat} {ro ao : Int32} {sh : Int64} {ex : Int32} {L W A B : Nat → Int32} {a5 a6 a7 a8 a9 a10 a11 a12 : Nat → Int32} {a13 : Nat → Int64} {a14 : Nat → Int32} (hd : d + 1 < 48) (hk : a5 d = 3) (ho : a11 d = nI o) (ho36 : o < 36) (h : post (ro, ao, nI (d + 1 + 1), sh, ex, L, upd W o 0, A, B, upd (upd a5 d 4) (d + 1) 0, upd a6 (d + 1) (a6 d), upd a7 (d + 1) (a7 d), a8, a9, a10, a11, a12, vp_updL a13 d (sh * (a12 d).toInt64), a14)) : wpX_goOnDeciding post (ro, ao, nI (d + 1), sh, ex, L, W, A, B, a5, a6, a7, a8, a9, a10, a11, a12, a13, a14) (nI d) := by
  have c : (nI d).toNatClampNeg = d := nI_clamp (by omega)
  have c' : (nI o).toNatClampNeg = o := nI_clamp (by omega)
  have i : vp_in (nI d) 48 := pk_in d 48 (by omega)
  have i' : vp_in (a11 (nI d).toNatClampNeg) 36 := by rw [c, ho]; exact pk_in o 36 ho36
  refine ⟨i, br_t (by rw [c]; exact hk) ⟨i, nm_r (e' := upd a5 d 4) (by rw [c]) ⟨i, i, nm_r (e' := vp_updL a13 d (sh * (a12 d).toInt64)) (by rw [c]) ⟨i, i', nm_r (e' := upd W o 0) (by rw [c, ho, c']) ⟨i, i, ?_⟩⟩⟩⟩⟩
  rw [c]
  exact lo_enter hd h
/-- goOnDeciding: both are known -/
theorem lo_goDec_2 {post : St2 → Prop} {d o : Nat} {ro ao : Int32} {sh : Int64} {ex : Int32} {L W A B : Nat → Int32} {a5 a6 a7 a8 a9 a10 a11 a12 : Nat → Int32} {a13 : Nat → Int64} {a14 : Nat → Int32} (hd : d < 48) (hk : a5 d = 4) (ho : a11 d = nI o) (ho36 : o < 36) (h : post (ro, ao, nI d, (a13 d + sh * (10 - a12 d).toInt64) / 10, ex, L, upd W o (a12 d), A, B, a5, a6, a7, a8, a9, a10, a11, a12, a13, a14)) : wpX_goOnDeciding post (ro, ao, nI (d + 1), sh, ex, L, W, A, B, a5, a6, a7, a8, a9, a10, a11, a12, a13, a14) (nI d) := by
  have c : (nI d).toNatClampNeg = d := nI_clamp (by omega)
  have c' : (nI o).toNatClampNeg = o := nI_clamp (by omega)
  have i : vp_in (nI d) 48 := pk_in d 48 (by omega)
  have i' : vp_in (a11 (nI d).toNatClampNeg) 36 := by rw [c, ho]; exact pk_in o 36 ho36
  exact ⟨i, br_f (by rw [c, hk]; decide) ⟨i, i, i', nm_r (e' := upd W o (a12 d)) (by rw [c, ho, c']) ⟨i, i, nm_r (e' := a13 d + sh * (10 - a12 d).toInt64) (by rw [c]) ⟨by decide, lo_leave h⟩⟩⟩⟩
end
section
/-- the ten arrays of frames -/
abbrev lo_F : Type := (Nat → Int32) × (Nat → Int32) × (Nat → Int32) × (Nat → Int32) × (Nat → Int32) × (Nat → Int32) × (Nat → Int32) × (Nat → Int32) × (Nat → Int64) × (Nat → Int32)
/-- frames below d are the same -/
def lo_ag (d : Nat) (f g : lo_F) : Prop := ∀ i, i < d → g.1 i = f.1 i ∧ g.2.1 i = f.2.1 i ∧ g.2.2.1 i = f.2.2.1 i ∧ g.2.2.2.1 i = f.2.2.2.1 i ∧ g.2.2.2.2.1 i = f.2.2.2.2.1 i ∧ g.2.2.2.2.2.1 i = f.2.2.2.2.2.1 i ∧ g.2.2.2.2.2.2.1 i = f.2.2.2.2.2.2.1 i ∧ g.2.2.2.2.2.2.2.1 i = f.2.2.2.2.2.2.2.1 i ∧ g.2.2.2.2.2.2.2.2.1 i = f.2.2.2.2.2.2.2.2.1 i ∧ g.2.2.2.2.2.2.2.2.2 i = f.2.2.2.2.2.2.2.2.2 i
theorem lo_ag_trans {d : Nat} {f g h : lo_F} (h1 : lo_ag d f g) (h2 : lo_ag d g h) : lo_ag d f h := by
  intro i hi
  obtain ⟨p1, p2, p3, p4, p5, p6, p7, p8, p9, p10⟩ := h1 i hi
  obtain ⟨q1, q2, q3, q4, q5, q6, q7, q8, q9, q10⟩ := h2 i hi
  exact ⟨q1.trans p1, q2.trans p2, q3.trans p3, q4.trans p4, q5.trans p5, q6.trans p6, q7.trans p7, q8.trans p8, q9.trans p9, q10.trans p10⟩
theorem lo_ag_le {d : Nat} {f g : lo_F} (h : lo_ag (d + 1) f g) : lo_ag d f g := fun i hi => h i (by omega)
theorem lo_un {f : Nat → Int32} {k d i : Nat} {x : Int32} (hi : i < d) (hk : d ≤ k) : upd f k x i = f i := pk_un (by omega)
theorem lo_un2 {f : Nat → Int32} {k m d i : Nat} {x y : Int32} (hi : i < d) (hk : d ≤ k) (hm : d ≤ m) : upd (upd f k x) m y i = f i := by rw [pk_un (by omega), pk_un (by omega)]
theorem lo_unL {f : Nat → Int64} {k d i : Nat} {x : Int64} (hi : i < d) (hk : d ≤ k) : vp_updL f k x i = f i := pk_uLn (by omega)
/-- a fresh frame (set, val) ends in at most K turns with share s and exponent e; H frames of room are enough -/
def lo_E (A B W : Nat → Int32) (set val : Int32) (K H : Nat) (s : Int64) (e : Int32) : Prop :=
  ∀ (d : Nat) (ro ao : Int32) (sh : Int64) (ex : Int32) (L : Nat → Int32) (f : lo_F), d + H ≤ 48 → f.1 d = 0 → f.2.1 d = set → f.2.2.1 d = val →
    ∃ (k : Nat) (g : lo_F), k ≤ K ∧ lo_ag d f g ∧ lo_R k (ro, ao, nI (d + 1), sh, ex, L, W, A, B, f) (ro, ao, nI d, s, e, L, W, A, B, g)
theorem lo_E_zero {A B W : Nat → Int32} {val : Int32} : lo_E A B W 0 val 1 1 1 0 := by
  intro d ro ao sh ex L f hd h1 h2 h3
  obtain ⟨a5, a6, a7, a8, a9, a10, a11, a12, a13, a14⟩ := f
  exact ⟨1, (a5, a6, a7, a8, a9, a10, a11, a12, vp_updL a13 d 1, upd a14 d 0), Nat.le_refl 1, fun i hi => ⟨rfl, rfl, rfl, rfl, rfl, rfl, rfl, rfl, lo_unL hi (by omega), lo_un hi (by omega)⟩, lo_R_begin (by omega) h1 (fun post hp => lo_begin_zero (by omega) h2 hp)⟩
theorem lo_E_ground {A B W : Nat → Int32} {set val : Int32} {r j : Nat} (h0 : ¬ set = 0) (hc : lo_co A B set val = set) (hg : lo_gr A B set val = 1) (hr : lo_fgk set 4 = nI r) (hr4 : r < 4) (hj : 9 * nI r + 3 * lo_v val (A r) + lo_v val (B r) = nI j) (hj36 : j < 36) : lo_E A B W set val 1 1 (lo_gs (W j)) (nI (lo_en (W j))) := by
  intro d ro ao sh ex L f hd h1 h2 h3
  obtain ⟨a5, a6, a7, a8, a9, a10, a11, a12, a13, a14⟩ := f
  exact ⟨1, (a5, a6, a7, a8, a9, a10, a11, a12, vp_updL a13 d 1, upd a14 d 0), Nat.le_refl 1, fun i hi => ⟨rfl, rfl, rfl, rfl, rfl, rfl, rfl, rfl, lo_unL hi (by omega), lo_un hi (by omega)⟩, lo_R_begin (by omega) h1 (fun post hp => lo_begin_ground (by omega) h2 h3 h0 hc hg hr hr4 hj hj36 hp)⟩
/-- a frame under projection at its turn t -/
def lo_pj (d x t g : Nat) (set val : Int32) (G : Int64) (f : lo_F) : Prop := f.1 d = 2 ∧ f.2.1 d = set ∧ f.2.2.1 d = val ∧ f.2.2.2.2.1 d = nI x ∧ f.2.2.2.2.2.1 d = nI t ∧ f.2.2.2.2.2.2.2.2.1 d = G ∧ f.2.2.2.2.2.2.2.2.2 d = nI g
theorem lo_pj_ag {d x t g : Nat} {set val : Int32} {G : Int64} {f f' : lo_F} (ha : lo_ag (d + 1) f f') (h : lo_pj d x t g set val G f) : lo_pj d x t g set val G f' := by
  obtain ⟨p1, p2, p3, p4, p5, p6, p7⟩ := h
  obtain ⟨q1, q2, q3, q4, q5, q6, q7, q8, q9, q10⟩ := ha d (by omega)
  exact ⟨q1.trans p1, q2.trans p2, q3.trans p3, q5.trans p4, q6.trans p5, q9.trans p6, q10.trans p7⟩
/-- the values of a projection's child -/
def lo_pv (val : Int32) (x t : Nat) : Int32 := (val &&& (((3 : Int32) <<< ((2 * nI x) &&& 31)) ^^^ (-1))) ||| (nI t <<< ((2 * nI x) &&& 31))
theorem lo_pj_turn {A B W : Nat → Int32} {set val v ro ao : Int32} {d x t g e K H : Nat} {G s sh : Int64} {ex : Int32} {L : Nat → Int32} {f : lo_F} (hE : lo_E A B W set v K H s (nI e)) (he : e ≤ 10) (hd : d + 1 + H ≤ 48) (hH : 0 < H) (ht : t < 2) (hp : lo_pj d x t g set val G f) (h1 : f.1 (d + 1) = 0) (h2 : f.2.1 (d + 1) = set) (h3 : f.2.2.1 (d + 1) = v) :
    ∃ (k : Nat) (f' : lo_F), k ≤ K + 1 ∧ lo_ag d f f' ∧ lo_pj d x (t + 1) (g + e) set val (G * (lN (10 ^ e) - s)) f' ∧ f'.1 (d + 1) = 0 ∧ f'.2.1 (d + 1) = set ∧ f'.2.2.1 (d + 1) = lo_pv val x (t + 1) ∧ lo_R k (ro, ao, nI (d + 1 + 1), sh, ex, L, W, A, B, f) (ro, ao, nI (d + 1 + 1), s, nI e, L, W, A, B, f') := by
  obtain ⟨k, f1, hk, ha, hR⟩ := hE (d + 1) ro ao sh ex L f hd h1 h2 h3
  obtain ⟨a5, a6, a7, a8, a9, a10, a11, a12, a13, a14⟩ := f1
  obtain ⟨p1, p2, p3, p4, p5, p6, p7⟩ := lo_pj_ag ha hp
  refine ⟨k + 1, (upd a5 (d + 1) 0, upd a6 (d + 1) (a6 d), upd a7 (d + 1) (((a7 d) &&& (((3 : Int32) <<< ((2 * nI x) &&& 31)) ^^^ (-1))) ||| (nI (t + 1) <<< ((2 * nI x) &&& 31))), a8, a9, upd a10 d (nI (t + 1)), a11, a12, vp_updL a13 d (a13 d * (lN (10 ^ e) - s)), upd a14 d (nI (g + e))), by omega, ?_, ?_, pk_us, pk_us.trans p2, ?_, lo_R_trans hR (lo_R_proj (by omega) p1 (fun post hpost => lo_goProj_more (by omega) p4 p5 ht p7 he hpost))⟩
  · exact lo_ag_trans (lo_ag_le ha) (fun i hi => ⟨lo_un hi (by omega), lo_un hi (by omega), lo_un hi (by omega), rfl, rfl, lo_un hi (by omega), rfl, rfl, lo_unL hi (by omega), lo_un hi (by omega)⟩)
  · refine ⟨(pk_un (by omega)).trans p1, (pk_un (by omega)).trans p2, (pk_un (by omega)).trans p3, p4, pk_us, pk_uLs.trans ?_, pk_us⟩
    rw [show a13 d = G from p6]
  · refine pk_us.trans ?_
    rw [show a7 d = val from p3]
    rfl
theorem lo_pj_end {A B W : Nat → Int32} {set val v ro ao : Int32} {d x g e K H : Nat} {G s sh : Int64} {ex : Int32} {L : Nat → Int32} {f : lo_F} (hE : lo_E A B W set v K H s (nI e)) (he : g + e ≤ 10) (hd : d + 1 + H ≤ 48) (hp : lo_pj d x 2 g set val G f) (h1 : f.1 (d + 1) = 0) (h2 : f.2.1 (d + 1) = set) (h3 : f.2.2.1 (d + 1) = v) :
    ∃ (k : Nat) (f' : lo_F), k ≤ K + 1 ∧ lo_ag d f f' ∧ lo_R k (ro, ao, nI (d + 1 + 1), sh, ex, L, W, A, B, f) (ro, ao, nI d, lN (10 ^ (g + e)) - G * (lN (10 ^ e) - s), nI (g + e), L, W, A, B, f') := by
  obtain ⟨k, f1, hk, ha, hR⟩ := hE (d + 1) ro ao sh ex L f hd h1 h2 h3
  obtain ⟨a5, a6, a7, a8, a9, a10, a11, a12, a13, a14⟩ := f1
  obtain ⟨p1, p2, p3, p4, p5, p6, p7⟩ := lo_pj_ag ha hp
  have p6' : a13 d = G := p6
  subst p6'
  exact ⟨k + 1, (a5, a6, a7, a8, a9, upd a10 d (nI 3), a11, a12, vp_updL a13 d (a13 d * (lN (10 ^ e) - s)), upd a14 d (nI (g + e))), by omega, lo_ag_trans (lo_ag_le ha) (fun i hi => ⟨rfl, rfl, rfl, rfl, rfl, lo_un hi (by omega), rfl, rfl, lo_unL hi (by omega), lo_un hi (by omega)⟩), lo_R_trans hR (lo_R_proj (by omega) p1 (fun post hpost => lo_goProj_last (by omega) p4 p5 p7 he hpost))⟩
/-- a projection over its three values -/
theorem lo_E_proj {A B W : Nat → Int32} {set val : Int32} {x e0 e1 e2 K H : Nat} {s0 s1 s2 : Int64} (h0 : ¬ set = 0) (hc : lo_co A B set val = set) (hg : lo_gr A B set val = 0) (hx : lo_cv A B set val = nI x) (hx3 : x < 3)
    (v0 : val &&& (((3 : Int32) <<< ((2 * nI x) &&& 31)) ^^^ (-1)) = lo_pv val x 0) (hH : 0 < H) (he : e0 + e1 + e2 ≤ 10)
    (E0 : lo_E A B W set (lo_pv val x 0) K H s0 (nI e0)) (E1 : lo_E A B W set (lo_pv val x 1) K H s1 (nI e1)) (E2 : lo_E A B W set (lo_pv val x 2) K H s2 (nI e2)) :
    lo_E A B W set val (3 * K + 4) (H + 1) (lN (10 ^ (e0 + e1 + e2)) - (lN (10 ^ e0) - s0) * (lN (10 ^ e1) - s1) * (lN (10 ^ e2) - s2)) (nI (e0 + e1 + e2)) := by
  intro d ro ao sh ex L f hd h1 h2 h3
  obtain ⟨a5, a6, a7, a8, a9, a10, a11, a12, a13, a14⟩ := f
  have R0 := lo_R_begin (ro := ro) (ao := ao) (sh := sh) (ex := ex) (L := L) (W := W) (A := A) (B := B) (a5 := a5) (a6 := a6) (a7 := a7) (a8 := a8) (a9 := a9) (a10 := a10) (a11 := a11) (a12 := a12) (a13 := a13) (a14 := a14) (d := d) (by omega) h1 (fun post hp => lo_begin_proj (by omega) h2 h3 h0 hc hg hx hx3 hp)
  obtain ⟨k1, f1, hk1, ga1, hp1, u1, w1, z1, R1⟩ := lo_pj_turn (ro := ro) (ao := ao) (sh := sh) (ex := ex) (L := L) (d := d) (x := x) (t := 0) (g := 0) (val := val) (G := 1) (f := (upd (upd a5 d 2) (d + 1) 0, upd a6 (d + 1) set, upd a7 (d + 1) (val &&& (((3 : Int32) <<< ((2 * nI x) &&& 31)) ^^^ (-1))), a8, upd a9 d (nI x), upd a10 d (nI 0), a11, a12, vp_updL a13 d 1, upd a14 d (nI 0))) E0 (by omega) (by omega) hH (by omega)
    ⟨(pk_un (by omega)).trans pk_us, (pk_un (by omega)).trans h2, (pk_un (by omega)).trans h3, pk_us, pk_us, pk_uLs, pk_us⟩ pk_us pk_us (pk_us.trans v0)
  obtain ⟨k2, f2, hk2, ga2, hp2, u2, w2, z2, R2⟩ := lo_pj_turn (ro := ro) (ao := ao) (sh := s0) (ex := nI e0) (L := L) E1 (by omega) (by omega) hH (by omega) hp1 u1 w1 z1
  obtain ⟨k3, f3, hk3, ga3, R3⟩ := lo_pj_end (ro := ro) (ao := ao) (sh := s1) (ex := nI e1) (L := L) E2 (by omega) (by omega) hp2 u2 w2 z2
  have R := lo_R_trans R0 (lo_R_trans R1 (lo_R_trans R2 R3))
  rw [Nat.zero_add, Int64.one_mul] at R
  refine ⟨_, f3, by omega, ?_, R⟩
  refine lo_ag_trans (lo_ag_trans (lo_ag_trans ?_ ga1) ga2) ga3
  exact fun i hi => ⟨lo_un2 hi (by omega) (by omega), lo_un hi (by omega), lo_un hi (by omega), rfl, lo_un hi (by omega), lo_un hi (by omega), rfl, rfl, lo_unL hi (by omega), lo_un hi (by omega)⟩
/-- two independent parts -/
theorem lo_E_prod {A B W : Nat → Int32} {set val part rest : Int32} {e0 e1 K H : Nat} {s0 s1 : Int64} (h0 : ¬ set = 0) (hc : lo_co A B set val = part) (hp : ¬ part = set) (hr : set &&& (part ^^^ (-1)) = rest) (hr0 : ¬ rest = 0) (hc2 : lo_co A B rest val = rest) (hr2 : rest &&& (rest ^^^ (-1)) = 0) (hH : 0 < H)
    (E0 : lo_E A B W part val K H s0 (nI e0)) (E1 : lo_E A B W rest val K H s1 (nI e1)) :
    lo_E A B W set val (2 * K + 3) (H + 1) (s0 * s1) (nI (e0 + e1)) := by
  intro d ro ao sh ex L f hd h1 h2 h3
  obtain ⟨a5, a6, a7, a8, a9, a10, a11, a12, a13, a14⟩ := f
  subst hr
  have R0 := lo_R_begin (ro := ro) (ao := ao) (sh := sh) (ex := ex) (L := L) (W := W) (A := A) (B := B) (a5 := a5) (a6 := a6) (a7 := a7) (a8 := a8) (a9 := a9) (a10 := a10) (a11 := a11) (a12 := a12) (a13 := a13) (a14 := a14) (d := d) (by omega) h1 (fun post hpost => lo_begin_prod (by omega) h2 h3 h0 hc hp hpost)
  obtain ⟨k1, f1, hk1, ga1, R1⟩ := E0 (d + 1) ro ao sh ex L (upd (upd a5 d 1) (d + 1) 0, upd a6 (d + 1) part, upd a7 (d + 1) val, upd a8 d (set &&& (part ^^^ (-1))), a9, a10, a11, a12, vp_updL a13 d 1, upd a14 d 0) (by omega) pk_us pk_us pk_us
  obtain ⟨b5, b6, b7, b8, b9, b10, b11, b12, b13, b14⟩ := f1
  obtain ⟨q1, q2, q3, q4, q5, q6, q7, q8, q9, q10⟩ := ga1 d (by omega)
  have c1 : b5 d = 1 := q1.trans ((pk_un (by omega)).trans pk_us)
  have c3 : b7 d = val := q3.trans ((pk_un (by omega)).trans h3)
  have c4 : b8 d = set &&& (part ^^^ (-1)) := q4.trans pk_us
  have c9 : b13 d = 1 := q9.trans pk_uLs
  have c10 : b14 d = 0 := q10.trans pk_us
  have R2 := lo_R_prod (ro := ro) (ao := ao) (sh := s0) (ex := nI e0) (L := L) (W := W) (A := A) (B := B) (a5 := b5) (a6 := b6) (a7 := b7) (a8 := b8) (a9 := b9) (a10 := b10) (a11 := b11) (a12 := b12) (a13 := b13) (a14 := b14) (d := d) (by omega) c1 (fun post hpost => lo_goProd_more (part := set &&& (part ^^^ (-1))) (by omega) c4 hr0 (by rw [c3]; exact hc2) hpost)
  obtain ⟨k3, f3, hk3, ga3, R3⟩ := E1 (d + 1) ro ao s0 (nI e0) L (upd b5 (d + 1) 0, upd b6 (d + 1) (set &&& (part ^^^ (-1))), upd b7 (d + 1) (b7 d), upd b8 d ((set &&& (part ^^^ (-1))) &&& ((set &&& (part ^^^ (-1))) ^^^ (-1))), b9, b10, b11, b12, vp_updL b13 d (b13 d * s0), upd b14 d (b14 d + nI e0)) (by omega) pk_us pk_us (pk_us.trans c3)
  obtain ⟨d5, d6, d7, d8, d9, d10, d11, d12, d13, d14⟩ := f3
  obtain ⟨r1, r2, r3, r4, r5, r6, r7, r8, r9, r10⟩ := ga3 d (by omega)
  have g1 : d5 d = 1 := r1.trans ((pk_un (by omega)).trans c1)
  have g4 : d8 d = 0 := r4.trans (pk_us.trans hr2)
  have g9 : d13 d = s0 := r9.trans (pk_uLs.trans (by rw [c9, Int64.one_mul]))
  have g10 : d14 d = nI e0 := r10.trans (pk_us.trans (by rw [c10, Int32.zero_add]))
  have R4 := lo_R_prod (ro := ro) (ao := ao) (sh := s1) (ex := nI e1) (L := L) (W := W) (A := A) (B := B) (a5 := d5) (a6 := d6) (a7 := d7) (a8 := d8) (a9 := d9) (a10 := d10) (a11 := d11) (a12 := d12) (a13 := d13) (a14 := d14) (d := d) (by omega) g1 (fun post hpost => lo_goProd_last (by omega) g4 hpost)
  have R := lo_R_trans R0 (lo_R_trans R1 (lo_R_trans R2 (lo_R_trans R3 R4)))
  rw [g9, g10, nI_add] at R
  refine ⟨_, _, ?_, ?_, R⟩
  · omega
  · refine lo_ag_trans (lo_ag_trans (lo_ag_trans (lo_ag_trans ?_ (lo_ag_le ga1)) ?_) (lo_ag_le ga3)) ?_
    · exact fun i hi => ⟨lo_un2 hi (by omega) (by omega), lo_un hi (by omega), lo_un hi (by omega), lo_un hi (by omega), rfl, rfl, rfl, rfl, lo_unL hi (by omega), lo_un hi (by omega)⟩
    · exact fun i hi => ⟨lo_un hi (by omega), lo_un hi (by omega), lo_un hi (by omega), lo_un hi (by omega), rfl, rfl, rfl, rfl, lo_unL hi (by omega), lo_un hi (by omega)⟩
    · exact fun i hi => ⟨rfl, rfl, rfl, rfl, rfl, rfl, rfl, rfl, lo_unL hi (by omega), lo_un hi (by omega)⟩
end
section
/-- the query's arrays along the law -/
def lo_A0 : Nat → Int32 := upd (upd (upd (upd (fun _ => 0) 0 (-1)) 1 (-1)) 2 (-1)) 3 (-1)
def lo_A1 : Nat → Int32 := upd lo_A0 1 1
def lo_B1 : Nat → Int32 := upd lo_A0 1 2
def lo_A2 : Nat → Int32 := upd lo_A1 0 0
def lo_B2 : Nat → Int32 := upd lo_B1 0 1
def lo_A3 : Nat → Int32 := upd lo_A2 2 2
def lo_B3 : Nat → Int32 := upd lo_B2 2 0
def lo_A4 : Nat → Int32 := upd (upd (upd (upd lo_A3 0 (-1)) 1 (-1)) 2 (-1)) 3 (-1)
def lo_B4 : Nat → Int32 := upd (upd (upd (upd lo_B3 0 (-1)) 1 (-1)) 2 (-1)) 3 (-1)
/-- the values of code k -/
def lo_fu (k : Nat) : Int32 := ((nI k - nI k / 3 * 3) ||| (((nI k / 3) - (nI k / 3) / 3 * 3) <<< ((2 : Int32) &&& 31))) ||| ((nI k / 9) <<< ((4 : Int32) &&& 31))
theorem lo_t0 : ∀ k, k < 27 → 9 * nI 0 + 3 * lo_v (lo_fu k) (lo_A3 0) + lo_v (lo_fu k) (lo_B3 0) = nI (3 * (k % 3) + k / 3 % 3) := by decide +kernel
theorem lo_t1 : ∀ k, k < 27 → 9 * nI 1 + 3 * lo_v (lo_fu k) (lo_A3 1) + lo_v (lo_fu k) (lo_B3 1) = nI (9 + 3 * (k / 3 % 3) + k / 9) := by decide +kernel
theorem lo_t2 : ∀ k, k < 27 → 9 * nI 2 + 3 * lo_v (lo_fu k) (lo_A3 2) + lo_v (lo_fu k) (lo_B3 2) = nI (18 + 3 * (k / 9) + k % 3) := by decide +kernel
theorem lo_bit7 : ∀ r, r < 3 → ¬ ((((7 : Int32).toUInt32 >>> ((nI r).toUInt32 &&& Int32.toUInt32 31)).toInt32) &&& 1) = 0 := by decide +kernel
theorem lo_bit7' : ((((7 : Int32).toUInt32 >>> ((nI 3).toUInt32 &&& Int32.toUInt32 31)).toInt32) &&& 1) = 0 := by decide +kernel
/-- every row asked for is there: not where the third relation is empty -/
theorem lo_allThere {post : Int32 → Prop} {ro ao dp : Int32} {sh : Int64} {ex : Int32} {L W : Nat → Int32} {a5 a6 a7 a8 a9 a10 a11 a12 : Nat → Int32} {a13 : Nat → Int64} {a14 : Nat → Int32} {k : Nat} (hk : k < 27) (hW : ∀ i, 18 ≤ i → i < 27 → ¬ W i = 10) (h : post 0) : wpX_allThere post (ro, ao, dp, sh, ex, L, W, lo_A3, lo_B3, a5, a6, a7, a8, a9, a10, a11, a12, a13, a14) 7 (lo_fu k) := by
  refine ⟨4, pk_le 4 0 (fun z => absurd z (by omega)) (fun _ => br_f (lo_bit7 0 (by omega)) (lo_groundRow (r := 0) rfl (by omega) (lo_t0 k hk) ⟨pk_in (3 * (k % 3) + k / 3 % 3) 36 (by omega), br_c (fun _ => nm_r (nI_1 0) ?_) (fun _ => h)⟩))⟩
  refine pk_le 4 1 (fun z => absurd z (by omega)) (fun _ => br_f (lo_bit7 1 (by omega)) (lo_groundRow (r := 1) rfl (by omega) (lo_t1 k hk) ⟨pk_in (9 + 3 * (k / 3 % 3) + k / 9) 36 (by omega), br_c (fun _ => nm_r (nI_1 1) ?_) (fun _ => h)⟩))
  refine pk_le 4 2 (fun z => absurd z (by omega)) (fun _ => br_f (lo_bit7 2 (by omega)) (lo_groundRow (r := 2) rfl (by omega) (lo_t2 k hk) ⟨pk_in (18 + 3 * (k / 9) + k % 3) 36 (by omega), br_f ?_ h⟩))
  rw [nI_clamp (by omega)]
  exact hW _ (by omega) (by omega)
theorem lo_free63 : ∀ i, i < 3 → lo_v 63 (nI i) = 3 := by decide +kernel
theorem lo_extends {post : Int32 → Prop} {ro ao dp : Int32} {sh : Int64} {ex : Int32} {L W A B : Nat → Int32} {a5 a6 a7 a8 a9 a10 a11 a12 : Nat → Int32} {a13 : Nat → Int64} {a14 : Nat → Int32} {v : Int32} (h : post 1) : wpX_extendsValues post (ro, ao, dp, sh, ex, L, W, A, B, a5, a6, a7, a8, a9, a10, a11, a12, a13, a14) v 63 :=
  loop_0 (σ := Unit) (fun n i _ => wX_extendsValues_2 post v 63 ro ao dp sh ex L W A B a5 a6 a7 a8 a9 a10 a11 a12 a13 a14 n (nI i)) (fun _ _ => True) 3 () trivial
    (fun n _ _ => pk_le 3 3 (fun _ => h) (fun z => absurd z (by omega)))
    (fun n i _ hi _ hw => pk_le 3 i (fun z => absurd z (by omega)) (fun _ => lo_isFree (fun _ => br_f (by decide) (nm_r (nI_1 i) (hw () trivial))) (fun g => absurd (lo_free63 i hi) g)))
theorem lo_holds {post : Int32 → Prop} {ro ao dp : Int32} {sh : Int64} {ex : Int32} {L W : Nat → Int32} {a5 a6 a7 a8 a9 a10 a11 a12 : Nat → Int32} {a13 : Nat → Int64} {a14 : Nat → Int32} (hW : ∀ i, 18 ≤ i → i < 27 → ¬ W i = 10) (h : post 0) : wpX_holdsForSure post (ro, ao, dp, sh, ex, L, W, lo_A3, lo_B3, a5, a6, a7, a8, a9, a10, a11, a12, a13, a14) 7 63 :=
  loop_0 (σ := Unit) (fun n i _ => wX_holdsForSure_2 post 7 63 ro ao dp sh ex L W lo_A3 lo_B3 a5 a6 a7 a8 a9 a10 a11 a12 a13 a14 n (nI i)) (fun _ _ => True) 27 () trivial
    (fun n _ _ => pk_le 27 27 (fun _ => h) (fun z => absurd z (by omega)))
    (fun n i _ hi _ hw => pk_le 27 i (fun z => absurd z (by omega)) (fun _ => ⟨by decide, by decide, by decide, by decide, nm_r (e' := lo_fu i) rfl (lo_extends (br_f (by decide) (lo_allThere hi hW (br_t rfl (nm_r (nI_1 i) (hw () trivial))))))⟩))
/-- startDeciding's count: the last undecided row, the number of relevant rows -/
def lo_sd (W : Nat → Int32) : Nat → Int32 × Int32
  | 0 => (-1, 0)
  | k + 1 => if W k < 0 ∨ 27 ≤ k then lo_sd W k else (if W k ≤ 0 ∨ 10 ≤ W k then (lo_sd W k).1 else nI k, (lo_sd W k).2 + 1)
theorem lo_sd_spec (W : Nat → Int32) : ∀ k, ((lo_sd W k).1 = -1 ∧ ∀ j, j < k → j < 27 → W j ≤ 0 ∨ 10 ≤ W j) ∨ (∃ o, o < k ∧ o < 27 ∧ (lo_sd W k).1 = nI o ∧ ¬ W o ≤ 0 ∧ ¬ 10 ≤ W o) := by
  intro k
  induction k with
  | zero => exact Or.inl ⟨rfl, fun j hj => absurd hj (by omega)⟩
  | succ k ih =>
    by_cases c : W k < 0 ∨ 27 ≤ k
    · rw [lo_sd, if_pos c]
      rcases ih with ⟨h1, h2⟩ | ⟨o, h1, h2, h3, h4, h5⟩
      · refine Or.inl ⟨h1, fun j hj hj2 => ?_⟩
        by_cases e : j = k
        · subst e
          rcases c with c | c
          · exact Or.inl (Int32.le_of_lt c)
          · omega
        · exact h2 j (by omega) hj2
      · exact Or.inr ⟨o, by omega, h2, h3, h4, h5⟩
    · rw [lo_sd, if_neg c]
      dsimp only
      by_cases c2 : W k ≤ 0 ∨ 10 ≤ W k
      · rw [if_pos c2]
        rcases ih with ⟨h1, h2⟩ | ⟨o, h1, h2, h3, h4, h5⟩
        · refine Or.inl ⟨h1, fun j hj hj2 => ?_⟩
          by_cases e : j = k
          · subst e; exact c2
          · exact h2 j (by omega) hj2
        · exact Or.inr ⟨o, by omega, h2, h3, h4, h5⟩
      · rw [if_neg c2]
        exact Or.inr ⟨k, by omega, Nat.lt_of_not_le (fun z => c (Or.inr z)), rfl, fun z => c2 (Or.inl z), fun z => c2 (Or.inr z)⟩
theorem lo_va7 : ∀ r, r < 3 → lo_v 63 (lo_A3 r) = 3 ∧ lo_v 63 (lo_B3 r) = 3 ∧ ¬ lo_A3 r = lo_B3 r := by decide +kernel
theorem lo_relevant {post : Int32 → Prop} {ro ao dp : Int32} {sh : Int64} {ex : Int32} {L W : Nat → Int32} {a5 a6 a7 a8 a9 a10 a11 a12 : Nat → Int32} {a13 : Nat → Int64} {a14 : Nat → Int32} {i : Nat} (hi : i < 36) (h1 : ¬ (W i < 0 ∨ 27 ≤ i) → post 1) (h0 : W i < 0 ∨ 27 ≤ i → post 0) : wpX_isRelevant post (ro, ao, dp, sh, ex, L, W, lo_A3, lo_B3, a5, a6, a7, a8, a9, a10, a11, a12, a13, a14) (nI i) 7 63 := by
  have c : (nI i).toNatClampNeg = i := nI_clamp (by omega)
  have cr : (nI (i / 9)).toNatClampNeg = i / 9 := nI_clamp (by omega)
  refine ⟨by decide, nm_r (e' := nI (i / 9)) (pk_div (d := 9) (by omega) (by omega) (by omega)) ⟨pk_in i 36 hi, ?_⟩⟩
  rw [c]
  refine br_c (fun g => h0 (Or.inl g)) (fun g => ?_)
  by_cases hr : i / 9 < 3
  · obtain ⟨t1, t2, t3⟩ := lo_va7 (i / 9) hr
    refine br_f (lo_bit7 _ hr) ⟨by decide, by decide, nm_e ⟨by decide, nm_e ⟨pk_in (i / 9) 4 (by omega), pk_in (i / 9) 4 (by omega), br_t ?_ (br_t ?_ (br_f (by decide) ⟨pk_in (i / 9) 4 (by omega), pk_in (i / 9) 4 (by omega), br_f ?_ (h1 (fun z => z.elim g (by omega)))⟩))⟩⟩⟩
    · rw [cr]; exact t1
    · rw [cr]; exact t2
    · rw [cr]; exact t3
  · refine br_t ?_ (h0 (Or.inr (by omega)))
    rw [show i / 9 = 3 by omega]
    exact lo_bit7'
theorem lo_sd9 {post : St2 → Prop} {x1 : Int32} {ro ao dp : Int32} {sh : Int64} {ex : Int32} {L W : Nat → Int32} {a5 a6 a7 a8 a9 a10 a11 a12 : Nat → Int32} {a13 : Nat → Int64} {a14 : Nat → Int32}
    (h : ∀ n, wX_startDeciding_9 post x1 7 63 ro ao dp sh ex L W lo_A3 lo_B3 a5 a6 a7 a8 a9 a10 a11 a12 a13 a14 (n + 1) (lo_sd W 36).1 (lo_sd W 36).2 (nI 36)) : wpX_startDeciding post (ro, ao, dp, sh, ex, L, W, lo_A3, lo_B3, a5, a6, a7, a8, a9, a10, a11, a12, a13, a14) x1 7 63 :=
  loop_0 (fun n i (s : Int32 × Int32) => wX_startDeciding_9 post x1 7 63 ro ao dp sh ex L W lo_A3 lo_B3 a5 a6 a7 a8 a9 a10 a11 a12 a13 a14 n s.1 s.2 (nI i)) (fun i s => s = lo_sd W i) 36 (-1, 0) rfl
    (fun n s hs => by rw [hs]; exact h n)
    (fun n i s hi hs hw => pk_le 36 i (fun z => absurd z (by omega)) (fun _ => lo_relevant hi
      (fun g => br_f (by decide) (nm_e ⟨pk_in i 36 hi, br_c (fun g2 => nm_r (nI_1 i) (hw (s.1, s.2 + 1) (by rw [nI_clamp (by omega)] at g2; rw [lo_sd, if_neg g, if_pos (Or.inl g2), hs]))) (fun g2 => ⟨pk_in i 36 hi, br_c (fun g3 => nm_r (nI_1 i) (hw (s.1, s.2 + 1) (by rw [nI_clamp (by omega)] at g3; rw [lo_sd, if_neg g, if_pos (Or.inr g3), hs]))) (fun g3 => nm_r (nI_1 i) (hw (nI i, s.2 + 1) (by rw [nI_clamp (by omega)] at g2 g3; rw [lo_sd, if_neg g, if_neg (fun z => z.elim g2 g3), hs])))⟩)⟩))
      (fun g => br_t rfl (nm_r (nI_1 i) (hw s (by rw [lo_sd, if_pos g, hs]))))))
theorem lo_sd_more {post : St2 → Prop} {d o : Nat} {ro ao : Int32} {sh : Int64} {ex : Int32} {L W : Nat → Int32} {a5 a6 a7 a8 a9 a10 a11 a12 : Nat → Int32} {a13 : Nat → Int64} {a14 : Nat → Int32} (hd : d + 1 < 48) (ho : o < 36) (h : (lo_sd W 36).1 = nI o) (hp : post (ro, ao, nI (d + 1 + 1), sh, ex, L, upd W o 10, lo_A3, lo_B3, upd (upd a5 d 3) (d + 1) 0, upd a6 (d + 1) 7, upd a7 (d + 1) 63, a8, a9, a10, upd a11 d (nI o), upd a12 d (W o), a13, a14)) : wpX_startDeciding post (ro, ao, nI (d + 1), sh, ex, L, W, lo_A3, lo_B3, a5, a6, a7, a8, a9, a10, a11, a12, a13, a14) (nI d) 7 63 := by
  have c : (nI d).toNatClampNeg = d := nI_clamp (by omega)
  have co : (nI o).toNatClampNeg = o := nI_clamp (by omega)
  have i : vp_in (nI d) 48 := pk_in d 48 (by omega)
  refine lo_sd9 (fun n => ?_)
  rw [h]
  exact pk_le 36 36 (fun _ => br_t (nI_pos' (by omega)) ⟨i, nm_r (e' := upd a5 d 3) (by rw [c]) ⟨i, nm_r (e' := upd a11 d (nI o)) (by rw [c]) ⟨pk_in o 36 ho, i, nm_r (e' := upd a12 d (W o)) (by rw [c, co]) ⟨pk_in o 36 ho, nm_r (e' := upd W o 10) (by rw [co]) (lo_enter hd hp)⟩⟩⟩⟩) (fun z => absurd z (by omega))
theorem lo_sd_done {post : St2 → Prop} {d : Nat} {ro ao : Int32} {sh : Int64} {ex : Int32} {L W : Nat → Int32} {a5 a6 a7 a8 a9 a10 a11 a12 : Nat → Int32} {a13 : Nat → Int64} {a14 : Nat → Int32} {x1 : Int32} (h : (lo_sd W 36).1 = -1) (hW : ∀ i, 18 ≤ i → i < 27 → ¬ W i = 10) (hp : post (ro, ao, nI d, 0, (lo_sd W 36).2, L, W, lo_A3, lo_B3, a5, a6, a7, a8, a9, a10, a11, a12, a13, a14)) : wpX_startDeciding post (ro, ao, nI (d + 1), sh, ex, L, W, lo_A3, lo_B3, a5, a6, a7, a8, a9, a10, a11, a12, a13, a14) x1 7 63 := by
  refine lo_sd9 (fun n => ?_)
  rw [h]
  exact pk_le 36 36 (fun _ => br_f (by decide) (lo_holds hW (br_t rfl (lo_leave hp)))) (fun z => absurd z (by omega))
theorem lo_c7 : lo_co lo_A3 lo_B3 7 63 = 7 ∧ lo_gr lo_A3 lo_B3 7 63 = 0 ∧ lo_cv lo_A3 lo_B3 7 63 = -1 := by decide +kernel
theorem lo_E_tri0 {W : Nat → Int32} (h : (lo_sd W 36).1 = -1) (hW : ∀ i, 18 ≤ i → i < 27 → ¬ W i = 10) : lo_E lo_A3 lo_B3 W 7 63 1 1 0 (lo_sd W 36).2 := by
  intro d ro ao sh ex L f hd h1 h2 h3
  obtain ⟨a5, a6, a7, a8, a9, a10, a11, a12, a13, a14⟩ := f
  exact ⟨1, (a5, a6, a7, a8, a9, a10, a11, a12, vp_updL a13 d 1, upd a14 d 0), Nat.le_refl 1, fun i hi => ⟨rfl, rfl, rfl, rfl, rfl, rfl, rfl, rfl, lo_unL hi (by omega), lo_un hi (by omega)⟩, lo_R_begin (by omega) h1 (fun post hp => lo_begin_dec (by omega) h2 h3 (by decide) lo_c7.1 lo_c7.2.1 lo_c7.2.2 (fun P hP => lo_sd_done h hW hP) hp)⟩
theorem lo_uu (W : Nat → Int32) (o : Nat) : upd (upd (upd W o 10) o 0) o (W o) = W := by
  funext i
  by_cases e : i = o
  · rw [e, pk_us]
  · rw [pk_un e, pk_un e, pk_un e]
theorem lo_E_tri1 {W : Nat → Int32} {o K H : Nat} {e1 e2 : Int32} (ho : o < 36) (h : (lo_sd W 36).1 = nI o) (hH : 0 < H) (E1 : lo_E lo_A3 lo_B3 (upd W o 10) 7 63 K H 0 e1) (E2 : lo_E lo_A3 lo_B3 (upd (upd W o 10) o 0) 7 63 K H 0 e2) : lo_E lo_A3 lo_B3 W 7 63 (2 * K + 3) (H + 1) 0 e2 := by
  intro d ro ao sh ex L f hd h1 h2 h3
  obtain ⟨a5, a6, a7, a8, a9, a10, a11, a12, a13, a14⟩ := f
  have R0 := lo_R_begin (ro := ro) (ao := ao) (sh := sh) (ex := ex) (L := L) (W := W) (A := lo_A3) (B := lo_B3) (a5 := a5) (a6 := a6) (a7 := a7) (a8 := a8) (a9 := a9) (a10 := a10) (a11 := a11) (a12 := a12) (a13 := a13) (a14 := a14) (d := d) (by omega) h1 (fun post hp => lo_begin_dec (by omega) h2 h3 (by decide) lo_c7.1 lo_c7.2.1 lo_c7.2.2 (fun P hP => lo_sd_more (by omega) ho h hP) hp)
  obtain ⟨k1, f1, hk1, ga1, R1⟩ := E1 (d + 1) ro ao sh ex L (upd (upd a5 d 3) (d + 1) 0, upd a6 (d + 1) 7, upd a7 (d + 1) 63, a8, a9, a10, upd a11 d (nI o), upd a12 d (W o), vp_updL a13 d 1, upd a14 d 0) (by omega) pk_us pk_us pk_us
  obtain ⟨b5, b6, b7, b8, b9, b10, b11, b12, b13, b14⟩ := f1
  obtain ⟨q1, q2, q3, q4, q5, q6, q7, q8, q9, q10⟩ := ga1 d (by omega)
  have c1 : b5 d = 3 := q1.trans ((pk_un (by omega)).trans pk_us)
  have c2 : b6 d = 7 := q2.trans ((pk_un (by omega)).trans h2)
  have c3 : b7 d = 63 := q3.trans ((pk_un (by omega)).trans h3)
  have c7 : b11 d = nI o := q7.trans pk_us
  have c8 : b12 d = W o := q8.trans pk_us
  have R2 := lo_R_dec (ro := ro) (ao := ao) (sh := 0) (ex := e1) (L := L) (W := upd W o 10) (A := lo_A3) (B := lo_B3) (a5 := b5) (a6 := b6) (a7 := b7) (a8 := b8) (a9 := b9) (a10 := b10) (a11 := b11) (a12 := b12) (a13 := b13) (a14 := b14) (d := d) (by omega) (Or.inl c1) (fun post hpost => lo_goDec_1 (by omega) c1 c7 ho hpost)
  obtain ⟨k3, f3, hk3, ga3, R3⟩ := E2 (d + 1) ro ao 0 e1 L (upd (upd b5 d 4) (d + 1) 0, upd b6 (d + 1) (b6 d), upd b7 (d + 1) (b7 d), b8, b9, b10, b11, b12, vp_updL b13 d (0 * (b12 d).toInt64), b14) (by omega) pk_us (pk_us.trans c2) (pk_us.trans c3)
  obtain ⟨d5, d6, d7, d8, d9, d10, d11, d12, d13, d14⟩ := f3
  obtain ⟨r1, r2, r3, r4, r5, r6, r7, r8, r9, r10⟩ := ga3 d (by omega)
  have g1 : d5 d = 4 := r1.trans ((pk_un (by omega)).trans pk_us)
  have g7 : d11 d = nI o := r7.trans c7
  have g8 : d12 d = W o := r8.trans c8
  have g9 : d13 d = 0 := r9.trans (pk_uLs.trans (by rw [Int64.zero_mul]))
  have R4 := lo_R_dec (ro := ro) (ao := ao) (sh := 0) (ex := e2) (L := L) (W := upd (upd W o 10) o 0) (A := lo_A3) (B := lo_B3) (a5 := d5) (a6 := d6) (a7 := d7) (a8 := d8) (a9 := d9) (a10 := d10) (a11 := d11) (a12 := d12) (a13 := d13) (a14 := d14) (d := d) (by omega) (Or.inr g1) (fun post hpost => lo_goDec_2 (by omega) g1 g7 ho hpost)
  have R := lo_R_trans R0 (lo_R_trans R1 (lo_R_trans R2 (lo_R_trans R3 R4)))
  rw [g8, g9, lo_uu, Int64.zero_mul, show ((0 : Int64) + 0) / 10 = 0 by decide] at R
  refine ⟨_, _, ?_, ?_, R⟩
  · omega
  · refine lo_ag_trans (lo_ag_trans (lo_ag_trans ?_ (lo_ag_le ga1)) ?_) (lo_ag_le ga3)
    · exact fun i hi => ⟨lo_un2 hi (by omega) (by omega), lo_un hi (by omega), lo_un hi (by omega), rfl, rfl, rfl, lo_un hi (by omega), lo_un hi (by omega), lo_unL hi (by omega), lo_un hi (by omega)⟩
    · exact fun i hi => ⟨lo_un2 hi (by omega) (by omega), lo_un hi (by omega), lo_un hi (by omega), rfl, rfl, rfl, rfl, rfl, lo_unL hi (by omega), rfl⟩
theorem lo_upd_tri {W : Nat → Int32} {S : List Nat} {o : Nat} {v : Int32} (hv : v ≤ 0 ∨ 10 ≤ v) (hS : ∀ i, i < 27 → ¬ W i ≤ 0 → ¬ 10 ≤ W i → i ∈ S) : ∀ i, i < 27 → ¬ upd W o v i ≤ 0 → ¬ 10 ≤ upd W o v i → i ∈ S.filter (fun j => decide (j ≠ o)) := by
  intro i hi g1 g2
  by_cases e : i = o
  · subst e
    rw [pk_us] at g1 g2
    exact absurd hv (fun z => z.elim g1 g2)
  · rw [pk_un e] at g1 g2
    exact List.mem_filter.mpr ⟨hS i hi g1 g2, by simpa using e⟩
theorem lo_E_tri : ∀ (n : Nat) (W : Nat → Int32) (S : List Nat), S.length ≤ n → (∀ i, i < 27 → ¬ W i ≤ 0 → ¬ 10 ≤ W i → i ∈ S) → (∀ i, 18 ≤ i → i < 27 → W i < 0) → ∃ e, lo_E lo_A3 lo_B3 W 7 63 (4 * 2 ^ n - 3) (n + 1) 0 e := by
  intro n
  induction n with
  | zero =>
    intro W S hn hS hW
    rcases lo_sd_spec W 36 with ⟨h1, h2⟩ | ⟨o, h1, h2, h3, h4, h5⟩
    · exact ⟨_, lo_E_tri0 h1 (fun i a b z => by have := hW i a b; rw [z] at this; exact absurd this (by decide))⟩
    · have := hS o h2 h4 h5
      rw [List.length_eq_zero_iff.mp (show S.length = 0 by omega)] at this
      exact absurd this (by simp)
  | succ n ih =>
    intro W S hn hS hW
    rcases lo_sd_spec W 36 with ⟨h1, h2⟩ | ⟨o, h1, h2, h3, h4, h5⟩
    · refine ⟨(lo_sd W 36).2, ?_⟩
      intro d ro ao sh ex L f hd f1 f2 f3
      obtain ⟨k, g, hk, hg⟩ := lo_E_tri0 h1 (fun i a b z => by have := hW i a b; rw [z] at this; exact absurd this (by decide)) d ro ao sh ex L f (by omega) f1 f2 f3
      have p : 0 < 2 ^ (n + 1) := Nat.two_pow_pos _
      exact ⟨k, g, by omega, hg⟩
    · have mo : o ∈ S := hS o h2 h4 h5
      have lt : (S.filter (fun j => decide (j ≠ o))).length < S.length := List.length_filter_lt_length_iff_exists.mpr ⟨o, mo, by simp⟩
      have up : ∀ (V : Nat → Int32) (v : Int32), (∀ i, 18 ≤ i → i < 27 → V i < 0) → (∀ i, 18 ≤ i → i < 27 → i ≠ o) → ∀ i, 18 ≤ i → i < 27 → upd V o v i < 0 := fun V v hV ne i a b => by rw [pk_un (ne i a b)]; exact hV i a b
      have ne : ∀ i, 18 ≤ i → i < 27 → i ≠ o := fun i a b z => by subst z; exact h4 (Int32.le_of_lt (hW _ a b))
      obtain ⟨e1, E1⟩ := ih (upd W o 10) _ (by omega) (lo_upd_tri (o := o) (v := 10) (Or.inr (by decide)) hS) (up W 10 hW ne)
      have hS2 : ∀ i, i < 27 → ¬ upd (upd W o 10) o 0 i ≤ 0 → ¬ 10 ≤ upd (upd W o 10) o 0 i → i ∈ S.filter (fun j => decide (j ≠ o)) := by
        have q := lo_upd_tri (W := W) (o := o) (v := 0) (Or.inl (by decide)) hS
        intro i hi
        have eq : upd (upd W o 10) o 0 i = upd W o 0 i := by
          by_cases e : i = o
          · rw [e, pk_us, pk_us]
          · rw [pk_un e, pk_un e, pk_un e]
        rw [eq]
        exact q i hi
      obtain ⟨e2, E2⟩ := ih (upd (upd W o 10) o 0) _ (by omega) hS2 (up _ 0 (up W 10 hW ne) ne)
      have E := lo_E_tri1 (by omega) h3 (by omega) E1 E2
      refine ⟨e2, ?_⟩
      intro d ro ao sh ex L f hd f1 f2 f3
      obtain ⟨k, g, hk, hg⟩ := E d ro ao sh ex L f hd f1 f2 f3
      have p : 0 < 2 ^ n := Nat.two_pow_pos _
      exact ⟨k, g, by rw [Nat.pow_succ]; omega, hg⟩
end
section
/-- the set of relations that evaluateAll starts from -/
def lo_sek (A : Nat → Int32) : Nat → Int32
  | 0 => 0
  | k + 1 => if A k < 0 then lo_sek A k else lo_sek A k ||| ((1 : Int32) <<< (nI k &&& 31))
theorem lo_evalCore {post : Int64 → St2 → Prop} {set e : Int32} {s : Int64} {K H : Nat} {ro ao dp : Int32} {sh : Int64} {ex : Int32} {L W A B : Nat → Int32} {a5 a6 a7 a8 a9 a10 a11 a12 : Nat → Int32} {a13 : Nat → Int64} {a14 : Nat → Int32} (hs : lo_sek A 4 = set) (hE : lo_E A B W set 63 K H s e) (hK : K ≤ 90000) (hH : H ≤ 48) (h : ∀ f : lo_F, wpX_power (fun r => post (s * r) (ro, ao, 0, s, e, L, W, A, B, f)) () (ro - e)) : wpX_evaluateAll post (ro, ao, dp, sh, ex, L, W, A, B, a5, a6, a7, a8, a9, a10, a11, a12, a13, a14) := by
  refine loop_0 (fun n i x => wX_evaluateAll_4 post ro ao dp sh ex L W A B a5 a6 a7 a8 a9 a10 a11 a12 a13 a14 n x (nI i)) (fun i x => x = lo_sek A i) 4 0 rfl
    (fun n x hx => pk_le 4 4 (fun _ => ?_) (fun z => absurd z (by omega)))
    (fun n i x hi hx hw => pk_le 4 i (fun z => absurd z (by omega)) (fun _ => ⟨pk_in i 4 hi, br_c (fun g => nm_r (nI_1 i) (hw _ (by rw [nI_clamp (by omega)] at g; rw [lo_sek, if_pos g, hx]))) (fun g => nm_e (nm_r (nI_1 i) (hw _ (by rw [nI_clamp (by omega)] at g; rw [lo_sek, if_neg g, hx]))))⟩))
  have hx' : x = set := hx.trans hs
  subst hx'
  refine lo_enter (d := 0) (by omega) ?_
  obtain ⟨k, g, hk, ga, R⟩ := hE 0 ro ao sh ex L (upd a5 0 0, upd a6 0 x, upd a7 0 63, a8, a9, a10, a11, a12, a13, a14) (by omega) (pk_us (f := a5) (k := 0) (x := 0)) (pk_us (f := a6) (k := 0) (x := x)) (pk_us (f := a7) (k := 0) (x := 63))
  obtain ⟨b5, b6, b7, b8, b9, b10, b11, b12, b13, b14⟩ := g
  have w : lo_W post 1 (nI (0 + k)) (ro, ao, nI 0, s, e, L, W, A, B, b5, b6, b7, b8, b9, b10, b11, b12, b13, b14) := by
    show wX_evaluateAll_44 post (0 + 1) (nI (0 + k)) ro ao (nI 0) s e L W A B b5 b6 b7 b8 b9 b10 b11 b12 b13 b14
    exact pk_le 100000 (0 + k) (fun z => absurd z (by omega)) (fun _ => br_t (by decide) (h (b5, b6, b7, b8, b9, b10, b11, b12, b13, b14)))
  exact ⟨1 + k, R post 1 0 (by omega) w⟩
theorem lo_evaluate {post : Int64 → St2 → Prop} {set : Int32} {s : Int64} {K H r e : Nat} {ao dp : Int32} {sh : Int64} {ex : Int32} {L W A B : Nat → Int32} {a5 a6 a7 a8 a9 a10 a11 a12 : Nat → Int32} {a13 : Nat → Int64} {a14 : Nat → Int32} (hs : lo_sek A 4 = set) (hE : lo_E A B W set 63 K H s (nI e)) (hK : K ≤ 90000) (hH : H ≤ 48) (her : e ≤ r) (hr : r ≤ 10) (h : ∀ f : lo_F, post (s * lN (10 ^ (r - e))) (nI r, ao, 0, s, nI e, L, W, A, B, f)) : wpX_evaluateAll post (nI r, ao, dp, sh, ex, L, W, A, B, a5, a6, a7, a8, a9, a10, a11, a12, a13, a14) := by
  refine lo_evalCore hs hE hK hH (fun f => ?_)
  rw [pk_sub her]
  exact lo_power (by omega) (h f)
theorem lo_evaluate0 {post : Int64 → St2 → Prop} {set e : Int32} {K H : Nat} {ro ao dp : Int32} {sh : Int64} {ex : Int32} {L W A B : Nat → Int32} {a5 a6 a7 a8 a9 a10 a11 a12 : Nat → Int32} {a13 : Nat → Int64} {a14 : Nat → Int32} (hs : lo_sek A 4 = set) (hE : lo_E A B W set 63 K H 0 e) (hK : K ≤ 90000) (hH : H ≤ 48) (h : ∀ f : lo_F, post 0 (ro, ao, 0, 0, e, L, W, A, B, f)) : wpX_evaluateAll post (ro, ao, dp, sh, ex, L, W, A, B, a5, a6, a7, a8, a9, a10, a11, a12, a13, a14) :=
  lo_evalCore hs hE hK hH (fun f => lo_power_any (fun v => by rw [Int64.zero_mul]; exact h f))
/-- takeListed -/
theorem lo_take {post : St2 → Prop} {ro ao dp : Int32} {sh : Int64} {ex : Int32} {L W A B : Nat → Int32} {a5 a6 a7 a8 a9 a10 a11 a12 : Nat → Int32} {a13 : Nat → Int64} {a14 : Nat → Int32} (h : ∀ V : Nat → Int32, (∀ i, i < 36 → V i = L i) → post (ro, ao, dp, sh, ex, L, V, A, B, a5, a6, a7, a8, a9, a10, a11, a12, a13, a14)) : wpX_takeListed post (ro, ao, dp, sh, ex, L, W, A, B, a5, a6, a7, a8, a9, a10, a11, a12, a13, a14) :=
  loop_0 (fun n i V => wX_takeListed_2 post ro ao dp sh ex n (nI i) L V A B a5 a6 a7 a8 a9 a10 a11 a12 a13 a14) (fun i V => ∀ j, j < i → V j = L j) 36 W (fun j hj => absurd hj (by omega))
    (fun n V hV => pk_le 36 36 (fun _ => h V hV) (fun z => absurd z (by omega)))
    (fun n i V hi hV hw => pk_le 36 i (fun z => absurd z (by omega)) (fun _ => ⟨pk_in i 36 hi, pk_in i 36 hi, nm_r (e' := upd V i (L i)) (by rw [nI_clamp (by omega)]) (nm_r (nI_1 i) (hw _ (fun j hj => by
      by_cases e : j = i
      · rw [e, pk_us]
      · rw [pk_un e]; exact hV j (by omega))))⟩))
/-- weight -/
theorem lo_weight {post : Int64 → St2 → Prop} {set : Int32} {v : Int64} {r : Nat} {ao dp : Int32} {sh : Int64} {ex : Int32} {L W A B : Nat → Int32} {a5 a6 a7 a8 a9 a10 a11 a12 : Nat → Int32} {a13 : Nat → Int64} {a14 : Nat → Int32} (hs : lo_sek A 4 = set) (hr : r ≤ 10) (hE : ∀ V : Nat → Int32, (∀ i, i < 36 → V i = L i) → ∃ s K H e, K ≤ 90000 ∧ H ≤ 48 ∧ e ≤ r ∧ s * lN (10 ^ (r - e)) = v ∧ lo_E A B V set 63 K H s (nI e))
    (h : ∀ (dp : Int32) (sh : Int64) (ex : Int32) (V : Nat → Int32) (f : lo_F), post v (nI r, ao, dp, sh, ex, L, V, A, B, f)) : wpX_weight post (nI r, ao, dp, sh, ex, L, W, A, B, a5, a6, a7, a8, a9, a10, a11, a12, a13, a14) := by
  refine lo_take (fun V hV => ?_)
  obtain ⟨s, K, H, e, hK, hH, he, hv, E⟩ := hE V hV
  refine lo_evaluate hs E hK hH he hr (fun f => ?_)
  subst hv
  exact h _ _ _ _ f
theorem lo_weight0 {post : Int64 → St2 → Prop} {set : Int32} {ro ao dp : Int32} {sh : Int64} {ex : Int32} {L W A B : Nat → Int32} {a5 a6 a7 a8 a9 a10 a11 a12 : Nat → Int32} {a13 : Nat → Int64} {a14 : Nat → Int32} (hs : lo_sek A 4 = set) (hE : ∀ V : Nat → Int32, (∀ i, i < 36 → V i = L i) → ∃ K H e, K ≤ 90000 ∧ H ≤ 48 ∧ lo_E A B V set 63 K H 0 e)
    (h : ∀ (dp : Int32) (sh : Int64) (ex : Int32) (V : Nat → Int32) (f : lo_F), post 0 (ro, ao, dp, sh, ex, L, V, A, B, f)) : wpX_weight post (ro, ao, dp, sh, ex, L, W, A, B, a5, a6, a7, a8, a9, a10, a11, a12, a13, a14) := by
  refine lo_take (fun V hV => ?_)
  obtain ⟨K, H, e, hK, hH, E⟩ := hE V hV
  exact lo_evaluate0 hs E hK hH (fun f => h _ _ _ _ f)
/-- isRow, isListed -/
theorem lo_isRow {post : Int32 → Prop} {x a b : Nat} (hx : x ≤ 3) (ha : a ≤ 2) (hb : b ≤ 2) (h : post 1) : wpX_isRow post () (nI x) (nI a) (nI b) :=
  br_f (nI_pos (by omega)) (br_f (nI_nlt (a := 3) (b := x) (by omega) (by omega)) (br_f (nI_pos (by omega)) (br_f (nI_nlt (a := 2) (b := a) (by omega) (by omega)) (br_f (nI_pos (by omega)) (br_f (nI_nlt (a := 2) (b := b) (by omega) (by omega)) h)))))
theorem lo_id (x a b : Nat) : 9 * nI x + 3 * nI a + nI b = nI (9 * x + 3 * a + b) := by
  show nI 9 * nI x + nI 3 * nI a + nI b = _
  rw [pk_mul, pk_mul, nI_add, nI_add]
theorem lo_isListed {post : Int32 → Prop} {ro ao dp : Int32} {sh : Int64} {ex : Int32} {L W A B : Nat → Int32} {a5 a6 a7 a8 a9 a10 a11 a12 : Nat → Int32} {a13 : Nat → Int64} {a14 : Nat → Int32} {x a b : Nat} (hx : x ≤ 3) (ha : a ≤ 2) (hb : b ≤ 2) (hL : ¬ L (9 * x + 3 * a + b) < 0) (h : post 1) : wpX_isListed post (ro, ao, dp, sh, ex, L, W, A, B, a5, a6, a7, a8, a9, a10, a11, a12, a13, a14) (nI x) (nI a) (nI b) := by
  unfold wpX_isListed
  dsimp only
  refine lo_isRow hx ha hb (br_f (by decide) ?_)
  rw [lo_id]
  exact ⟨pk_in (9 * x + 3 * a + b) 36 (by omega), br_f (by rw [nI_clamp (by omega)]; exact hL) h⟩
/-- weightWith, weightWithout -/
theorem lo_weightWith {post : Int64 → St2 → Prop} {set : Int32} {v : Int64} {r x a b : Nat} {ao dp : Int32} {sh : Int64} {ex : Int32} {L W A B : Nat → Int32} {a5 a6 a7 a8 a9 a10 a11 a12 : Nat → Int32} {a13 : Nat → Int64} {a14 : Nat → Int32} (hx : x ≤ 3) (ha : a ≤ 2) (hb : b ≤ 2) (hL : ¬ L (9 * x + 3 * a + b) < 0) (hs : lo_sek A 4 = set) (hr : r ≤ 10) (hE : ∀ V : Nat → Int32, (∀ i, i < 36 → V i = upd L (9 * x + 3 * a + b) 10 i) → ∃ s K H e, K ≤ 90000 ∧ H ≤ 48 ∧ e ≤ r ∧ s * lN (10 ^ (r - e)) = v ∧ lo_E A B V set 63 K H s (nI e))
    (h : ∀ (dp : Int32) (sh : Int64) (ex : Int32) (V : Nat → Int32) (f : lo_F), post (v / 10 * (L (9 * x + 3 * a + b)).toInt64) (nI r, ao, dp, sh, ex, L, V, A, B, f)) : wpX_weightWith post (nI r, ao, dp, sh, ex, L, W, A, B, a5, a6, a7, a8, a9, a10, a11, a12, a13, a14) (nI x) (nI a) (nI b) := by
  have c : (nI (9 * x + 3 * a + b)).toNatClampNeg = 9 * x + 3 * a + b := nI_clamp (by omega)
  have i : vp_in (nI (9 * x + 3 * a + b)) 36 := pk_in (9 * x + 3 * a + b) 36 (by omega)
  unfold wpX_weightWith
  dsimp only
  refine lo_isListed hx ha hb hL (br_f (by decide) (nm_r (lo_id x a b) (lo_take (fun V hV => ⟨i, nm_r (e' := upd V (9 * x + 3 * a + b) 10) (by rw [c]) ?_⟩))))
  obtain ⟨s, K, H, e, hK, hH, he, hv, E⟩ := hE (upd V (9 * x + 3 * a + b) 10) (fun j hj => by
    by_cases q : j = 9 * x + 3 * a + b
    · rw [q, pk_us, pk_us]
    · rw [pk_un q, pk_un q]; exact hV j hj)
  refine lo_evaluate hs E hK hH he hr (fun f => ⟨by decide, i, ?_⟩)
  rw [hv, c]
  exact h _ _ _ _ f
theorem lo_weightWithout {post : Int64 → St2 → Prop} {set : Int32} {v : Int64} {r x a b : Nat} {ao dp : Int32} {sh : Int64} {ex : Int32} {L W A B : Nat → Int32} {a5 a6 a7 a8 a9 a10 a11 a12 : Nat → Int32} {a13 : Nat → Int64} {a14 : Nat → Int32} (hx : x ≤ 3) (ha : a ≤ 2) (hb : b ≤ 2) (hL : ¬ L (9 * x + 3 * a + b) < 0) (hs : lo_sek A 4 = set) (hr : r ≤ 10) (hE : ∀ V : Nat → Int32, (∀ i, i < 36 → V i = upd L (9 * x + 3 * a + b) 0 i) → ∃ s K H e, K ≤ 90000 ∧ H ≤ 48 ∧ e ≤ r ∧ s * lN (10 ^ (r - e)) = v ∧ lo_E A B V set 63 K H s (nI e))
    (h : ∀ (dp : Int32) (sh : Int64) (ex : Int32) (V : Nat → Int32) (f : lo_F), post (v / 10 * (10 - L (9 * x + 3 * a + b)).toInt64) (nI r, ao, dp, sh, ex, L, V, A, B, f)) : wpX_weightWithout post (nI r, ao, dp, sh, ex, L, W, A, B, a5, a6, a7, a8, a9, a10, a11, a12, a13, a14) (nI x) (nI a) (nI b) := by
  have c : (nI (9 * x + 3 * a + b)).toNatClampNeg = 9 * x + 3 * a + b := nI_clamp (by omega)
  have i : vp_in (nI (9 * x + 3 * a + b)) 36 := pk_in (9 * x + 3 * a + b) 36 (by omega)
  unfold wpX_weightWithout
  dsimp only
  refine lo_isListed hx ha hb hL (br_f (by decide) (nm_r (lo_id x a b) (lo_take (fun V hV => ⟨i, nm_r (e' := upd V (9 * x + 3 * a + b) 0) (by rw [c]) ?_⟩))))
  obtain ⟨s, K, H, e, hK, hH, he, hv, E⟩ := hE (upd V (9 * x + 3 * a + b) 0) (fun j hj => by
    by_cases q : j = 9 * x + 3 * a + b
    · rw [q, pk_us, pk_us]
    · rw [pk_un q, pk_un q]; exact hV j hj)
  refine lo_evaluate hs E hK hH he hr (fun f => ⟨by decide, i, ?_⟩)
  rw [hv, c]
  exact h _ _ _ _ f
/-- worlds -/
def lo_wk (L : Nat → Int32) : Nat → Int64
  | 0 => 1
  | k + 1 => if L k < 0 then lo_wk L k * 1 else lo_wk L k * 5
theorem lo_worlds {post : Int32 → St2 → Prop} {set : Int32} {v c : Int64} {r : Nat} {ao dp : Int32} {sh : Int64} {ex : Int32} {L W A B : Nat → Int32} {a5 a6 a7 a8 a9 a10 a11 a12 : Nat → Int32} {a13 : Nat → Int64} {a14 : Nat → Int32} (hc : lo_wk L 36 = c) (hc0 : ¬ c = 0) (hset : lo_sek A 4 = set) (hr : r ≤ 10) (hE : ∀ V : Nat → Int32, (∀ i, i < 36 → V i = if L i < 0 then -1 else 5) → ∃ s K H e, K ≤ 90000 ∧ H ≤ 48 ∧ e ≤ r ∧ s * lN (10 ^ (r - e)) = v ∧ lo_E A B V set 63 K H s (nI e))
    (h : ∀ (dp : Int32) (sh : Int64) (ex : Int32) (V : Nat → Int32) (f : lo_F), post ((v / c).toInt32) (nI r, ao, dp, sh, ex, L, V, A, B, f)) : wpX_worlds post (nI r, ao, dp, sh, ex, L, W, A, B, a5, a6, a7, a8, a9, a10, a11, a12, a13, a14) := by
  have put : ∀ {V : Nat → Int32} {i : Nat} {y : Int32}, (∀ j, j < i → V j = if L j < 0 then -1 else 5) → (y = if L i < 0 then -1 else 5) → ∀ j, j < i + 1 → upd V i y j = if L j < 0 then -1 else 5 := by
    intro V i y hV hy j hj
    by_cases e : j = i
    · rw [e, pk_us, hy]
    · rw [pk_un e]; exact hV j (by omega)
  refine loop_0 (fun n i (s : Int64 × (Nat → Int32)) => wX_worlds_4 post (nI r) ao dp sh ex n s.1 (nI i) L s.2 A B a5 a6 a7 a8 a9 a10 a11 a12 a13 a14) (fun i s => s.1 = lo_wk L i ∧ ∀ j, j < i → s.2 j = if L j < 0 then -1 else 5) 36 (1, W) ⟨rfl, fun j hj => absurd hj (by omega)⟩
    (fun n s hs => pk_le 36 36 (fun _ => ?_) (fun z => absurd z (by omega)))
    (fun n i s hi hs hw => pk_le 36 i (fun z => absurd z (by omega)) (fun _ => ⟨pk_in i 36 hi, br_c (fun g => ⟨pk_in i 36 hi, nm_r (e' := upd s.2 i 5) (by rw [nI_clamp (by omega)]) ⟨pk_in i 36 hi, br_t g (nm_e (nm_r (nI_1 i) (hw (s.1 * 5, upd s.2 i 5) ?_)))⟩⟩) (fun g => ⟨pk_in i 36 hi, nm_r (e' := upd s.2 i (-1)) (by rw [nI_clamp (by omega)]) ⟨pk_in i 36 hi, br_f g (nm_e (nm_r (nI_1 i) (hw (s.1 * 1, upd s.2 i (-1)) ?_)))⟩⟩)⟩))
  · obtain ⟨h1, h2⟩ := hs
    obtain ⟨t, K, H, e, hK, hH, he, hv, E⟩ := hE s.2 h2
    refine lo_evaluate hset E hK hH he hr (fun f => ?_)
    have h1' : s.1 = c := h1.trans hc
    rw [h1']
    refine br_f hc0 ⟨hc0, ?_⟩
    rw [hv]
    exact h _ _ _ _ f
  · rw [nI_clamp (by omega)] at g
    have g' := Int32.not_lt.mpr g
    exact ⟨by show s.1 * 5 = _; rw [lo_wk, if_neg g', hs.1], put hs.2 (by rw [if_neg g'])⟩
  · rw [nI_clamp (by omega)] at g
    have g' := Int32.not_le.mp g
    exact ⟨by show s.1 * 1 = _; rw [lo_wk, if_pos g', hs.1], put hs.2 (by rw [if_pos g'])⟩
end
section
/-- clearQuery -/
theorem lo_cq {post : St2 → Prop} {n i : Nat} {ro ao dp : Int32} {sh : Int64} {ex : Int32} {L W A B : Nat → Int32} {a5 a6 a7 a8 a9 a10 a11 a12 : Nat → Int32} {a13 : Nat → Int64} {a14 : Nat → Int32} (hi : i < 4) (h : wX_clearQuery_2 post ro ao dp sh ex n (nI (i + 1)) L W (upd A i (-1)) (upd B i (-1)) a5 a6 a7 a8 a9 a10 a11 a12 a13 a14) : wX_clearQuery_2 post ro ao dp sh ex (n + 1) (nI i) L W A B a5 a6 a7 a8 a9 a10 a11 a12 a13 a14 :=
  pk_le 4 i (fun z => absurd z (by omega)) (fun _ => ⟨pk_in i 4 hi, nm_r (e' := upd A i (-1)) (by rw [nI_clamp (by omega)]) ⟨pk_in i 4 hi, nm_r (e' := upd B i (-1)) (by rw [nI_clamp (by omega)]) (nm_r (nI_1 i) h)⟩⟩)
theorem lo_clearQuery {post : St2 → Prop} {ro ao dp : Int32} {sh : Int64} {ex : Int32} {L W A B : Nat → Int32} {a5 a6 a7 a8 a9 a10 a11 a12 : Nat → Int32} {a13 : Nat → Int64} {a14 : Nat → Int32} (h : post (ro, 0, dp, sh, ex, L, W, upd (upd (upd (upd A 0 (-1)) 1 (-1)) 2 (-1)) 3 (-1), upd (upd (upd (upd B 0 (-1)) 1 (-1)) 2 (-1)) 3 (-1), a5, a6, a7, a8, a9, a10, a11, a12, a13, a14)) : wpX_clearQuery post (ro, ao, dp, sh, ex, L, W, A, B, a5, a6, a7, a8, a9, a10, a11, a12, a13, a14) :=
  ⟨5, lo_cq (i := 0) (by omega) (lo_cq (i := 1) (by omega) (lo_cq (i := 2) (by omega) (lo_cq (i := 3) (by omega) (pk_le 4 4 (fun _ => h) (fun z => absurd z (by omega))))))⟩
/-- the constructor -/
theorem lo_init {post : St2 → Prop} {mc ms : Nat} (h1 : 14 ≤ mc) (h2 : 560 ≤ ms) (h : ∀ (L W : Nat → Int32) (f : lo_F), (∀ i, i < 36 → L i = -1) → post (0, 0, 0, 0, 0, L, W, lo_A0, lo_A0, f)) : wpX_init post mc ms (0, 0, 0, 0, 0) := by
  refine ⟨by omega, by omega, by omega, by omega, by omega, by omega, by omega, by omega, by omega, by omega, by omega, by omega, by omega, by omega, by omega, by omega, by omega, by omega, by omega, by omega, by omega, by omega, by omega, by omega, by omega, by omega, by omega, by omega, ?_⟩
  exact loop_0 (fun n i L => wX_init_116 post mc ms 14 560 0 0 0 0 0 n (nI i) L (fun _ => 0) (fun _ => 0) (fun _ => 0) (fun _ => 0) (fun _ => 0) (fun _ => 0) (fun _ => 0) (fun _ => 0) (fun _ => 0) (fun _ => 0) (fun _ => 0) (fun _ => 0) (fun _ => 0)) (fun i L => ∀ j, j < i → L j = -1) 36 (fun _ => 0) (fun j hj => absurd hj (by omega))
    (fun n L hL => pk_le 36 36 (fun _ => lo_clearQuery (h L (fun _ => 0) (fun _ => 0, fun _ => 0, fun _ => 0, fun _ => 0, fun _ => 0, fun _ => 0, fun _ => 0, fun _ => 0, fun _ => 0, fun _ => 0) hL)) (fun z => absurd z (by omega)))
    (fun n i L hi hL hw => pk_le 36 i (fun z => absurd z (by omega)) (fun _ => ⟨pk_in i 36 hi, nm_r (e' := upd L i (-1)) (by rw [nI_clamp (by omega)]) (nm_r (nI_1 i) (hw _ (fun j hj => by
      by_cases e : j = i
      · rw [e, pk_us]
      · rw [pk_un e]; exact hL j (by omega))))⟩))
/-- row -/
theorem lo_row_new {post : Int32 → St2 → Prop} {r x a b w : Nat} {ao dp : Int32} {sh : Int64} {ex : Int32} {L W A B : Nat → Int32} {a5 a6 a7 a8 a9 a10 a11 a12 : Nat → Int32} {a13 : Nat → Int64} {a14 : Nat → Int32} (hx : x ≤ 3) (ha : a ≤ 2) (hb : b ≤ 2) (hw : w ≤ 10) (hr : r < 10) (hL : L (9 * x + 3 * a + b) < 0) (h : post (nI (r + 1)) (nI (r + 1), ao, dp, sh, ex, upd L (9 * x + 3 * a + b) (nI w), W, A, B, a5, a6, a7, a8, a9, a10, a11, a12, a13, a14)) : wpX_row post (nI r, ao, dp, sh, ex, L, W, A, B, a5, a6, a7, a8, a9, a10, a11, a12, a13, a14) (nI x) (nI a) (nI b) (nI w) := by
  have c : (nI (9 * x + 3 * a + b)).toNatClampNeg = 9 * x + 3 * a + b := nI_clamp (by omega)
  have i : vp_in (nI (9 * x + 3 * a + b)) 36 := pk_in (9 * x + 3 * a + b) 36 (by omega)
  unfold wpX_row
  dsimp only
  exact lo_isRow hx ha hb (br_f (by decide) (br_f (nI_pos (by omega)) (br_t (nI_le (a := w) (b := 10) hw (by omega)) (nm_r (lo_id x a b) ⟨i, br_f (by rw [c]; exact Int32.not_le.mpr hL) (br_t (nI_lt (a := r) (b := 10) hr (by omega)) (nm_r (nI_1 r) ⟨i, nm_r (by rw [c]) h⟩))⟩))))
theorem lo_row_old {post : Int32 → St2 → Prop} {r x a b w : Nat} {ao dp : Int32} {sh : Int64} {ex : Int32} {L W A B : Nat → Int32} {a5 a6 a7 a8 a9 a10 a11 a12 : Nat → Int32} {a13 : Nat → Int64} {a14 : Nat → Int32} (hx : x ≤ 3) (ha : a ≤ 2) (hb : b ≤ 2) (hw : w ≤ 10) (hL : ¬ L (9 * x + 3 * a + b) < 0) (h : post (nI r) (nI r, ao, dp, sh, ex, upd L (9 * x + 3 * a + b) (nI w), W, A, B, a5, a6, a7, a8, a9, a10, a11, a12, a13, a14)) : wpX_row post (nI r, ao, dp, sh, ex, L, W, A, B, a5, a6, a7, a8, a9, a10, a11, a12, a13, a14) (nI x) (nI a) (nI b) (nI w) := by
  have c : (nI (9 * x + 3 * a + b)).toNatClampNeg = 9 * x + 3 * a + b := nI_clamp (by omega)
  have i : vp_in (nI (9 * x + 3 * a + b)) 36 := pk_in (9 * x + 3 * a + b) 36 (by omega)
  unfold wpX_row
  dsimp only
  exact lo_isRow hx ha hb (br_f (by decide) (br_f (nI_pos (by omega)) (br_t (nI_le (a := w) (b := 10) hw (by omega)) (nm_r (lo_id x a b) ⟨i, br_t (by rw [c]; exact Int32.not_lt.mp hL) ⟨i, nm_r (by rw [c]) h⟩⟩))))
/-- atom -/
theorem lo_atom {post : Int32 → St2 → Prop} {m x a b : Nat} {ro dp : Int32} {sh : Int64} {ex : Int32} {L W A B : Nat → Int32} {a5 a6 a7 a8 a9 a10 a11 a12 : Nat → Int32} {a13 : Nat → Int64} {a14 : Nat → Int32} (hx : x ≤ 3) (ha : a ≤ 2) (hb : b ≤ 2) (hA : A x < 0) (h : post (nI (m + 1)) (ro, nI (m + 1), dp, sh, ex, L, W, upd A x (nI a), upd B x (nI b), a5, a6, a7, a8, a9, a10, a11, a12, a13, a14)) : wpX_atom post (ro, nI m, dp, sh, ex, L, W, A, B, a5, a6, a7, a8, a9, a10, a11, a12, a13, a14) (nI x) (nI a) (nI b) := by
  have c : (nI x).toNatClampNeg = x := nI_clamp (by omega)
  have i : vp_in (nI x) 4 := pk_in x 4 (by omega)
  unfold wpX_atom
  dsimp only
  exact lo_isRow hx ha hb (br_f (by decide) ⟨i, br_t (by rw [c]; exact hA) ⟨i, nm_r (by rw [c]) ⟨i, nm_r (by rw [c]) (nm_r (nI_1 m) h)⟩⟩⟩)
/-- nested: one pair of variables is fine -/
def lo_ok (A B : Nat → Int32) (x y : Nat) : Bool := decide ((lo_aw A B (nI x) &&& lo_aw A B (nI y)) = 0 ∨ (lo_aw A B (nI x) &&& lo_aw A B (nI y)) = lo_aw A B (nI x) ∨ (lo_aw A B (nI x) &&& lo_aw A B (nI y)) = lo_aw A B (nI y))
theorem lo_ne9 {post : Int32 → Prop} {J2 : Int32 → Prop} {n x y : Nat} {ro ao dp : Int32} {sh : Int64} {ex : Int32} {L W A B : Nat → Int32} {a5 a6 a7 a8 a9 a10 a11 a12 : Nat → Int32} {a13 : Nat → Int64} {a14 : Nat → Int32} (hy : y < x) (hx : x < 3) (hok : lo_ok A B x y = true) (h : wX_nested_9 post J2 (nI x) ro ao dp sh ex L W A B a5 a6 a7 a8 a9 a10 a11 a12 a13 a14 n (nI (y + 1))) : wX_nested_9 post J2 (nI x) ro ao dp sh ex L W A B a5 a6 a7 a8 a9 a10 a11 a12 a13 a14 (n + 1) (nI y) := by
  have ok := of_decide_eq_true hok
  exact pk_le x y (fun z => absurd z (by omega)) (fun _ => lo_atomsWith rfl (lo_atomsWith rfl (nm_e (br_c (fun _ => nm_r (nI_1 y) h) (fun g1 => br_c (fun _ => nm_r (nI_1 y) h) (fun g2 => br_c (fun _ => nm_r (nI_1 y) h) (fun g3 => absurd ok (fun z => z.elim g1 (fun z => z.elim g2 g3)))))))))
theorem lo_ne9x {post : Int32 → Prop} {J2 : Int32 → Prop} {n x : Nat} {ro ao dp : Int32} {sh : Int64} {ex : Int32} {L W A B : Nat → Int32} {a5 a6 a7 a8 a9 a10 a11 a12 : Nat → Int32} {a13 : Nat → Int64} {a14 : Nat → Int32} (hx : x < 3) (h : J2 (nI (x + 1))) : wX_nested_9 post J2 (nI x) ro ao dp sh ex L W A B a5 a6 a7 a8 a9 a10 a11 a12 a13 a14 (n + 1) (nI x) :=
  pk_le x x (fun _ => nm_r (nI_1 x) h) (fun z => absurd z (by omega))
theorem lo_nested1 {post : Int32 → Prop} {ro ao dp : Int32} {sh : Int64} {ex : Int32} {L W A B : Nat → Int32} {a5 a6 a7 a8 a9 a10 a11 a12 : Nat → Int32} {a13 : Nat → Int64} {a14 : Nat → Int32} (h10 : lo_ok A B 1 0 = true) (h20 : lo_ok A B 2 0 = true) (h21 : lo_ok A B 2 1 = true) (h : post 1) : wpX_nested post (ro, ao, dp, sh, ex, L, W, A, B, a5, a6, a7, a8, a9, a10, a11, a12, a13, a14) := by
  refine ⟨4, pk_le 3 0 (fun z => absurd z (by omega)) (fun _ => ⟨1, lo_ne9x (x := 0) (by omega) ?_⟩)⟩
  refine pk_le 3 1 (fun z => absurd z (by omega)) (fun _ => ⟨2, lo_ne9 (x := 1) (y := 0) (by omega) (by omega) h10 (lo_ne9x (x := 1) (by omega) ?_)⟩)
  refine pk_le 3 2 (fun z => absurd z (by omega)) (fun _ => ⟨3, lo_ne9 (x := 2) (y := 0) (by omega) (by omega) h20 (lo_ne9 (x := 2) (y := 1) (by omega) (by omega) h21 (lo_ne9x (x := 2) (by omega) ?_))⟩)
  exact pk_le 3 3 (fun _ => h) (fun z => absurd z (by omega))
theorem lo_nested0 {post : Int32 → Prop} {ro ao dp : Int32} {sh : Int64} {ex : Int32} {L W A B : Nat → Int32} {a5 a6 a7 a8 a9 a10 a11 a12 : Nat → Int32} {a13 : Nat → Int64} {a14 : Nat → Int32} (h10 : lo_ok A B 1 0 = false) (h : post 0) : wpX_nested post (ro, ao, dp, sh, ex, L, W, A, B, a5, a6, a7, a8, a9, a10, a11, a12, a13, a14) := by
  have ok := of_decide_eq_false h10
  refine ⟨4, pk_le 3 0 (fun z => absurd z (by omega)) (fun _ => ⟨1, lo_ne9x (x := 0) (by omega) ?_⟩)⟩
  refine pk_le 3 1 (fun z => absurd z (by omega)) (fun _ => ⟨1, ?_⟩)
  exact pk_le 1 0 (fun z => absurd z (by omega)) (fun _ => lo_atomsWith rfl (lo_atomsWith rfl (nm_e (br_f (fun z => ok (Or.inl z)) (br_f (fun z => ok (Or.inr (Or.inl z))) (br_f (fun z => ok (Or.inr (Or.inr z))) h))))))
end
section
theorem lo_h0 : ∀ k, k < 27 → 9 * nI 0 + 3 * lo_v (lo_fu k) (lo_A2 0) + lo_v (lo_fu k) (lo_B2 0) = nI (3 * (k % 3) + k / 3 % 3) := by decide +kernel
theorem lo_h1 : ∀ k, k < 27 → 9 * nI 1 + 3 * lo_v (lo_fu k) (lo_A2 1) + lo_v (lo_fu k) (lo_B2 1) = nI (9 + 3 * (k / 3 % 3) + k / 9) := by decide +kernel
theorem lo_bit3 : ∀ r, r < 4 → (((((3 : Int32).toUInt32 >>> ((nI r).toUInt32 &&& Int32.toUInt32 31)).toInt32) &&& 1) = 0 ↔ 2 ≤ r) := by decide +kernel
/-- the code k asks for a row that can't be there -/
def lo_bad (W : Nat → Int32) (k : Nat) : Prop := (W (3 * (k % 3) + k / 3 % 3) < 0 ∨ W (3 * (k % 3) + k / 3 % 3) = 11) ∨ (W (9 + 3 * (k / 3 % 3) + k / 9) < 0 ∨ W (9 + 3 * (k / 3 % 3) + k / 9) = 11)
theorem lo_wf129 {post : Int64 → Prop} {J : Int64 → Int32 → Prop} {x1 x4 z : Int32} {x2 : Int64} {i : Nat} {ro ao dp : Int32} {sh : Int64} {ex : Int32} {L W A B : Nat → Int32} {a5 a6 a7 a8 a9 a10 a11 a12 : Nat → Int32} {a13 : Nat → Int64} {a14 : Nat → Int32} (hi : i < 36) (hz : ¬ L i < 0 → ¬ z = 0) (h : J x2 (nI (i + 1))) : wX_weightFor_129 post J x1 x2 x4 (nI i) z ro ao dp sh ex L W A B a5 a6 a7 a8 a9 a10 a11 a12 a13 a14 := by
  refine ⟨pk_in i 36 hi, br_c (fun _ => nm_r (nI_1 i) h) (fun g => br_f (hz ?_) (nm_r (nI_1 i) h))⟩
  rw [nI_clamp (by omega)] at g
  exact g
theorem lo_wf88 {post : Int64 → Prop} {k : Nat} {P : Int64} {ro ao dp : Int32} {sh : Int64} {ex : Int32} {L W : Nat → Int32} {a5 a6 a7 a8 a9 a10 a11 a12 : Nat → Int32} {a13 : Nat → Int64} {a14 : Nat → Int32} (hk : k < 27) (hL : ∀ i, i < 36 → ¬ L i < 0 → i = 3 * (k % 3) + k / 3 % 3 ∨ i = 9 + 3 * (k / 3 % 3) + k / 9) (h : post P) : ∃ n, wX_weightFor_88 post (lo_fu k) 3 ro ao dp sh ex L W lo_A2 lo_B2 a5 a6 a7 a8 a9 a10 a11 a12 a13 a14 n P 0 := by
  refine loop_0 (fun n i s => wX_weightFor_88 post (lo_fu k) 3 ro ao dp sh ex L W lo_A2 lo_B2 a5 a6 a7 a8 a9 a10 a11 a12 a13 a14 n s (nI i)) (fun _ s => s = P) 36 P rfl
    (fun n s hs => pk_le 36 36 (fun _ => by rw [hs]; exact h) (fun z => absurd z (by omega)))
    (fun n i s hi hs hw => pk_le 36 i (fun z => absurd z (by omega)) (fun _ => ⟨by decide, nm_r (e' := nI (i / 9)) (pk_div (d := 9) (by omega) (by omega) (by omega)) ?_⟩))
  have r4 : i / 9 < 4 := by omega
  refine br_c (fun g => lo_wf129 hi (fun z => ?_) (hw s hs)) (fun g => ?_)
  · have := (lo_bit3 _ r4).mp g
    have := hL i hi z
    omega
  · have r2 : ¬ 2 ≤ i / 9 := fun z => g ((lo_bit3 _ r4).mpr z)
    by_cases r0 : i / 9 = 0
    · refine lo_groundRow (r := 0) (by rw [r0]) (by omega) (lo_h0 k hk) (br_c (fun _ => lo_wf129 hi (fun _ => by decide) (hw s hs)) (fun g2 => lo_wf129 hi (fun z => ?_) (hw s hs)))
      rcases hL i hi z with e | e
      · exact absurd (by rw [e]) g2
      · omega
    · have r1 : i / 9 = 1 := by omega
      refine lo_groundRow (r := 1) (by rw [r1]) (by omega) (lo_h1 k hk) (br_c (fun _ => lo_wf129 hi (fun _ => by decide) (hw s hs)) (fun g2 => lo_wf129 hi (fun z => ?_) (hw s hs)))
      rcases hL i hi z with e | e
      · omega
      · exact absurd (by rw [e]) g2
theorem lo_weightFor {post : Int64 → Prop} {k : Nat} {ro ao dp : Int32} {sh : Int64} {ex : Int32} {L W : Nat → Int32} {a5 a6 a7 a8 a9 a10 a11 a12 : Nat → Int32} {a13 : Nat → Int64} {a14 : Nat → Int32} (hk : k < 27) (hb : lo_bad W k → post (-1)) (hg : ¬ lo_bad W k → (∀ i, i < 36 → ¬ L i < 0 → i = 3 * (k % 3) + k / 3 % 3 ∨ i = 9 + 3 * (k / 3 % 3) + k / 9) ∧ post ((L (3 * (k % 3) + k / 3 % 3)).toInt64 * (L (9 + 3 * (k / 3 % 3) + k / 9)).toInt64)) : wpX_weightFor post (ro, ao, dp, sh, ex, L, W, lo_A2, lo_B2, a5, a6, a7, a8, a9, a10, a11, a12, a13, a14) (lo_fu k) := by
  have c0 : (nI (3 * (k % 3) + k / 3 % 3)).toNatClampNeg = 3 * (k % 3) + k / 3 % 3 := nI_clamp (by omega)
  have c1 : (nI (9 + 3 * (k / 3 % 3) + k / 9)).toNatClampNeg = 9 + 3 * (k / 3 % 3) + k / 9 := nI_clamp (by omega)
  have i0 : vp_in (nI (3 * (k % 3) + k / 3 % 3)) 36 := pk_in (3 * (k % 3) + k / 3 % 3) 36 (by omega)
  have i1 : vp_in (nI (9 + 3 * (k / 3 % 3) + k / 9)) 36 := pk_in (9 + 3 * (k / 3 % 3) + k / 9) 36 (by omega)
  refine ⟨5, pk_le 4 0 (fun z => absurd z (by omega)) (fun _ => ⟨pk_in 0 4 (by omega), br_f (by decide) (lo_groundRow (r := 0) rfl (by omega) (lo_h0 k hk) ⟨i0, ?_⟩)⟩)⟩
  rw [c0]
  refine br_c (fun g => hb (Or.inl (Or.inl g))) (fun g1 => ⟨i0, br_c (fun g => hb (Or.inl (Or.inr g))) (fun g2 => ⟨i0, nm_r (e' := (L (3 * (k % 3) + k / 3 % 3)).toInt64) (by rw [Int64.one_mul]) (nm_r (e' := 1) (by decide) (nm_r (nI_1 0) ?_))⟩)⟩)
  refine pk_le 4 1 (fun z => absurd z (by omega)) (fun _ => ⟨pk_in 1 4 (by omega), br_f (by decide) (lo_groundRow (r := 1) rfl (by omega) (lo_h1 k hk) ⟨i1, ?_⟩)⟩)
  rw [c1]
  refine br_c (fun g => hb (Or.inr (Or.inl g))) (fun g3 => ⟨i1, br_c (fun g => hb (Or.inr (Or.inr g))) (fun g4 => ⟨i1, nm_e (nm_r (e' := 3) (by decide) (nm_r (nI_1 1) ?_))⟩)⟩)
  refine pk_le 4 2 (fun z => absurd z (by omega)) (fun _ => ⟨pk_in 2 4 (by omega), br_t (by decide) (nm_r (nI_1 2) ?_)⟩)
  refine pk_le 4 3 (fun z => absurd z (by omega)) (fun _ => ⟨pk_in 3 4 (by omega), br_t (by decide) (nm_r (nI_1 3) ?_)⟩)
  obtain ⟨q1, q2⟩ := hg (fun z => z.elim (fun z => z.elim g1 g2) (fun z => z.elim g3 g4))
  exact pk_le 4 4 (fun _ => lo_wf88 hk q1 q2) (fun z => absurd z (by omega))
theorem lo_gwNone {post : Int64 → Prop} {ro ao dp : Int32} {sh : Int64} {ex : Int32} {L W : Nat → Int32} {a5 a6 a7 a8 a9 a10 a11 a12 : Nat → Int32} {a13 : Nat → Int64} {a14 : Nat → Int32} (hb : ∀ k, k < 27 → lo_bad W k) (h : post (-1)) : wpX_greatestWeight post (ro, ao, dp, sh, ex, L, W, lo_A2, lo_B2, a5, a6, a7, a8, a9, a10, a11, a12, a13, a14) :=
  loop_0 (fun n i s => wX_greatestWeight_6 post ro ao dp sh ex L W lo_A2 lo_B2 a5 a6 a7 a8 a9 a10 a11 a12 a13 a14 n s (nI i)) (fun _ s => s = -1) 27 (-1) rfl
    (fun n s hs => pk_le 27 27 (fun _ => by rw [hs]; exact h) (fun z => absurd z (by omega)))
    (fun n i s hi hs hw => pk_le 27 i (fun z => absurd z (by omega)) (fun _ => ⟨by decide, by decide, by decide, by decide, lo_weightFor (k := i) hi (fun _ => br_t (by rw [hs]; decide) (nm_r (nI_1 i) (hw s hs))) (fun z => absurd (hb i hi) z)⟩))
theorem lo_gwOne {post : Int64 → Prop} {k : Nat} {P : Int64} {ro ao dp : Int32} {sh : Int64} {ex : Int32} {L W : Nat → Int32} {a5 a6 a7 a8 a9 a10 a11 a12 : Nat → Int32} {a13 : Nat → Int64} {a14 : Nat → Int32} (hk : k < 27) (hb : ∀ j, j < 27 → j ≠ k → lo_bad W j) (hg : ¬ lo_bad W k) (hL : ∀ i, i < 36 → ¬ L i < 0 → i = 3 * (k % 3) + k / 3 % 3 ∨ i = 9 + 3 * (k / 3 % 3) + k / 9) (hP : (L (3 * (k % 3) + k / 3 % 3)).toInt64 * (L (9 + 3 * (k / 3 % 3) + k / 9)).toInt64 = P) (hP0 : ¬ P ≤ -1) (hP1 : -1 ≤ P) (h : post P) : wpX_greatestWeight post (ro, ao, dp, sh, ex, L, W, lo_A2, lo_B2, a5, a6, a7, a8, a9, a10, a11, a12, a13, a14) := by
  refine loop_0 (fun n i s => wX_greatestWeight_6 post ro ao dp sh ex L W lo_A2 lo_B2 a5 a6 a7 a8 a9 a10 a11 a12 a13 a14 n s (nI i)) (fun i s => s = if k < i then P else -1) 27 (-1) (by rw [if_neg (by omega)])
    (fun n s hs => pk_le 27 27 (fun _ => by rw [hs, if_pos hk]; exact h) (fun z => absurd z (by omega)))
    (fun n i s hi hs hw => pk_le 27 i (fun z => absurd z (by omega)) (fun _ => ⟨by decide, by decide, by decide, by decide, lo_weightFor (k := i) hi (fun g => ?_) (fun g => ?_)⟩))
  · have ne : i ≠ k := fun z => hg (z ▸ g)
    refine br_t ?_ (nm_r (nI_1 i) (hw s ?_))
    · rw [hs]
      by_cases c : k < i
      · rw [if_pos c]; exact hP1
      · rw [if_neg c]; decide
    · rw [hs]
      by_cases c : k < i
      · rw [if_pos c, if_pos (by omega)]
      · rw [if_neg c, if_neg (by omega)]
  · have e : i = k := by
      by_cases z : i = k
      · exact z
      · exact absurd (hb i hi z) g
    subst e
    refine ⟨hL, ?_⟩
    rw [hP]
    refine br_f ?_ (nm_r (nI_1 i) (hw P ?_))
    · rw [hs, if_neg (by omega)]; exact hP0
    · rw [if_pos (by omega)]
/-- heaviest of nothing -/
theorem lo_heavy0 {post : Int32 → St2 → Prop} {ro ao dp : Int32} {sh : Int64} {ex : Int32} {L W : Nat → Int32} {a5 a6 a7 a8 a9 a10 a11 a12 : Nat → Int32} {a13 : Nat → Int64} {a14 : Nat → Int32} (hL : ∀ i, i < 36 → L i = -1) (h : ∀ V : Nat → Int32, post (-1) (ro, ao, dp, sh, ex, L, V, lo_A2, lo_B2, a5, a6, a7, a8, a9, a10, a11, a12, a13, a14)) : wpX_heaviest post (ro, ao, dp, sh, ex, L, W, lo_A2, lo_B2, a5, a6, a7, a8, a9, a10, a11, a12, a13, a14) := by
  unfold wpX_heaviest
  dsimp only
  refine lo_take (fun V hV => ?_)
  dsimp only
  refine lo_gwNone (fun k hk => Or.inl (Or.inl ?_)) (br_f (by decide) (h V))
  rw [hV _ (by omega), hL _ (by omega)]
  decide
/-- heaviest of two rows that are both asked for -/
theorem lo_heavy2 {post : Int32 → St2 → Prop} {a b c p q : Nat} {ao dp : Int32} {sh : Int64} {ex : Int32} {L W : Nat → Int32} {a5 a6 a7 a8 a9 a10 a11 a12 : Nat → Int32} {a13 : Nat → Int64} {a14 : Nat → Int32} (ha : a ≤ 2) (hb : b ≤ 2) (hc : c ≤ 2) (hp : p ≤ 10) (hq : q ≤ 10) (h0 : L (3 * a + b) = nI p) (h1 : L (9 + 3 * b + c) = nI q) (hL : ∀ i, i < 36 → i ≠ 3 * a + b → i ≠ 9 + 3 * b + c → L i = -1)
    (h : ∀ V : Nat → Int32, post 3 (nI 2, ao, dp, sh, ex, L, V, lo_A2, lo_B2, a5, a6, a7, a8, a9, a10, a11, a12, a13, a14)) : wpX_heaviest post (nI 2, ao, dp, sh, ex, L, W, lo_A2, lo_B2, a5, a6, a7, a8, a9, a10, a11, a12, a13, a14) := by
  have neg : ∀ i, i < 36 → i ≠ 3 * a + b → i ≠ 9 + 3 * b + c → L i < 0 := fun i x y z => by rw [hL i x y z]; decide
  have p0 : ¬ L (3 * a + b) < 0 := by rw [h0]; exact nI_pos (by omega)
  have q0 : ¬ L (9 + 3 * b + c) < 0 := by rw [h1]; exact nI_pos (by omega)
  have p11 : ¬ L (3 * a + b) = 11 := by rw [h0]; intro z; have := (nI_eq (a := p) (b := 11) (by omega) (by omega)).mp z; omega
  have q11 : ¬ L (9 + 3 * b + c) = 11 := by rw [h1]; intro z; have := (nI_eq (a := q) (b := 11) (by omega) (by omega)).mp z; omega
  have hpq : p * q < 2 ^ 31 := Nat.lt_of_le_of_lt (Nat.mul_le_mul hp hq) (by decide)
  have top : (L (3 * a + b)).toInt64 * (L (9 + 3 * b + c)).toInt64 = lN (p * q) := by rw [h0, h1, nI_l (by omega), nI_l (by omega), lN_mul]
  have tp : 0 ≤ (lN (p * q)).toInt := by rw [lN_toInt hpq]; omega
  have t1 : ¬ lN (p * q) ≤ -1 := by rw [Int64.le_iff_toInt_le, show (-1 : Int64).toInt = -1 from rfl]; omega
  have t2 : -1 ≤ lN (p * q) := by rw [Int64.le_iff_toInt_le, show (-1 : Int64).toInt = -1 from rfl]; omega
  have t3 : 0 ≤ lN (p * q) := by rw [Int64.le_iff_toInt_le, show (0 : Int64).toInt = 0 from rfl]; omega
  have t4 : ¬ (-1 : Int64) = lN (p * q) := fun z => t1 (by rw [← z]; decide)
  unfold wpX_heaviest
  dsimp only
  refine lo_take (fun V hV => ?_)
  dsimp only
  refine lo_gwOne (k := a + 3 * b + 9 * c) (P := lN (p * q)) (by omega) (fun j hj ne => ?_) ?_ (fun i hi g => ?_) ?_ t1 t2 (br_t t3 ?_)
  · by_cases e : 3 * (j % 3) + j / 3 % 3 = 3 * a + b
    · have ea : j % 3 = a := by omega
      have eb : j / 3 % 3 = b := by omega
      have ec : j / 9 ≠ c := fun z => ne (by omega)
      have : 9 + 3 * (j / 3 % 3) + j / 9 ≠ 9 + 3 * b + c := by omega
      exact Or.inr (Or.inl (by rw [hV _ (by omega)]; exact neg _ (by omega) (by omega) this))
    · exact Or.inl (Or.inl (by rw [hV _ (by omega)]; exact neg _ (by omega) e (by omega)))
  · unfold lo_bad
    rw [show 3 * ((a + 3 * b + 9 * c) % 3) + (a + 3 * b + 9 * c) / 3 % 3 = 3 * a + b by omega, show 9 + 3 * ((a + 3 * b + 9 * c) / 3 % 3) + (a + 3 * b + 9 * c) / 9 = 9 + 3 * b + c by omega, hV _ (by omega), hV _ (by omega)]
    exact fun z => z.elim (fun z => z.elim p0 p11) (fun z => z.elim q0 q11)
  · rw [show 3 * ((a + 3 * b + 9 * c) % 3) + (a + 3 * b + 9 * c) / 3 % 3 = 3 * a + b by omega, show 9 + 3 * ((a + 3 * b + 9 * c) / 3 % 3) + (a + 3 * b + 9 * c) / 9 = 9 + 3 * b + c by omega]
    by_cases e : i = 3 * a + b
    · exact Or.inl e
    · by_cases e2 : i = 9 + 3 * b + c
      · exact Or.inr e2
      · exact absurd (neg i hi e e2) g
  · rw [show 3 * ((a + 3 * b + 9 * c) % 3) + (a + 3 * b + 9 * c) / 3 % 3 = 3 * a + b by omega, show 9 + 3 * ((a + 3 * b + 9 * c) / 3 % 3) + (a + 3 * b + 9 * c) / 9 = 9 + 3 * b + c by omega]
    exact top
  · refine ⟨37, pk_loopD (fun n i (s : Int32 × Int32 × (Nat → Int32)) => wX_heaviest_29 post (lN (p * q)) (nI 2) ao dp sh ex n s.1 s.2.1 (nI i + (-1)) L s.2.2 lo_A2 lo_B2 a5 a6 a7 a8 a9 a10 a11 a12 a13 a14)
      (fun i s => i ≤ 36 ∧ ((9 + 3 * b + c < i ∧ s.1 = 0 ∧ s.2.1 = nI 2 ∧ ∀ j, j < 36 → s.2.2 j = L j) ∨ (3 * a + b < i ∧ i ≤ 9 + 3 * b + c ∧ s.1 = 2 ∧ s.2.1 = nI 1 ∧ ∀ j, j < 9 → s.2.2 j = L j) ∨ (i ≤ 3 * a + b ∧ s.1 = 3))) ?_ ?_ 36 (0, nI 2, V) ⟨by omega, Or.inl ⟨by omega, rfl, rfl, hV⟩⟩⟩
    · intro n s hs
      refine br_t (by decide) ?_
      rcases hs.2 with z | z | z
      · omega
      · omega
      · rw [z.2]; exact h _
    · intro n i s hs hw
      rw [pk_m1]
      have i36 : i < 36 := by omega
      have ci : (nI i).toNatClampNeg = i := nI_clamp (by omega)
      refine br_f (nI_pos (by omega)) ⟨pk_in i 36 i36, ?_⟩
      rw [ci]
      by_cases e1 : i = 9 + 3 * b + c
      · obtain ⟨_, z | z | z⟩ := hs
        · obtain ⟨_, y1, y2, y3⟩ := z
          refine br_f (by rw [e1]; exact q0) (nm_r (e' := nI 1) (by rw [y2]; rfl) ⟨pk_in i 36 i36, nm_e (lo_gwNone (fun k hk => ?_) (br_f t4 ⟨pk_in i 36 i36, nm_e (nm_r (e' := 2) (by rw [y1]; decide) (nm_e (hw (2, nI 1, _) ⟨by omega, Or.inr (Or.inl ⟨by omega, by omega, rfl, rfl, fun j hj => ?_⟩)⟩)))⟩))⟩)
          · by_cases e : 9 + 3 * (k / 3 % 3) + k / 9 = i
            · exact Or.inr (Or.inr (by rw [e]; exact pk_us))
            · exact Or.inr (Or.inl (by rw [pk_un e, y3 _ (by omega)]; exact neg _ (by omega) (by omega) (by omega)))
          · show upd (upd s.2.2 i 11) i 12 j = L j
            rw [pk_un (by omega), pk_un (by omega)]
            exact y3 j (by omega)
        · omega
        · omega
      · by_cases e0 : i = 3 * a + b
        · obtain ⟨_, z | z | z⟩ := hs
          · omega
          · obtain ⟨_, _, y1, y2, y3⟩ := z
            refine br_f (by rw [e0]; exact p0) (nm_r (e' := nI 0) (by rw [y2]; rfl) ⟨pk_in i 36 i36, nm_e (lo_gwNone (fun k hk => ?_) (br_f t4 ⟨pk_in i 36 i36, nm_e (nm_r (e' := 3) (by rw [y1]; decide) (nm_e (hw (3, nI 0, _) ⟨by omega, Or.inr (Or.inr ⟨by omega, rfl⟩)⟩)))⟩))⟩)
            by_cases e : 3 * (k % 3) + k / 3 % 3 = i
            · exact Or.inl (Or.inr (by rw [e]; exact pk_us))
            · exact Or.inl (Or.inl (by rw [pk_un e, y3 _ (by omega)]; exact neg _ (by omega) (by omega) (by omega)))
          · omega
        · refine br_t (neg i i36 e0 e1) (nm_e (hw s ⟨by omega, ?_⟩))
          rcases hs.2 with z | z | z
          · exact Or.inl ⟨by omega, z.2⟩
          · exact Or.inr (Or.inl ⟨by omega, by omega, z.2.2⟩)
          · exact Or.inr (Or.inr ⟨by omega, z.2⟩)
end
section
/-- what the chain query does at each of its frames -/
theorem lo_k3 : lo_co lo_A2 lo_B2 3 63 = 3 ∧ lo_gr lo_A2 lo_B2 3 63 = 0 ∧ lo_cv lo_A2 lo_B2 3 63 = nI 1 ∧ (63 : Int32) &&& (((3 : Int32) <<< ((2 * nI 1) &&& 31)) ^^^ (-1)) = lo_pv 63 1 0 := by decide +kernel
theorem lo_k2 : ∀ t, t < 3 → lo_co lo_A2 lo_B2 3 (lo_pv 63 1 t) = 1 ∧ lo_co lo_A2 lo_B2 2 (lo_pv 63 1 t) = 2 := by decide +kernel
theorem lo_k1 : ∀ t, t < 3 → lo_co lo_A2 lo_B2 1 (lo_pv 63 1 t) = 1 ∧ lo_gr lo_A2 lo_B2 1 (lo_pv 63 1 t) = 0 ∧ lo_cv lo_A2 lo_B2 1 (lo_pv 63 1 t) = nI 0 ∧ lo_pv 63 1 t &&& (((3 : Int32) <<< ((2 * nI 0) &&& 31)) ^^^ (-1)) = lo_pv (lo_pv 63 1 t) 0 0 := by decide +kernel
theorem lo_k1' : ∀ t, t < 3 → lo_co lo_A2 lo_B2 2 (lo_pv 63 1 t) = 2 ∧ lo_gr lo_A2 lo_B2 2 (lo_pv 63 1 t) = 0 ∧ lo_cv lo_A2 lo_B2 2 (lo_pv 63 1 t) = nI 2 ∧ lo_pv 63 1 t &&& (((3 : Int32) <<< ((2 * nI 2) &&& 31)) ^^^ (-1)) = lo_pv (lo_pv 63 1 t) 2 0 := by decide +kernel
theorem lo_k0 : ∀ t, t < 3 → ∀ u, u < 3 → lo_co lo_A2 lo_B2 1 (lo_pv (lo_pv 63 1 t) 0 u) = 1 ∧ lo_gr lo_A2 lo_B2 1 (lo_pv (lo_pv 63 1 t) 0 u) = 1 ∧ 9 * nI 0 + 3 * lo_v (lo_pv (lo_pv 63 1 t) 0 u) (lo_A2 0) + lo_v (lo_pv (lo_pv 63 1 t) 0 u) (lo_B2 0) = nI (3 * u + t) := by decide +kernel
theorem lo_k0' : ∀ t, t < 3 → ∀ u, u < 3 → lo_co lo_A2 lo_B2 2 (lo_pv (lo_pv 63 1 t) 2 u) = 2 ∧ lo_gr lo_A2 lo_B2 2 (lo_pv (lo_pv 63 1 t) 2 u) = 1 ∧ 9 * nI 1 + 3 * lo_v (lo_pv (lo_pv 63 1 t) 2 u) (lo_A2 1) + lo_v (lo_pv (lo_pv 63 1 t) 2 u) (lo_B2 1) = nI (9 + 3 * t + u) := by decide +kernel
theorem lo_E_g1 {W : Nat → Int32} {t u : Nat} (ht : t < 3) (hu : u < 3) : lo_E lo_A2 lo_B2 W 1 (lo_pv (lo_pv 63 1 t) 0 u) 1 1 (lo_gs (W (3 * u + t))) (nI (lo_en (W (3 * u + t)))) :=
  lo_E_ground (r := 0) (by decide) (lo_k0 t ht u hu).1 (lo_k0 t ht u hu).2.1 (by decide) (by omega) (lo_k0 t ht u hu).2.2 (by omega)
theorem lo_E_g2 {W : Nat → Int32} {t u : Nat} (ht : t < 3) (hu : u < 3) : lo_E lo_A2 lo_B2 W 2 (lo_pv (lo_pv 63 1 t) 2 u) 1 1 (lo_gs (W (9 + 3 * t + u))) (nI (lo_en (W (9 + 3 * t + u)))) :=
  lo_E_ground (r := 1) (by decide) (lo_k0' t ht u hu).1 (lo_k0' t ht u hu).2.1 (by decide) (by omega) (lo_k0' t ht u hu).2.2 (by omega)
/-- three rows under one projection -/
def lo_pe (w0 w1 w2 : Int32) : Nat := lo_en w0 + lo_en w1 + lo_en w2
def lo_ps (w0 w1 w2 : Int32) : Int64 := lN (10 ^ lo_pe w0 w1 w2) - (lN (10 ^ lo_en w0) - lo_gs w0) * (lN (10 ^ lo_en w1) - lo_gs w1) * (lN (10 ^ lo_en w2) - lo_gs w2)
theorem lo_en1 (w : Int32) : lo_en w ≤ 1 := by unfold lo_en; split <;> omega
theorem lo_pe3 (w0 w1 w2 : Int32) : lo_pe w0 w1 w2 ≤ 3 := by
  have := lo_en1 w0
  have := lo_en1 w1
  have := lo_en1 w2
  unfold lo_pe
  omega
theorem lo_E_p1 {W : Nat → Int32} {t : Nat} (ht : t < 3) : lo_E lo_A2 lo_B2 W 1 (lo_pv 63 1 t) 7 2 (lo_ps (W t) (W (3 + t)) (W (6 + t))) (nI (lo_pe (W t) (W (3 + t)) (W (6 + t)))) := by
  obtain ⟨c1, c2, c3, c4⟩ := lo_k1 t ht
  have E0 := lo_E_g1 (W := W) (t := t) (u := 0) ht (by omega)
  rw [show 3 * 0 + t = t by omega] at E0
  exact lo_E_proj (by decide) c1 c2 c3 (by omega) c4 (by omega) (Nat.le_trans (lo_pe3 _ _ _) (by omega)) E0 (lo_E_g1 ht (by omega)) (lo_E_g1 ht (by omega))
theorem lo_E_p2 {W : Nat → Int32} {t : Nat} (ht : t < 3) : lo_E lo_A2 lo_B2 W 2 (lo_pv 63 1 t) 7 2 (lo_ps (W (9 + 3 * t)) (W (9 + 3 * t + 1)) (W (9 + 3 * t + 2))) (nI (lo_pe (W (9 + 3 * t)) (W (9 + 3 * t + 1)) (W (9 + 3 * t + 2)))) := by
  obtain ⟨c1, c2, c3, c4⟩ := lo_k1' t ht
  exact lo_E_proj (by decide) c1 c2 c3 (by omega) c4 (by omega) (Nat.le_trans (lo_pe3 _ _ _) (by omega)) (lo_E_g2 (u := 0) ht (by omega)) (lo_E_g2 ht (by omega)) (lo_E_g2 ht (by omega))
/-- the two parts under one value of the middle variable -/
def lo_me (W : Nat → Int32) (t : Nat) : Nat := lo_pe (W t) (W (3 + t)) (W (6 + t)) + lo_pe (W (9 + 3 * t)) (W (9 + 3 * t + 1)) (W (9 + 3 * t + 2))
def lo_ms (W : Nat → Int32) (t : Nat) : Int64 := lo_ps (W t) (W (3 + t)) (W (6 + t)) * lo_ps (W (9 + 3 * t)) (W (9 + 3 * t + 1)) (W (9 + 3 * t + 2))
theorem lo_E_m {W : Nat → Int32} {t : Nat} (ht : t < 3) : lo_E lo_A2 lo_B2 W 3 (lo_pv 63 1 t) 17 3 (lo_ms W t) (nI (lo_me W t)) :=
  lo_E_prod (part := 1) (rest := 2) (by decide) (lo_k2 t ht).1 (by decide) (by decide) (by decide) (lo_k2 t ht).2 (by decide) (by omega) (lo_E_p1 ht) (lo_E_p2 ht)
def lo_te (W : Nat → Int32) : Nat := lo_me W 0 + lo_me W 1 + lo_me W 2
def lo_ts (W : Nat → Int32) : Int64 := lN (10 ^ lo_te W) - (lN (10 ^ lo_me W 0) - lo_ms W 0) * (lN (10 ^ lo_me W 1) - lo_ms W 1) * (lN (10 ^ lo_me W 2) - lo_ms W 2)
theorem lo_E_chain {W : Nat → Int32} (h : lo_te W ≤ 10) : lo_E lo_A2 lo_B2 W 3 63 55 4 (lo_ts W) (nI (lo_te W)) :=
  lo_E_proj (x := 1) (by decide) lo_k3.1 lo_k3.2.1 lo_k3.2.2.1 (by omega) lo_k3.2.2.2 (by omega) h (lo_E_m (by omega)) (lo_E_m (by omega)) (lo_E_m (by omega))
end
section
/-- the listed rows: (0; a, b) p, (1; b, c) q, (1; d, e) r -/
def lo_T (a b c d e : Nat) (p q r : Int32) (i : Nat) : Int32 := if i = 9 + 3 * d + e then r else if i = 9 + 3 * b + c then q else if i = 3 * a + b then p else -1
theorem lo_T_lo {a b c d e t u : Nat} {p q r : Int32} (ha : a ≤ 2) (hb : b ≤ 2) (ht : t < 3) (hu : u < 3) : lo_T a b c d e p q r (3 * u + t) = if u = a ∧ t = b then p else -1 := by
  unfold lo_T
  rw [if_neg (by omega), if_neg (by omega)]
  by_cases h : u = a ∧ t = b
  · rw [if_pos h, if_pos (by omega)]
  · rw [if_neg h, if_neg (by omega)]
theorem lo_T_hi {a b c d e t u : Nat} {p q r : Int32} (ha : a ≤ 2) (hb : b ≤ 2) (hc : c ≤ 2) (hd : d ≤ 2) (he : e ≤ 2) (ht : t < 3) (hu : u < 3) : lo_T a b c d e p q r (9 + 3 * t + u) = if t = d ∧ u = e then r else if t = b ∧ u = c then q else -1 := by
  unfold lo_T
  by_cases h : t = d ∧ u = e
  · rw [if_pos h, if_pos (by omega)]
  · rw [if_neg h, if_neg (by omega)]
    by_cases h : t = b ∧ u = c
    · rw [if_pos h, if_pos (by omega)]
    · rw [if_neg h, if_neg (by omega), if_neg (by omega)]
theorem lo_p0 : lo_ps (-1) (-1) (-1) = 0 ∧ lo_pe (-1) (-1) (-1) = 0 := by decide +kernel
theorem lo_p1 : ∀ p, p < 11 → ∀ u, u < 3 → lo_ps (if 0 = u then nI p else -1) (if 1 = u then nI p else -1) (if 2 = u then nI p else -1) = lN p ∧ lo_pe (if 0 = u then nI p else -1) (if 1 = u then nI p else -1) (if 2 = u then nI p else -1) = 1 := by decide +kernel
/-- two rows under one projection -/
def lo_two (q r u v k : Nat) : Int32 := if k = v then nI r else if k = u then nI q else -1
theorem lo_p2 : ∀ q, q < 11 → ∀ r, r < 11 → ∀ u, u < 3 → ∀ v, v < 3 → v = u ∨ (lo_ps (lo_two q r u v 0) (lo_two q r u v 1) (lo_two q r u v 2) = lN (100 - (10 - q) * (10 - r)) ∧ lo_pe (lo_two q r u v 0) (lo_two q r u v 1) (lo_two q r u v 2) = 2) := by decide +kernel
theorem lo_colX {W : Nat → Int32} {a b c d e p q r t : Nat} (ha : a ≤ 2) (hb : b ≤ 2) (hp : p ≤ 10) (hW : ∀ i, i < 36 → W i = lo_T a b c d e (nI p) (nI q) (nI r) i) (ht : t < 3) : lo_ps (W t) (W (3 + t)) (W (6 + t)) = (if t = b then lN p else 0) ∧ lo_pe (W t) (W (3 + t)) (W (6 + t)) = if t = b then 1 else 0 := by
  have f0 : W t = if 0 = a ∧ t = b then nI p else -1 := by
    rw [hW _ (by omega), show t = 3 * 0 + t by omega, lo_T_lo ha hb ht (by omega)]
    rw [show 3 * 0 + t = t by omega]
  have f1 : W (3 + t) = if 1 = a ∧ t = b then nI p else -1 := by rw [hW _ (by omega), show 3 + t = 3 * 1 + t by omega, lo_T_lo ha hb ht (by omega)]
  have f2 : W (6 + t) = if 2 = a ∧ t = b then nI p else -1 := by rw [hW _ (by omega), show 6 + t = 3 * 2 + t by omega, lo_T_lo ha hb ht (by omega)]
  rw [f0, f1, f2]
  by_cases h : t = b
  · simp only [h, and_true, if_true]
    exact lo_p1 p (by omega) a (by omega)
  · simp only [h, and_false, if_false]
    exact lo_p0
/-- the second relation's rows under t: share and exponent -/
def lo_ys (b c d e q r t : Nat) : Int64 := if t = d then (if t = b ∧ e ≠ c then lN (100 - (10 - q) * (10 - r)) else lN r) else if t = b then lN q else 0
def lo_ye (b c d e t : Nat) : Nat := if t = d then (if t = b ∧ e ≠ c then 2 else 1) else if t = b then 1 else 0
theorem lo_colY {W : Nat → Int32} {a b c d e p q r t : Nat} (ha : a ≤ 2) (hb : b ≤ 2) (hc : c ≤ 2) (hd : d ≤ 2) (he : e ≤ 2) (hq : q ≤ 10) (hr : r ≤ 10) (hW : ∀ i, i < 36 → W i = lo_T a b c d e (nI p) (nI q) (nI r) i) (ht : t < 3) : lo_ps (W (9 + 3 * t)) (W (9 + 3 * t + 1)) (W (9 + 3 * t + 2)) = lo_ys b c d e q r t ∧ lo_pe (W (9 + 3 * t)) (W (9 + 3 * t + 1)) (W (9 + 3 * t + 2)) = lo_ye b c d e t := by
  have f0 : W (9 + 3 * t) = if t = d ∧ 0 = e then nI r else if t = b ∧ 0 = c then nI q else -1 := by
    rw [hW _ (by omega)]
    exact lo_T_hi (u := 0) ha hb hc hd he ht (by omega)
  have f1 : W (9 + 3 * t + 1) = if t = d ∧ 1 = e then nI r else if t = b ∧ 1 = c then nI q else -1 := by
    rw [hW _ (by omega)]
    exact lo_T_hi (u := 1) ha hb hc hd he ht (by omega)
  have f2 : W (9 + 3 * t + 2) = if t = d ∧ 2 = e then nI r else if t = b ∧ 2 = c then nI q else -1 := by
    rw [hW _ (by omega)]
    exact lo_T_hi (u := 2) ha hb hc hd he ht (by omega)
  rw [f0, f1, f2]
  unfold lo_ys lo_ye
  by_cases h : t = d
  · by_cases h2 : t = b
    · by_cases h3 : e = c
      · have z : ¬ (t = b ∧ e ≠ c) := fun z => z.2 h3
        rw [if_pos h, if_pos h, if_neg z, if_neg z]
        subst h3
        simp only [h, h2, true_and]
        have q0 := lo_p1 r (by omega) e (by omega)
        have s : ∀ k : Nat, (if k = e then nI r else if k = e then nI q else (-1 : Int32)) = if k = e then nI r else -1 := fun k => by
          by_cases g : k = e
          · rw [if_pos g, if_pos g]
          · rw [if_neg g, if_neg g, if_neg g]
        have hdb : d = b := by omega
        simp only [hdb, true_and, s]
        exact q0
      · have z : t = b ∧ e ≠ c := ⟨h2, h3⟩
        rw [if_pos h, if_pos h, if_pos z, if_pos z]
        have q0 := (lo_p2 q (by omega) r (by omega) c (by omega) e (by omega)).resolve_left h3
        have hdb : b = d := by omega
        simp only [h, hdb, true_and]
        exact q0
    · have z : ¬ (t = b ∧ e ≠ c) := fun z => h2 z.1
      rw [if_pos h, if_pos h, if_neg z, if_neg z]
      have q0 := lo_p1 r (by omega) e (by omega)
      simp only [h2, false_and, if_false]
      simp only [h, true_and]
      exact q0
  · rw [if_neg h, if_neg h]
    by_cases h2 : t = b
    · have q0 := lo_p1 q (by omega) c (by omega)
      simp only [h, false_and, if_false]
      simp only [h2, true_and, if_true]
      exact q0
    · simp only [h, h2, false_and, if_false]
      exact lo_p0
/-- the query's weight -/
def lo_tot (b c d e p q r : Nat) : Nat := if d = b then (if e = c then p * r else p * (100 - (10 - q) * (10 - r))) else 10 * p * q
theorem lo_ten (k : Nat) : lN (10 ^ (k + 1)) = lN (10 ^ k) * 10 := by rw [Nat.pow_succ, ← lN_mul]; rfl
theorem lo_alg (N P Y : Int64) : N - (N - P * Y) = P * Y := by grind
theorem lo_alg10 (P Q : Int64) : 1000 - (100 - P * Q) * 10 = 10 * P * Q := by grind
end
section
theorem lo_l0 : lN (10 ^ 0) = 1 := rfl
theorem lo_l1 : lN (10 ^ 1) = 10 := rfl
theorem lo_l2 : lN (10 ^ 2) = 100 := rfl
theorem lo_l3 : lN (10 ^ 3) = 1000 := rfl
theorem lo_m10 (p q : Nat) : lN (10 * p * q) = 10 * lN p * lN q := by rw [← lN_mul, ← lN_mul]; rfl
theorem lo_sumY : ∀ b, b < 3 → ∀ c, c < 3 → ∀ d, d < 3 → ∀ e, e < 3 → ((if 0 = b then 1 else 0) + lo_ye b c d e 0) + ((if 1 = b then 1 else 0) + lo_ye b c d e 1) + ((if 2 = b then 1 else 0) + lo_ye b c d e 2) = if d = b ∧ e = c then 2 else 3 := by decide +kernel
theorem lo_tab {W : Nat → Int32} {a b c d e p q r : Nat} (ha : a ≤ 2) (hb : b ≤ 2) (hc : c ≤ 2) (hd : d ≤ 2) (he : e ≤ 2) (hp : p ≤ 10) (hq : q ≤ 10) (hr : r ≤ 10) (hW : ∀ i, i < 36 → W i = lo_T a b c d e (nI p) (nI q) (nI r) i) : lo_te W = (if d = b ∧ e = c then 2 else 3) ∧ lo_ts W = lN (lo_tot b c d e p q r) := by
  have X := fun t ht => lo_colX (t := t) ha hb hp hW ht
  have Y := fun t ht => lo_colY (t := t) ha hb hc hd he hq hr hW ht
  have T : lo_te W = if d = b ∧ e = c then 2 else 3 := by
    unfold lo_te lo_me
    rw [(X 0 (by omega)).2, (X 1 (by omega)).2, (X 2 (by omega)).2, (Y 0 (by omega)).2, (Y 1 (by omega)).2, (Y 2 (by omega)).2]
    exact lo_sumY b (by omega) c (by omega) d (by omega) e (by omega)
  refine ⟨T, ?_⟩
  unfold lo_ts
  rw [T]
  unfold lo_ms lo_me
  rw [(X 0 (by omega)).2, (X 1 (by omega)).2, (X 2 (by omega)).2, (Y 0 (by omega)).2, (Y 1 (by omega)).2, (Y 2 (by omega)).2, (X 0 (by omega)).1, (X 1 (by omega)).1, (X 2 (by omega)).1, (Y 0 (by omega)).1, (Y 1 (by omega)).1, (Y 2 (by omega)).1]
  clear X Y T hW
  unfold lo_tot
  have hb' : b = 0 ∨ b = 1 ∨ b = 2 := by omega
  have hd' : d = 0 ∨ d = 1 ∨ d = 2 := by omega
  by_cases h : d = b
  · subst h
    rw [if_pos rfl]
    by_cases g : e = c
    · subst g
      rw [if_pos rfl, if_pos ⟨rfl, rfl⟩, ← lN_mul]
      generalize lN p = P
      unfold lo_ys lo_ye
      rcases hd' with z | z | z <;> subst z <;> simp only [ne_eq, not_true_eq_false, and_false, and_true, if_true, if_false, Nat.reduceEqDiff, Nat.zero_ne_one, Nat.succ_ne_self, reduceIte, Nat.one_ne_zero, Nat.reduceAdd, lo_l0, lo_l1, lo_l2, lo_l3] <;> generalize lN r = R <;> grind
    · rw [if_neg g, if_neg (fun z => g z.2), ← lN_mul]
      generalize lN p = P
      unfold lo_ys lo_ye
      rcases hd' with z | z | z <;> subst z <;> simp only [g, ne_eq, not_false_eq_true, and_false, and_true, if_true, if_false, Nat.reduceEqDiff, Nat.zero_ne_one, Nat.succ_ne_self, reduceIte, Nat.one_ne_zero, Nat.reduceAdd, lo_l0, lo_l1, lo_l2, lo_l3] <;> generalize lN (100 - (10 - q) * (10 - r)) = R <;> grind
  · rw [if_neg h, if_neg (fun z => h z.1), lo_m10]
    unfold lo_ys lo_ye
    generalize lN p = P
    generalize lN q = Q
    generalize lN r = R
    rcases hb' with z | z | z <;> subst z <;> rcases hd' with z | z | z <;> subst z <;> first | exact absurd rfl h | (simp only [ne_eq, false_and, and_false, and_true, if_true, if_false, Nat.reduceEqDiff, Nat.zero_ne_one, Nat.succ_ne_self, reduceIte, Nat.one_ne_zero, Nat.reduceAdd, lo_l0, lo_l1, lo_l2, lo_l3]; grind)
end
section
/-- the table meets the chain query -/
theorem lo_use {V : Nat → Int32} {a b c d e p q r R : Nat} (ha : a ≤ 2) (hb : b ≤ 2) (hc : c ≤ 2) (hd : d ≤ 2) (he : e ≤ 2) (hp : p ≤ 10) (hq : q ≤ 10) (hr : r ≤ 10) (hR : R = if d = b ∧ e = c then 2 else 3) (hV : ∀ i, i < 36 → V i = lo_T a b c d e (nI p) (nI q) (nI r) i) :
    ∃ s K H e', K ≤ 90000 ∧ H ≤ 48 ∧ e' ≤ R ∧ s * lN (10 ^ (R - e')) = lN (lo_tot b c d e p q r) ∧ lo_E lo_A2 lo_B2 V 3 63 K H s (nI e') := by
  obtain ⟨t1, t2⟩ := lo_tab ha hb hc hd he hp hq hr hV
  have hT : lo_te V = R := t1.trans hR.symm
  have h10 : lo_te V ≤ 10 := by
    rw [t1]
    split <;> omega
  refine ⟨lo_ts V, 55, 4, lo_te V, by omega, by omega, by omega, ?_, lo_E_chain h10⟩
  rw [hT, Nat.sub_self, lo_l0, Int64.mul_one, t2]
theorem lo_T_in {a b c d e p q r i : Nat} (h : ¬ (i = 3 * a + b ∨ i = 9 + 3 * b + c ∨ i = 9 + 3 * d + e)) : lo_T a b c d e (nI p) (nI q) (nI r) i = -1 := by
  unfold lo_T
  rw [if_neg (by omega), if_neg (by omega), if_neg (by omega)]
/-- the table meets the triangle -/
theorem lo_use3 {V : Nat → Int32} {a b c d e p q r : Nat} (ha : a ≤ 2) (hb : b ≤ 2) (hc : c ≤ 2) (hd : d ≤ 2) (he : e ≤ 2) (hV : ∀ i, i < 36 → V i = lo_T a b c d e (nI p) (nI q) (nI r) i) :
    ∃ K H e', K ≤ 90000 ∧ H ≤ 48 ∧ lo_E lo_A3 lo_B3 V 7 63 K H 0 e' := by
  obtain ⟨e', E⟩ := lo_E_tri 3 V [3 * a + b, 9 + 3 * b + c, 9 + 3 * d + e] (Nat.le_refl 3) (fun i hi g1 g2 => by
    by_cases z : i = 3 * a + b ∨ i = 9 + 3 * b + c ∨ i = 9 + 3 * d + e
    · simpa using z
    · rw [hV i (by omega), lo_T_in z] at g1
      exact absurd (by decide) g1) (fun i h1 h2 => by
    rw [hV i (by omega), lo_T_in (by omega)]
    decide)
  exact ⟨_, _, e', by omega, by omega, E⟩
/-- the empty table -/
theorem lo_use0 {V : Nat → Int32} (hV : ∀ i, i < 36 → V i = -1) :
    ∃ s K H e', K ≤ 90000 ∧ H ≤ 48 ∧ e' ≤ 0 ∧ s * lN (10 ^ (0 - e')) = 0 ∧ lo_E lo_A2 lo_B2 V 3 63 K H s (nI e') := by
  have c : ∀ t, t < 3 → lo_me V t = 0 ∧ lo_ms V t = 0 := by
    intro t ht
    unfold lo_me lo_ms
    rw [hV t (by omega), hV (3 + t) (by omega), hV (6 + t) (by omega), hV (9 + 3 * t) (by omega), hV (9 + 3 * t + 1) (by omega), hV (9 + 3 * t + 2) (by omega), lo_p0.1, lo_p0.2]
    decide
  have t : lo_te V = 0 := by
    unfold lo_te
    rw [(c 0 (by omega)).1, (c 1 (by omega)).1, (c 2 (by omega)).1]
  have s : lo_ts V = 0 := by
    unfold lo_ts
    rw [t, (c 0 (by omega)).1, (c 1 (by omega)).1, (c 2 (by omega)).1, (c 0 (by omega)).2, (c 1 (by omega)).2, (c 2 (by omega)).2]
    decide
  exact ⟨lo_ts V, 55, 4, lo_te V, by omega, by omega, by omega, by rw [s, Int64.zero_mul], lo_E_chain (by omega)⟩
/-- one row of the table is changed -/
theorem lo_upd_a {L : Nat → Int32} {a b c d e p q r w i : Nat} (ha : a ≤ 2) (hb : b ≤ 2) (hL : ∀ i, i < 36 → L i = lo_T a b c d e (nI p) (nI q) (nI r) i) (hi : i < 36) : upd L (9 * 0 + 3 * a + b) (nI w) i = lo_T a b c d e (nI w) (nI q) (nI r) i := by
  by_cases z : i = 9 * 0 + 3 * a + b
  · rw [z, pk_us]
    unfold lo_T
    rw [if_neg (by omega), if_neg (by omega), if_pos (by omega)]
  · rw [pk_un z, hL i hi]
    unfold lo_T
    rw [if_neg (show ¬ i = 3 * a + b by omega), if_neg (show ¬ i = 3 * a + b by omega)]
theorem lo_upd_s {L : Nat → Int32} {a b c d e p q r w i : Nat} (hs : d = b ∧ e = c) (hL : ∀ i, i < 36 → L i = lo_T a b c d e (nI p) (nI q) (nI r) i) (hi : i < 36) : upd L (9 * 1 + 3 * b + c) (nI w) i = lo_T a b c d e (nI p) (nI q) (nI w) i := by
  by_cases z : i = 9 * 1 + 3 * b + c
  · rw [z, pk_us]
    unfold lo_T
    rw [if_pos (by omega)]
  · rw [pk_un z, hL i hi]
    unfold lo_T
    rw [if_neg (show ¬ i = 9 + 3 * d + e by omega), if_neg (show ¬ i = 9 + 3 * d + e by omega)]
theorem lo_upd_n {L : Nat → Int32} {a b c d e p q r w i : Nat} (hb : b ≤ 2) (hc : c ≤ 2) (hd : d ≤ 2) (he : e ≤ 2) (hs : ¬ (d = b ∧ e = c)) (hL : ∀ i, i < 36 → L i = lo_T a b c d e (nI p) (nI q) (nI r) i) (hi : i < 36) : upd L (9 * 1 + 3 * b + c) (nI w) i = lo_T a b c d e (nI p) (nI w) (nI r) i := by
  by_cases z : i = 9 * 1 + 3 * b + c
  · rw [z, pk_us]
    unfold lo_T
    rw [if_neg (by omega), if_pos (by omega)]
  · rw [pk_un z, hL i hi]
    unfold lo_T
    rw [if_neg (show ¬ i = 9 + 3 * b + c by omega), if_neg (show ¬ i = 9 + 3 * b + c by omega)]
theorem lo_upd_r {L : Nat → Int32} {a b c d e p q w i : Nat} (ha : a ≤ 2) (hb : b ≤ 2) (hL : ∀ i, i < 36 → L i = lo_T a b c b c (nI p) (nI q) (nI q) i) (hi : i < 36) : upd L (9 * 1 + 3 * d + e) (nI w) i = lo_T a b c d e (nI p) (nI q) (nI w) i := by
  by_cases z : i = 9 * 1 + 3 * d + e
  · rw [z, pk_us]
    unfold lo_T
    rw [if_pos (by omega)]
  · rw [pk_un z, hL i hi]
    unfold lo_T
    rw [if_neg (show ¬ i = 9 + 3 * d + e by omega)]
    by_cases y : i = 9 + 3 * b + c
    · rw [if_pos y, if_pos y]
    · rw [if_neg y, if_neg y]
/-- signs -/
theorem lo_T_neg {a b c d e p q r i : Nat} (hp : p ≤ 10) (hq : q ≤ 10) (hr : r ≤ 10) : lo_T a b c d e (nI p) (nI q) (nI r) i < 0 ↔ ¬ (i = 3 * a + b ∨ i = 9 + 3 * b + c ∨ i = 9 + 3 * d + e) := by
  constructor
  · intro h z
    unfold lo_T at h
    by_cases z1 : i = 9 + 3 * d + e
    · rw [if_pos z1] at h; exact nI_pos (by omega) h
    · rw [if_neg z1] at h
      by_cases z2 : i = 9 + 3 * b + c
      · rw [if_pos z2] at h; exact nI_pos (by omega) h
      · rw [if_neg z2, if_pos (by omega)] at h; exact nI_pos (by omega) h
  · intro z
    rw [lo_T_in z]
    decide
theorem lo_five {a b c d e p q r i : Nat} (hp : p ≤ 10) (hq : q ≤ 10) (hr : r ≤ 10) : (if lo_T a b c d e (nI p) (nI q) (nI r) i < 0 then (-1 : Int32) else 5) = lo_T a b c d e (nI 5) (nI 5) (nI 5) i := by
  by_cases z : i = 3 * a + b ∨ i = 9 + 3 * b + c ∨ i = 9 + 3 * d + e
  · rw [if_neg (fun y => (lo_T_neg hp hq hr).mp y z)]
    unfold lo_T
    by_cases z1 : i = 9 + 3 * d + e
    · rw [if_pos z1]; rfl
    · rw [if_neg z1]
      by_cases z2 : i = 9 + 3 * b + c
      · rw [if_pos z2]; rfl
      · rw [if_neg z2, if_pos (by omega)]; rfl
  · rw [if_pos ((lo_T_neg hp hq hr).mpr z), lo_T_in z]
theorem lo_wk_eq {L M : Nat → Int32} : ∀ n, (∀ i, i < n → (L i < 0 ↔ M i < 0)) → lo_wk L n = lo_wk M n := by
  intro n
  induction n with
  | zero => intro _; rfl
  | succ n ih =>
    intro h
    rw [lo_wk, lo_wk, ih (fun i hi => h i (by omega))]
    by_cases c : L n < 0
    · rw [if_pos c, if_pos ((h n (by omega)).mp c)]
    · rw [if_neg c, if_neg (fun z => c ((h n (by omega)).mpr z))]
theorem lo_wk_T : ∀ a, a < 3 → ∀ b, b < 3 → ∀ c, c < 3 → ∀ d, d < 3 → ∀ e, e < 3 → lo_wk (lo_T a b c d e (nI 5) (nI 5) (nI 5)) 36 = if d = b ∧ e = c then 25 else 125 := by decide +kernel
theorem lo_wk_L {L : Nat → Int32} {a b c d e p q r : Nat} (ha : a ≤ 2) (hb : b ≤ 2) (hc : c ≤ 2) (hd : d ≤ 2) (he : e ≤ 2) (hp : p ≤ 10) (hq : q ≤ 10) (hr : r ≤ 10) (hL : ∀ i, i < 36 → L i = lo_T a b c d e (nI p) (nI q) (nI r) i) : lo_wk L 36 = if d = b ∧ e = c then 25 else 125 := by
  rw [← lo_wk_T a (by omega) b (by omega) c (by omega) d (by omega) e (by omega)]
  exact lo_wk_eq 36 (fun i hi => by rw [hL i hi, lo_T_neg hp hq hr, lo_T_neg (by omega) (by omega) (by omega)])
theorem lo_wk_0 {L : Nat → Int32} (hL : ∀ i, i < 36 → L i = -1) : lo_wk L 36 = 1 := by
  have e : lo_wk (fun _ => -1) 36 = 1 := by decide +kernel
  rw [← e]
  exact lo_wk_eq 36 (fun i hi => by rw [hL i hi])
theorem lo_A_at {L : Nat → Int32} {a b c d e p q r : Nat} (ha : a ≤ 2) (hb : b ≤ 2) (hL : ∀ i, i < 36 → L i = lo_T a b c d e (nI p) (nI q) (nI r) i) : L (9 * 0 + 3 * a + b) = nI p := by
  rw [hL _ (by omega)]
  unfold lo_T
  rw [if_neg (by omega), if_neg (by omega), if_pos (by omega)]
theorem lo_B_at {L : Nat → Int32} {a b c d e p q r : Nat} (hb : b ≤ 2) (hc : c ≤ 2) (hd : d ≤ 2) (he : e ≤ 2) (hL : ∀ i, i < 36 → L i = lo_T a b c d e (nI p) (nI q) (nI r) i) : L (9 * 1 + 3 * b + c) = nI (if d = b ∧ e = c then r else q) := by
  rw [hL _ (by omega)]
  unfold lo_T
  by_cases z : d = b ∧ e = c
  · rw [if_pos (by omega), if_pos z]
  · rw [if_neg (by omega), if_pos (by omega), if_neg z]
end
section
/-- the weight with the row (1; b, c) -/
def lo_wi (b c d e p q r : Nat) : Nat := if d = b ∧ e = c then p * r else 10 * p * q
theorem lo_num : ∀ p, p < 11 → ∀ q, q < 11 → ∀ r, r < 11 → p * r ≤ 1000 ∧ p * (100 - (10 - q) * (10 - r)) ≤ 1000 ∧ 10 * p * q ≤ 1000 ∧ 10 * r / 10 * p = p * r ∧ 10 * (100 - (10 - q) * (10 - r)) / 10 * p = p * (100 - (10 - q) * (10 - r)) ∧ 10 * 10 * q / 10 * p = 10 * p * q := by decide +kernel
theorem lo_num2 : ∀ p, p < 11 → ∀ q, q < 11 → ∀ r, r < 11 → p * (100 - (10 - 0) * (10 - r)) / 10 * (10 - q) = p * (100 - (10 - q) * (10 - r)) - 10 * p * q ∧ 10 * p * q ≤ p * (100 - (10 - q) * (10 - r)) ∧ p * (100 - (10 - 10) * (10 - r)) / 10 * q = 10 * p * q ∧ 10 * p * 10 / 10 * q = 10 * p * q ∧ p * 10 / 10 * r = p * r := by decide +kernel
theorem lo_tot_le {b c d e p q r : Nat} (hp : p ≤ 10) (hq : q ≤ 10) (hr : r ≤ 10) : lo_tot b c d e p q r ≤ 1000 := by
  obtain ⟨h1, h2, h3, _⟩ := lo_num p (by omega) q (by omega) r (by omega)
  unfold lo_tot
  split
  · split
    · exact h1
    · exact h2
  · exact h3
theorem lo_div10 {x y : Nat} (hx : x ≤ 1000) (hy : y ≤ 10) : lN x / 10 * (nI y).toInt64 = lN (x / 10 * y) := by
  rw [nI_l (by omega), show (10 : Int64) = lN 10 from rfl, pk_lDiv (by omega) (by omega) (by omega), lN_mul]
theorem lo_N2 {b c d e p q r : Nat} (hp : p ≤ 10) (hq : q ≤ 10) (hr : r ≤ 10) : lN (lo_tot b c d e 10 q r) / 10 * (nI p).toInt64 = (nI (lo_tot b c d e p q r)).toInt64 := by
  have l := lo_tot_le (b := b) (c := c) (d := d) (e := e) hp hq hr
  rw [lo_div10 (lo_tot_le (by omega) hq hr) hp, nI_l (by omega)]
  obtain ⟨_, _, _, h1, h2, h3⟩ := lo_num p (by omega) q (by omega) r (by omega)
  congr 1
  unfold lo_tot
  by_cases z : d = b
  · rw [if_pos z, if_pos z]
    by_cases y : e = c
    · rw [if_pos y, if_pos y]; exact h1
    · rw [if_neg y, if_neg y]; exact h2
  · rw [if_neg z, if_neg z]; exact h3
theorem lo_tot0 (b c d e q r : Nat) : lo_tot b c d e 0 q r = 0 := by
  unfold lo_tot
  split
  · split <;> simp
  · simp
theorem lo_N3 {b c d e q r : Nat} {y : Int64} : lN (lo_tot b c d e 0 q r) / 10 * y = 0 := by
  rw [lo_tot0, show lN 0 / 10 = 0 from by decide, Int64.zero_mul]
theorem lo_N4s {b c d e p q r : Nat} (hs : d = b ∧ e = c) (hp : p ≤ 10) (hq : q ≤ 10) (hr : r ≤ 10) : lN (lo_tot b c d e p q 10) / 10 * (nI r).toInt64 = (nI (lo_wi b c d e p q r)).toInt64 := by
  obtain ⟨l, _⟩ := lo_num p (by omega) q (by omega) r (by omega)
  obtain ⟨_, _, _, _, h⟩ := lo_num2 p (by omega) q (by omega) r (by omega)
  unfold lo_wi
  rw [if_pos hs, lo_div10 (lo_tot_le hp hq (by omega)) hr, nI_l (by omega)]
  unfold lo_tot
  rw [if_pos hs.1, if_pos hs.2, h]
theorem lo_N4n {b c d e p q r : Nat} (hs : ¬ (d = b ∧ e = c)) (hp : p ≤ 10) (hq : q ≤ 10) (hr : r ≤ 10) : lN (lo_tot b c d e p 10 r) / 10 * (nI q).toInt64 = (nI (lo_wi b c d e p q r)).toInt64 := by
  obtain ⟨_, _, l, _⟩ := lo_num p (by omega) q (by omega) r (by omega)
  obtain ⟨_, _, h1, h2, _⟩ := lo_num2 p (by omega) q (by omega) r (by omega)
  unfold lo_wi
  rw [if_neg hs, lo_div10 (lo_tot_le hp (by omega) hr) hq, nI_l (by omega)]
  unfold lo_tot
  by_cases z : d = b
  · rw [if_pos z, if_neg (fun y => hs ⟨z, y⟩), h1]
  · rw [if_neg z, h2]
theorem lo_wi_le {b c d e p q r : Nat} (hp : p ≤ 10) (hq : q ≤ 10) (hr : r ≤ 10) : lo_wi b c d e p q r ≤ lo_tot b c d e p q r := by
  obtain ⟨_, h, _⟩ := lo_num2 p (by omega) q (by omega) r (by omega)
  unfold lo_wi lo_tot
  by_cases z : d = b
  · rw [if_pos z]
    by_cases y : e = c
    · rw [if_pos ⟨z, y⟩, if_pos y]; exact Nat.le_refl _
    · rw [if_neg (fun x => y x.2), if_neg y]; exact h
  · rw [if_neg (fun x => z x.1), if_neg z]; exact Nat.le_refl _
theorem lo_ten_sub {q : Nat} (hq : q ≤ 10) : (10 : Int32) - nI q = nI (10 - q) := pk_sub (a := 10) hq
theorem lo_N5s {b c d e p q r : Nat} (hs : d = b ∧ e = c) (hp : p ≤ 10) (hq : q ≤ 10) (hr : r ≤ 10) : lN (lo_tot b c d e p q 0) / 10 * (10 - nI r).toInt64 = (nI (lo_tot b c d e p q r) - nI (lo_wi b c d e p q r)).toInt64 := by
  rw [lo_ten_sub hr, lo_div10 (lo_tot_le hp hq (by omega)) (by omega), pk_sub (lo_wi_le hp hq hr)]
  unfold lo_tot lo_wi
  rw [if_pos hs.1, if_pos hs.2, if_pos hs.1, if_pos hs.2, if_pos hs, Nat.sub_self, Nat.mul_zero, Nat.zero_div, Nat.zero_mul]
  decide
theorem lo_N5n {b c d e p q r : Nat} (hs : ¬ (d = b ∧ e = c)) (hp : p ≤ 10) (hq : q ≤ 10) (hr : r ≤ 10) : lN (lo_tot b c d e p 0 r) / 10 * (10 - nI q).toInt64 = (nI (lo_tot b c d e p q r) - nI (lo_wi b c d e p q r)).toInt64 := by
  have l := lo_tot_le (b := b) (c := c) (d := d) (e := e) hp hq hr
  obtain ⟨h, _⟩ := lo_num2 p (by omega) q (by omega) r (by omega)
  rw [lo_ten_sub hq, lo_div10 (lo_tot_le hp (by omega) hr) (by omega), pk_sub (lo_wi_le hp hq hr), nI_l (by omega)]
  congr 1
  unfold lo_tot lo_wi
  by_cases z : d = b
  · rw [if_pos z, if_neg (fun y => hs ⟨z, y⟩), if_pos z, if_neg (fun y => hs ⟨z, y⟩), if_neg hs, h]
  · rw [if_neg z, if_neg z, if_neg hs, Nat.sub_self, Nat.mul_zero, Nat.zero_div, Nat.zero_mul]
/-- what the law computes as due -/
theorem lo_due_b {b c d e p q r : Nat} (hz : d = b) (hs : ¬ (d = b ∧ e = c)) (hq : q ≤ 10) (hr : r ≤ 10) : nI p * (100 - (10 - nI q) * (10 - nI r)) = nI (lo_tot b c d e p q r) := by
  have m : (10 - q) * (10 - r) ≤ 100 := Nat.mul_le_mul (show 10 - q ≤ 10 by omega) (show 10 - r ≤ 10 by omega)
  rw [lo_ten_sub hq, lo_ten_sub hr, pk_mul, show (100 : Int32) = nI 100 from rfl, pk_sub m, pk_mul]
  unfold lo_tot
  rw [if_pos hz, if_neg (fun y => hs ⟨hz, y⟩)]
theorem lo_due_n {b c d e p q r : Nat} (hz : ¬ d = b) (hq : q ≤ 10) : nI p * (100 - (10 - nI q) * 10) = nI (lo_tot b c d e p q r) := by
  have m : (10 - q) * 10 ≤ 100 := by omega
  rw [lo_ten_sub hq, show (10 : Int32) = nI 10 from rfl, pk_mul, show (100 : Int32) = nI 100 from rfl, pk_sub m, pk_mul]
  unfold lo_tot
  rw [if_neg hz, show 100 - (10 - q) * 10 = 10 * q by omega, Nat.mul_left_comm, Nat.mul_assoc]
theorem lo_due_s {b c d e p q r : Nat} (hs : d = b ∧ e = c) : nI p * nI r = nI (lo_tot b c d e p q r) := by
  unfold lo_tot
  rw [if_pos hs.1, if_pos hs.2, pk_mul]
theorem lo_wi_s {b c d e p q r : Nat} (hs : d = b ∧ e = c) : nI p * nI r = nI (lo_wi b c d e p q r) := by
  unfold lo_wi
  rw [if_pos hs, pk_mul]
theorem lo_wi_n {b c d e p q r : Nat} (hs : ¬ (d = b ∧ e = c)) : 10 * nI p * nI q = nI (lo_wi b c d e p q r) := by
  unfold lo_wi
  rw [if_neg hs, show (10 : Int32) = nI 10 from rfl, pk_mul, pk_mul]
end
section
theorem lo_s2 : lo_sek lo_A2 4 = 3 := by decide +kernel
theorem lo_s3 : lo_sek lo_A3 4 = 7 := by decide +kernel
theorem lo_s4 : lo_sek lo_A4 4 = 0 := by decide +kernel
theorem lo_ok2 : lo_ok lo_A2 lo_B2 1 0 = true ∧ lo_ok lo_A2 lo_B2 2 0 = true ∧ lo_ok lo_A2 lo_B2 2 1 = true := by decide +kernel
theorem lo_ok3 : lo_ok lo_A3 lo_B3 1 0 = false := by decide +kernel
theorem lo_ok4 : lo_ok lo_A4 lo_B4 1 0 = true ∧ lo_ok lo_A4 lo_B4 2 0 = true ∧ lo_ok lo_A4 lo_B4 2 1 = true := by decide +kernel
/-- from the second weightWith to the end -/
theorem lo_375 {post : Int32 → St0 → Prop} {mc ms kc ks : Nat} {x15 : Int32} {a b c d e p q r R : Nat} {dp : Int32} {sh : Int64} {ex : Int32} {L W : Nat → Int32} {a5 a6 a7 a8 a9 a10 a11 a12 : Nat → Int32} {a13 : Nat → Int64} {a14 : Nat → Int32} (ha : a ≤ 2) (hb : b ≤ 2) (hc : c ≤ 2) (hd : d ≤ 2) (he : e ≤ 2) (hp : p ≤ 10) (hq : q ≤ 10) (hr : r ≤ 10) (hR : R = if d = b ∧ e = c then 2 else 3) (hx : x15 = 0 ↔ ¬ (d = b ∧ e = c)) (hL : ∀ i, i < 36 → L i = lo_T a b c d e (nI p) (nI q) (nI r) i) (h : post 1 ()) :
    wL_lawOf_375 post mc ms (nI b) (nI c) x15 (nI (lo_tot b c d e p q r)) (nI (lo_wi b c d e p q r)) kc ks (nI R) (nI 2) dp sh ex L W lo_A2 lo_B2 a5 a6 a7 a8 a9 a10 a11 a12 a13 a14 := by
  have R10 : R ≤ 10 := by rw [hR]; split <;> omega
  have at1 := lo_B_at hb hc hd he hL
  have nL : ¬ L (9 * 1 + 3 * b + c) < 0 := by
    rw [at1]
    exact nI_pos (by split <;> omega)
  obtain ⟨v, hv, hvv⟩ : ∃ v : Int64, (∀ V : Nat → Int32, (∀ i, i < 36 → V i = upd L (9 * 1 + 3 * b + c) 10 i) → ∃ s K H e', K ≤ 90000 ∧ H ≤ 48 ∧ e' ≤ R ∧ s * lN (10 ^ (R - e')) = v ∧ lo_E lo_A2 lo_B2 V 3 63 K H s (nI e')) ∧ v / 10 * (L (9 * 1 + 3 * b + c)).toInt64 = (nI (lo_wi b c d e p q r)).toInt64 := by
    rw [at1]
    by_cases s : d = b ∧ e = c
    · rw [if_pos s]
      exact ⟨lN (lo_tot b c d e p q 10), fun V hV => lo_use ha hb hc hd he hp hq (by omega) hR (fun i hi => (hV i hi).trans (lo_upd_s (w := 10) s hL hi)), lo_N4s s hp hq hr⟩
    · rw [if_neg s]
      exact ⟨lN (lo_tot b c d e p 10 r), fun V hV => lo_use ha hb hc hd he hp (by omega) hr hR (fun i hi => (hV i hi).trans (lo_upd_n (w := 10) hb hc hd he s hL hi)), lo_N4n s hp hq hr⟩
  obtain ⟨w, hw, hww⟩ : ∃ v : Int64, (∀ V : Nat → Int32, (∀ i, i < 36 → V i = upd L (9 * 1 + 3 * b + c) 0 i) → ∃ s K H e', K ≤ 90000 ∧ H ≤ 48 ∧ e' ≤ R ∧ s * lN (10 ^ (R - e')) = v ∧ lo_E lo_A2 lo_B2 V 3 63 K H s (nI e')) ∧ v / 10 * (10 - L (9 * 1 + 3 * b + c)).toInt64 = (nI (lo_tot b c d e p q r) - nI (lo_wi b c d e p q r)).toInt64 := by
    rw [at1]
    by_cases s : d = b ∧ e = c
    · rw [if_pos s]
      exact ⟨lN (lo_tot b c d e p q 0), fun V hV => lo_use ha hb hc hd he hp hq (by omega) hR (fun i hi => (hV i hi).trans (lo_upd_s (w := 0) s hL hi)), lo_N5s s hp hq hr⟩
    · rw [if_neg s]
      exact ⟨lN (lo_tot b c d e p 0 r), fun V hV => lo_use ha hb hc hd he hp (by omega) hr hR (fun i hi => (hV i hi).trans (lo_upd_n (w := 0) hb hc hd he s hL hi)), lo_N5n s hp hq hr⟩
  unfold wL_lawOf_375
  refine lo_weightWith (x := 1) (a := b) (b := c) (by omega) hb hc nL lo_s2 R10 hv (fun dp1 sh1 ex1 V1 f1 => ?_)
  obtain ⟨b5, b6, b7, b8, b9, b10, b11, b12, b13, b14⟩ := f1
  refine br_t hvv ?_
  refine lo_weightWithout (x := 1) (a := b) (b := c) (by omega) hb hc nL lo_s2 R10 hw (fun dp2 sh2 ex2 V2 f2 => ?_)
  obtain ⟨c5, c6, c7, c8, c9, c10, c11, c12, c13, c14⟩ := f2
  refine br_t hww ?_
  refine lo_nested1 lo_ok2.1 lo_ok2.2.1 lo_ok2.2.2 (br_f (by decide) ?_)
  refine lo_atom (x := 2) (a := 2) (b := 0) (m := 2) (by omega) (by omega) (by omega) (by decide) (br_t rfl ?_)
  refine lo_nested0 (A := lo_A3) (B := lo_B3) lo_ok3 (br_t rfl ?_)
  refine lo_weight0 (A := lo_A3) (B := lo_B3) lo_s3 (fun V hV => lo_use3 ha hb hc hd he (fun i hi => (hV i hi).trans (hL i hi))) (fun dp3 sh3 ex3 V3 f3 => ?_)
  obtain ⟨d5, d6, d7, d8, d9, d10, d11, d12, d13, d14⟩ := f3
  refine br_t rfl ?_
  refine lo_clearQuery ?_
  refine lo_nested1 (A := lo_A4) (B := lo_B4) lo_ok4.1 lo_ok4.2.1 lo_ok4.2.2 (br_f (by decide) ?_)
  refine lo_weight (A := lo_A4) (B := lo_B4) (set := 0) (v := lN (10 ^ R)) lo_s4 R10 (fun V hV => ⟨1, 1, 1, 0, by omega, by omega, by omega, by rw [Int64.one_mul]; rfl, lo_E_zero⟩) (fun dp4 sh4 ex4 V4 f4 => ?_)
  obtain ⟨e5, e6, e7, e8, e9, e10, e11, e12, e13, e14⟩ := f4
  by_cases s : d = b ∧ e = c
  · rw [if_pos s] at hR
    subst hR
    exact br_f (fun z => (hx.mp z) s) (br_t (by decide) h)
  · rw [if_neg s] at hR
    subst hR
    exact br_t (hx.mpr s) (br_t (by decide) h)
/-- from the first weightWith on -/
theorem lo_315 {post : Int32 → St0 → Prop} {mc ms kc ks : Nat} {x15 z0 z1 : Int32} {a b c d e p q r R : Nat} {dp : Int32} {sh : Int64} {ex : Int32} {L W : Nat → Int32} {a5 a6 a7 a8 a9 a10 a11 a12 : Nat → Int32} {a13 : Nat → Int64} {a14 : Nat → Int32} (ha : a ≤ 2) (hb : b ≤ 2) (hc : c ≤ 2) (hd : d ≤ 2) (he : e ≤ 2) (hp : p ≤ 10) (hq : q ≤ 10) (hr : r ≤ 10) (hR : R = if d = b ∧ e = c then 2 else 3) (hx : x15 = 0 ↔ ¬ (d = b ∧ e = c)) (hL : ∀ i, i < 36 → L i = lo_T a b c d e (nI p) (nI q) (nI r) i) (h : post 1 ()) (hz : z1 = z0) :
    wL_lawOf_315 post mc ms (nI a) (nI b) (nI c) (nI p) (nI q) (nI r) x15 (nI (lo_tot b c d e p q r)) z0 z1 kc ks (nI R) (nI 2) dp sh ex L W lo_A2 lo_B2 a5 a6 a7 a8 a9 a10 a11 a12 a13 a14 := by
  have R10 : R ≤ 10 := by rw [hR]; split <;> omega
  have at0 := lo_A_at ha hb hL
  have nL : ¬ L (9 * 0 + 3 * a + b) < 0 := by
    rw [at0]
    exact nI_pos (by omega)
  unfold wL_lawOf_315
  refine br_t hz ?_
  refine lo_weightWith (x := 0) (a := a) (b := b) (v := lN (lo_tot b c d e 10 q r)) (by omega) ha hb nL lo_s2 R10 (fun V hV => lo_use ha hb hc hd he (by omega) hq hr hR (fun i hi => (hV i hi).trans (lo_upd_a (w := 10) ha hb hL hi))) (fun dp1 sh1 ex1 V1 f1 => ?_)
  obtain ⟨b5, b6, b7, b8, b9, b10, b11, b12, b13, b14⟩ := f1
  refine br_t (by rw [at0]; exact lo_N2 hp hq hr) ?_
  refine lo_weightWithout (x := 0) (a := a) (b := b) (v := lN (lo_tot b c d e 0 q r)) (by omega) ha hb nL lo_s2 R10 (fun V hV => lo_use ha hb hc hd he (by omega) hq hr hR (fun i hi => (hV i hi).trans (lo_upd_a (w := 0) ha hb hL hi))) (fun dp2 sh2 ex2 V2 f2 => ?_)
  obtain ⟨c5, c6, c7, c8, c9, c10, c11, c12, c13, c14⟩ := f2
  refine br_t lo_N3 ?_
  by_cases s : d = b ∧ e = c
  · refine br_f (fun z => (hx.mp z) s) ?_
    rw [lo_wi_s (b := b) (c := c) (d := d) (e := e) (p := p) (q := q) (r := r) s]
    exact lo_375 ha hb hc hd he hp hq hr hR hx hL h
  · refine br_t (hx.mpr s) ?_
    rw [lo_wi_n (b := b) (c := c) (d := d) (e := e) (p := p) (q := q) (r := r) s]
    exact lo_375 ha hb hc hd he hp hq hr hR hx hL h
/-- from the weight of three rows on -/
theorem lo_273 {post : Int32 → St0 → Prop} {mc ms kc ks : Nat} {x15 z0 : Int32} {a b c d e p q r R : Nat} {dp : Int32} {sh : Int64} {ex : Int32} {L W : Nat → Int32} {a5 a6 a7 a8 a9 a10 a11 a12 : Nat → Int32} {a13 : Nat → Int64} {a14 : Nat → Int32} (ha : a ≤ 2) (hb : b ≤ 2) (hc : c ≤ 2) (hd : d ≤ 2) (he : e ≤ 2) (hp : p ≤ 10) (hq : q ≤ 10) (hr : r ≤ 10) (hR : R = if d = b ∧ e = c then 2 else 3) (hx : x15 = 0 ↔ ¬ (d = b ∧ e = c)) (hL : ∀ i, i < 36 → L i = lo_T a b c d e (nI p) (nI q) (nI r) i) (h : post 1 ()) (hz : z0 = nI (lo_tot b c d e p q r)) :
    wL_lawOf_273 post mc ms (nI a) (nI b) (nI c) (nI d) (nI p) (nI q) (nI r) x15 z0 kc ks (nI R) (nI 2) dp sh ex L W lo_A2 lo_B2 a5 a6 a7 a8 a9 a10 a11 a12 a13 a14 := by
  have R10 : R ≤ 10 := by rw [hR]; split <;> omega
  have l := lo_tot_le (b := b) (c := c) (d := d) (e := e) hp hq hr
  subst hz
  unfold wL_lawOf_273
  refine lo_weight (v := lN (lo_tot b c d e p q r)) lo_s2 R10 (fun V hV => lo_use ha hb hc hd he hp hq hr hR (fun i hi => (hV i hi).trans (hL i hi))) (fun dp1 sh1 ex1 V1 f1 => ?_)
  obtain ⟨b5, b6, b7, b8, b9, b10, b11, b12, b13, b14⟩ := f1
  refine br_t (nI_l (by omega)).symm ?_
  refine lo_worlds (v := lN (lo_tot b c d e 5 5 5)) (lo_wk_L ha hb hc hd he hp hq hr hL) (by split <;> decide) lo_s2 R10 (fun V hV => lo_use ha hb hc hd he (by omega) (by omega) (by omega) hR (fun i hi => (hV i hi).trans (by rw [hL i hi]; exact lo_five hp hq hr))) (fun dp2 sh2 ex2 V2 f2 => ?_)
  obtain ⟨c5, c6, c7, c8, c9, c10, c11, c12, c13, c14⟩ := f2
  by_cases s : d = b ∧ e = c
  · refine br_f (fun z => (hx.mp z) s) (lo_315 ha hb hc hd he hp hq hr hR hx hL h ?_)
    rw [if_pos s]
    unfold lo_tot
    rw [if_pos s.1, if_pos s.2]
    decide
  · refine br_t (hx.mpr s) (pk_eq d b (fun z => lo_315 ha hb hc hd he hp hq hr hR hx hL h ?_) (fun z => lo_315 ha hb hc hd he hp hq hr hR hx hL h ?_))
    · rw [if_neg s]
      unfold lo_tot
      rw [if_pos z, if_neg (fun y => s ⟨z, y⟩)]
      decide
    · rw [if_neg s]
      unfold lo_tot
      rw [if_neg z]
      decide
theorem lo_222 {post : Int32 → St0 → Prop} {mc ms kc ks : Nat} {x15 z0 z1 : Int32} {a b c d e p q r R : Nat} {dp : Int32} {sh : Int64} {ex : Int32} {L W : Nat → Int32} {a5 a6 a7 a8 a9 a10 a11 a12 : Nat → Int32} {a13 : Nat → Int64} {a14 : Nat → Int32} (ha : a ≤ 2) (hb : b ≤ 2) (hc : c ≤ 2) (hd : d ≤ 2) (he : e ≤ 2) (hp : p ≤ 10) (hq : q ≤ 10) (hr : r ≤ 10) (hR : R = if d = b ∧ e = c then 2 else 3) (hx : x15 = 0 ↔ ¬ (d = b ∧ e = c)) (hL : ∀ i, i < 36 → L i = lo_T a b c d e (nI p) (nI q) (nI r) i) (h : post 1 ()) (hz : z1 = z0) :
    wL_lawOf_222 post mc ms (nI a) (nI b) (nI c) (nI d) (nI p) (nI q) (nI r) x15 z0 z1 kc ks (nI R) (nI 2) dp sh ex L W lo_A2 lo_B2 a5 a6 a7 a8 a9 a10 a11 a12 a13 a14 := by
  unfold wL_lawOf_222
  refine br_t hz (pk_eq d b (fun z => ?_) (fun z => ?_))
  · unfold wL_lawOf_249
    refine nm_e ?_
    by_cases s : d = b ∧ e = c
    · exact br_f (fun y => (hx.mp y) s) (lo_273 ha hb hc hd he hp hq hr hR hx hL h (lo_due_s s))
    · exact br_t (hx.mpr s) (lo_273 ha hb hc hd he hp hq hr hR hx hL h (lo_due_b z s hq hr))
  · unfold wL_lawOf_249
    refine nm_e ?_
    exact br_t (hx.mpr (fun y => z y.1)) (lo_273 ha hb hc hd he hp hq hr hR hx hL h (lo_due_n z hq))
/-- from the third row on -/
theorem lo_198 {post : Int32 → St0 → Prop} {mc ms kc ks : Nat} {x15 : Int32} {a b c d e p q r : Nat} {dp : Int32} {sh : Int64} {ex : Int32} {L W : Nat → Int32} {a5 a6 a7 a8 a9 a10 a11 a12 : Nat → Int32} {a13 : Nat → Int64} {a14 : Nat → Int32} (ha : a ≤ 2) (hb : b ≤ 2) (hc : c ≤ 2) (hd : d ≤ 2) (he : e ≤ 2) (hp : p ≤ 10) (hq : q ≤ 10) (hr : r ≤ 10) (hx : x15 = 0 ↔ ¬ (d = b ∧ e = c)) (hL : ∀ i, i < 36 → L i = lo_T a b c b c (nI p) (nI q) (nI q) i) (h : post 1 ()) :
    wL_lawOf_198 post mc ms (nI a) (nI b) (nI c) (nI d) (nI e) (nI p) (nI q) (nI r) x15 kc ks (nI 2) (nI 2) dp sh ex L W lo_A2 lo_B2 a5 a6 a7 a8 a9 a10 a11 a12 a13 a14 := by
  unfold wL_lawOf_198
  have sg : L (9 * 1 + 3 * d + e) < 0 ↔ ¬ (d = b ∧ e = c) := by
    rw [hL _ (by omega), lo_T_neg hp hq hq]
    omega
  by_cases s : d = b ∧ e = c
  · refine lo_row_old (x := 1) (a := d) (b := e) (w := r) (by omega) hd he hr (fun z => (sg.mp z) s) ?_
    exact br_f (fun z => (hx.mp z) s) (lo_222 ha hb hc hd he hp hq hr (by rw [if_pos s]) hx (fun i hi => lo_upd_r ha hb hL hi) h rfl)
  · refine lo_row_new (x := 1) (a := d) (b := e) (w := r) (by omega) hd he hr (by omega) (sg.mpr s) ?_
    exact br_t (hx.mpr s) (lo_222 ha hb hc hd he hp hq hr (by rw [if_neg s]) hx (fun i hi => lo_upd_r ha hb hL hi) h rfl)
end
section
theorem lo_cell {post : Int32 → Prop} {L : Nat} {xs : Nat → Int32} {x : Int32} (i : Nat) (hx : x = nI i) (hi : i < 6) (hL : L ≤ 6) (h : ∀ v, post v) : wpL_cellAt post L xs () x :=
  pk_le L i (fun _ => h 0) (fun z => ⟨pk_in i L z hx (by omega), h _⟩) rfl hx
theorem lo_three {post : Int32 → Prop} {x : Int32} (h : ∀ k, k ≤ 2 → post (nI k)) : wpL_three post () x := by
  obtain ⟨j, hj, e⟩ := pk_andE x (m := 255) 8 (by decide)
  unfold wpL_three
  rw [e, show (3 : Int32) = nI 3 from rfl, pk_rem (by omega) (by omega) (by omega)]
  exact ⟨by decide, h _ (by omega)⟩
theorem lo_ten11 {post : Int32 → Prop} {x : Int32} (h : ∀ k, k ≤ 10 → post (nI k)) : wpL_ten post () x := by
  obtain ⟨j, hj, e⟩ := pk_andE x (m := 255) 8 (by decide)
  unfold wpL_ten
  rw [e, show (11 : Int32) = nI 11 from rfl, pk_rem (by omega) (by omega) (by omega)]
  exact ⟨by decide, h _ (by omega)⟩
theorem lo_upd_1 {L : Nat → Int32} {a b c p q : Nat} (ha : a ≤ 2) (hb : b ≤ 2) (hc : c ≤ 2) (hL : ∀ i, i < 36 → L i = -1) (i : Nat) (hi : i < 36) : upd (upd L (9 * 0 + 3 * a + b) (nI p)) (9 * 1 + 3 * b + c) (nI q) i = lo_T a b c b c (nI p) (nI q) (nI q) i := by
  unfold lo_T
  by_cases z : i = 9 * 1 + 3 * b + c
  · rw [z, pk_us, if_pos (by omega)]
  · rw [pk_un z, if_neg (by omega), if_neg (by omega)]
    by_cases y : i = 9 * 0 + 3 * a + b
    · rw [y, pk_us, if_pos (by omega)]
    · rw [pk_un y, if_neg (by omega), hL i hi]
theorem lo_lawOf {post : Int32 → St0 → Prop} {mc ms : Nat} {p0 p1 p2 p3 p4 p5 : Int32} (h1 : 15 ≤ mc) (h2 : 579 ≤ ms) (h : post 1 ()) : wpL_lawOf post mc ms () p0 p1 p2 p3 p4 p5 := by
  unfold wpL_lawOf
  refine lo_three (fun a ha => lo_three (fun b hb => lo_three (fun c hc => lo_three (fun d hd => lo_three (fun e he => lo_ten11 (fun p hp => lo_ten11 (fun q hq => lo_ten11 (fun r hr => ?_))))))))
  refine ⟨by omega, by omega, 14, 560, by omega, by omega, lo_init (by omega) (by omega) (fun L W f hL => ?_)⟩
  obtain ⟨a5, a6, a7, a8, a9, a10, a11, a12, a13, a14⟩ := f
  refine lo_atom (x := 1) (a := 1) (b := 2) (m := 0) (by omega) (by omega) (by omega) (by decide) (br_t rfl ?_)
  refine lo_atom (A := lo_A1) (B := lo_B1) (x := 0) (a := 0) (b := 1) (m := 1) (by omega) (by omega) (by omega) (by decide) (br_t rfl ?_)
  refine lo_worlds (A := lo_A2) (B := lo_B2) (r := 0) (v := 0) (lo_wk_0 hL) (by decide) lo_s2 (by omega) (fun V hV => lo_use0 (fun i hi => by rw [hV i hi, hL i hi]; rfl)) (fun dp1 sh1 ex1 V1 f1 => ?_)
  obtain ⟨b5, b6, b7, b8, b9, b10, b11, b12, b13, b14⟩ := f1
  refine br_t (by decide) ?_
  refine lo_heavy0 hL (fun V2 => br_t rfl ?_)
  refine lo_row_new (x := 0) (r := 0) (by omega) ha hb hp (by omega) (by rw [hL _ (by omega)]; decide) (br_t rfl ?_)
  refine lo_row_new (x := 1) (r := 1) (by omega) hb hc hq (by omega) (by rw [pk_un (by omega), hL _ (by omega)]; decide) (br_t rfl ?_)
  have T := lo_upd_1 (L := L) (p := p) (q := q) ha hb hc hL
  generalize upd (upd L (9 * 0 + 3 * a + b) (nI p)) (9 * 1 + 3 * b + c) (nI q) = M at T ⊢
  have tt : lo_tot b c b c p q q = p * q := by
    unfold lo_tot
    rw [if_pos rfl, if_pos rfl]
  have hpq : p * q < 2 ^ 31 := Nat.lt_of_le_of_lt (Nat.mul_le_mul hp hq) (by decide)
  refine lo_weight (r := 2) (v := lN (lo_tot b c b c p q q)) lo_s2 (by omega) (fun V hV => lo_use ha hb hc hb hc hp hq hq (by rw [if_pos ⟨rfl, rfl⟩]) (fun i hi => (hV i hi).trans (T i hi))) (fun dp3 sh3 ex3 V3 f3 => ?_)
  obtain ⟨c5, c6, c7, c8, c9, c10, c11, c12, c13, c14⟩ := f3
  refine br_t (by rw [tt, pk_mul, nI_l hpq]) ?_
  refine lo_worlds (r := 2) (v := lN (lo_tot b c b c 5 5 5)) (lo_wk_L ha hb hc hb hc hp hq hq T) (by rw [if_pos ⟨rfl, rfl⟩]; decide) lo_s2 (by omega) (fun V hV => lo_use ha hb hc hb hc (by omega) (by omega) (by omega) (by rw [if_pos ⟨rfl, rfl⟩]) (fun i hi => (hV i hi).trans (by rw [T i hi]; exact lo_five hp hq hq))) (fun dp4 sh4 ex4 V4 f4 => ?_)
  obtain ⟨d5, d6, d7, d8, d9, d10, d11, d12, d13, d14⟩ := f4
  refine br_t ?_ ?_
  · rw [if_pos ⟨rfl, rfl⟩]
    unfold lo_tot
    rw [if_pos rfl, if_pos rfl]
    decide
  have e0 : M (3 * a + b) = nI p := by
    have := lo_A_at ha hb T
    rw [show 9 * 0 + 3 * a + b = 3 * a + b by omega] at this
    exact this
  have e1 : M (9 + 3 * b + c) = nI q := by
    have := lo_B_at hb hc hb hc T
    rw [if_pos ⟨rfl, rfl⟩] at this
    exact this
  refine lo_heavy2 ha hb hc hp hq e0 e1 (fun i hi y0 y1 => by rw [T i hi]; exact lo_T_in (by omega)) (fun V5 => br_t rfl ?_)
  refine pk_eq d b (fun z => pk_eq e c (fun y => ?_) (fun y => ?_)) (fun z => ?_)
  · exact lo_198 ha hb hc hd he hp hq hr ⟨fun x => absurd x (by decide), fun x => absurd ⟨z, y⟩ x⟩ T h
  · exact lo_198 ha hb hc hd he hp hq hr ⟨fun _ x => y x.2, fun _ => rfl⟩ T h
  · exact lo_198 ha hb hc hd he hp hq hr ⟨fun _ x => z x.1, fun _ => rfl⟩ T h
/-! ===== WHAT IS OWED for LiftedOddsLaw: one statement: the law answers true on every script of L ints xs ===== -/
theorem i_vc (xs : Nat → Int32) (L : Nat) (hL : L ≤ 6) : wpL_law (fun r => r = 1) L xs := by
  unfold wpL_law
  exact lo_cell 0 rfl (by omega) hL (fun _ => lo_cell 1 rfl (by omega) hL (fun _ => lo_cell 2 rfl (by omega) hL (fun _ => lo_cell 3 rfl (by omega) hL (fun _ => lo_cell 4 rfl (by omega) hL (fun _ => lo_cell 5 rfl (by omega) hL (fun _ => ⟨344, 5504, by omega, by omega, lo_lawOf (by omega) (by omega) rfl⟩))))))
end
