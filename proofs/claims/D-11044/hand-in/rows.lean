section
/-! pure picture: bits of words, the folds that the loops compute -/
def ss_b (i : Nat) : Int64 := (1 : Int64) <<< ((nI i).toInt64 &&& 63)
def ss_tb (w : Int64) (i : Nat) : Int64 := (w.toUInt64 >>> ((nI i).toInt64.toUInt64 &&& Int64.toUInt64 63)).toInt64 &&& 1
def ss_fw (W W0 : Nat → Int64) (f : Int64) : Nat → Int64
  | 0 => f
  | n + 1 => if W n = W0 n then ss_fw W W0 f n else ss_fw W W0 f n ||| ss_b n
def ss_fs (T T0 : Nat → Int32) (f : Int64) : Nat → Int64
  | 0 => f
  | n + 1 => if T n = T0 n then ss_fs T T0 f n else ss_fs T T0 f n ||| ss_b n
def ss_cir (C : Nat → Int64) : Nat → Int64
  | 0 => 0
  | n + 1 => ss_cir C n ||| (C n &&& ss_b n)
def ss_fau (K : Nat → Int32) : Nat → Int64
  | 0 => 0
  | n + 1 => if K n = 6 then ss_fau K n ||| ss_b n else ss_fau K n ||| 0
def ss_st (K : Nat → Int32) (C : Nat → Int64) (c fa : Int64) (i : Nat) : Int32 :=
  if (C i ||| ss_b i) &&& c = 0 then (if (C i ||| ss_b i) &&& fa = 0 then (if K i = 0 then 0 else 1) else 3) else 2
def ss_wait (T : Nat → Int32) (C : Nat → Int64) (f : Int64) : Nat → Int64
  | 0 => 0
  | n + 1 => if T n = 1 then (if (C n ||| ss_b n) &&& f = 0 then ss_wait T C f n else ss_wait T C f n ||| ss_b n) else ss_wait T C f n
/-- what a round of renew(c) needs of the picture: kinds K, words before and after W0 W, states before and after T0 T -/
def ss_ok (K : Nat → Int32) (W0 W : Nat → Int64) (T0 T : Nat → Int32) (c : Nat) : Prop :=
  (∀ i, i < 36 → ¬ K i = 3 ∧ ¬ K i = 4 ∧ ¬ K i = 5) ∧
  (∀ i, i < 36 → ¬ K i = 2 → W i = 0) ∧
  (∀ i, i < 36 → ∀ k, k < 36 → ss_tb (W i) k = 1 → W k = 0) ∧
  (∀ i, i < 36 → T i = ss_st K W (ss_cir W 36) (ss_fau K 36) i) ∧
  ss_wait T W (ss_fs T T0 (ss_fw W W0 (ss_b c) 36) 36) 36 = (if T c = 1 then ss_b c else 0) ∧
  W c &&& ss_b c = 0
theorem ss_fillI {g h s : Nat → Int32} {i k N : Nat} {x : Int32} (hk : k = i) (e : ∀ j, j < N → s j = if j < i then g j else h j) (hx : x = g i) : ∀ j, j < N → upd s k x j = if j < i + 1 then g j else h j := by
  intro j hj
  rw [hk]
  by_cases z : j = i
  · rw [z, pk_us, hx, if_pos (by omega)]
  · rw [pk_un z, e j hj]
    by_cases y : j < i
    · rw [if_pos y, if_pos (by omega)]
    · rw [if_neg y, if_neg (by omega)]
theorem ss_fillL {g h s : Nat → Int64} {i k N : Nat} {x : Int64} (hk : k = i) (e : ∀ j, j < N → s j = if j < i then g j else h j) (hx : x = g i) : ∀ j, j < N → vp_updL s k x j = if j < i + 1 then g j else h j := by
  intro j hj
  rw [hk]
  by_cases z : j = i
  · rw [z, pk_uLs, hx, if_pos (by omega)]
  · rw [pk_uLn z, e j hj]
    by_cases y : j < i
    · rw [if_pos y, if_pos (by omega)]
    · rw [if_neg y, if_neg (by omega)]
theorem ss_tbb : ∀ c, c < 36 → ∀ i, i < 36 → (ss_tb (ss_b c) i = 1 ↔ i = c) := by decide +kernel
theorem ss_tb0 : ∀ i, i < 36 → ¬ ss_tb 0 i = 1 := by decide +kernel
theorem ss_clr : ∀ c, c < 36 → ss_b c &&& (ss_b c ^^^ (-1)) = 0 := by decide +kernel
theorem ss_bne : ∀ c, c < 36 → ¬ ss_b c = 0 := by decide +kernel
/-! the pictures of this law: kinds at 0, 1, 7, 8 -/
def ss_K (k0 k1 k7 k8 : Int32) : Nat → Int32 := fun i => if i = 0 then k0 else if i = 1 then k1 else if i = 7 then k7 else if i = 8 then k8 else 0
def ss_W (k7 k8 : Int32) : Nat → Int64 := fun i => if i = 7 then (if k7 = 2 then 3 else 0) else if i = 8 then (if k8 = 2 then 6 else 0) else 0
def ss_T (k0 k1 k7 k8 : Int32) : Nat → Int32 := fun i => if i = 0 then (if k0 = 6 then 3 else if k0 = 0 then 0 else 1) else if i = 1 then (if k1 = 0 then 0 else 1) else if i = 7 then (if k7 = 0 then 0 else if k0 = 6 then 3 else 1) else if i = 8 then (if k8 = 0 then 0 else 1) else 0
def ss_k (p : Bool) : Int32 := if p then 1 else 0
theorem ss_ok_n0 : ss_ok (ss_K 1 0 0 0) (ss_W 0 0) (ss_W 0 0) (ss_T 0 0 0 0) (ss_T 1 0 0 0) 0 := by unfold ss_ok; decide +kernel
theorem ss_ok_n1 (p : Bool) : ss_ok (ss_K (ss_k p) 1 0 0) (ss_W 0 0) (ss_W 0 0) (ss_T (ss_k p) 0 0 0) (ss_T (ss_k p) 1 0 0) 1 := by
  unfold ss_ok; revert p; decide +kernel
theorem ss_ok_p7 (p q : Bool) : ss_ok (ss_K (ss_k p) (ss_k q) 2 0) (ss_W 0 0) (ss_W 2 0) (ss_T (ss_k p) (ss_k q) 0 0) (ss_T (ss_k p) (ss_k q) 2 0) 7 := by
  unfold ss_ok; revert p q; decide +kernel
theorem ss_ok_c8 (p q : Bool) : ss_ok (ss_K (ss_k p) (ss_k q) 2 2) (ss_W 2 0) (ss_W 2 2) (ss_T (ss_k p) (ss_k q) 2 0) (ss_T (ss_k p) (ss_k q) 2 2) 8 := by
  unfold ss_ok; revert p q; decide +kernel
theorem ss_ok_c0 (p q : Bool) : ss_ok (ss_K 6 (ss_k q) 2 2) (ss_W 2 2) (ss_W 2 2) (ss_T (ss_k p) (ss_k q) 2 2) (ss_T 6 (ss_k q) 2 2) 0 := by
  unfold ss_ok; revert p q; decide +kernel
theorem ss_ok_u8 (p q : Bool) : ss_ok (ss_K (ss_k p) (ss_k q) 0 0) (ss_W 0 0) (ss_W 0 0) (ss_T (ss_k p) (ss_k q) 0 0) (ss_T (ss_k p) (ss_k q) 0 0) 8 := by
  unfold ss_ok; revert p q; decide +kernel
theorem ss_ok_u0 (p q : Bool) : ss_ok (ss_K 0 (ss_k q) 0 0) (ss_W 0 0) (ss_W 0 0) (ss_T (ss_k p) (ss_k q) 0 0) (ss_T 0 (ss_k q) 0 0) 0 := by
  unfold ss_ok; revert p q; decide +kernel
end
section
/-! layOut without spreads; findWords; close over a flat graph -/
section
variable {post : St2 → Prop} {f : Int64} {a1 a2 a3 a4 a5 a6 a7 a8 a11 a12 a13 : Nat → Int32} {a9 a10 : Nat → Int64}
theorem ss_lay172 (he : ∀ i, i < 36 → a6 i = a7 i) (hp : post (f, a1, a2, a3, a4, a5, a6, a7, a8, a9, a10, a11, a12, a13)) :
    ∃ n, wX_layOut_172 post a1 a2 a3 a4 a5 a6 a7 a8 a9 a10 a11 a12 a13 n 0 f :=
  pk_loop (σ := Unit) (fun n i _ => wX_layOut_172 post a1 a2 a3 a4 a5 a6 a7 a8 a9 a10 a11 a12 a13 n (nI i) f) (fun _ _ => True) 36 0 () (by omega) trivial
    (fun n _ _ => pk_le 36 36 (fun _ => hp) (fun z => absurd z (by omega)))
    (fun n i _ hi _ hw => pk_le 36 i (fun z => absurd z (by omega)) (fun _ => ⟨pk_in i 36 hi, pk_in i 36 hi, br_t (by rw [nI_clamp (by omega)]; exact he i hi) (nm_r (nI_1 i) (hw () trivial))⟩))
theorem ss_lay75 {x1 : Int64} (h5 : ∀ i, i < 36 → ¬ a1 i = 5) (he : ∀ i, i < 36 → a6 i = a7 i) (hp : post (f, a1, a2, a3, a4, a5, a6, a7, a8, a9, a10, a11, a12, a13)) :
    ∃ n, wX_layOut_75 post x1 n 0 0 f a1 a2 a3 a4 a5 a6 a7 a8 a9 a10 a11 a12 a13 :=
  pk_loop (σ := Unit) (fun n i _ => wX_layOut_75 post x1 n 0 (nI i) f a1 a2 a3 a4 a5 a6 a7 a8 a9 a10 a11 a12 a13) (fun _ _ => True) 36 0 () (by omega) trivial
    (fun n _ _ => pk_le 36 36 (fun _ => ss_lay172 he hp) (fun z => absurd z (by omega)))
    (fun n i _ hi _ hw => pk_le 36 i (fun z => absurd z (by omega)) (fun _ => ⟨pk_in i 36 hi, br_f (by rw [nI_clamp (by omega)]; exact h5 i hi) (nm_r (nI_1 i) (hw () trivial))⟩))
theorem ss_lay27 {J : Int64 → Int32 → (Nat → Int32) → (Nat → Int32) → (Nat → Int32) → (Nat → Int32) → (Nat → Int32) → (Nat → Int32) → (Nat → Int32) → (Nat → Int32) → (Nat → Int64) → (Nat → Int64) → (Nat → Int32) → (Nat → Int32) → (Nat → Int32) → Prop} {i : Nat} {z0 z1 : Int64} (hi : i < 36)
    (h : J (z1 ||| z0) (nI (i + 1)) a1 a2 a3 a4 (upd a5 i (-2)) (upd a6 i (-2)) (upd a7 i (a6 i)) (upd a8 i 0) a9 a10 a11 a12 a13) :
    wX_layOut_27 post J (nI i) z0 z1 f a1 a2 a3 a4 a5 a6 a7 a8 a9 a10 a11 a12 a13 := by
  unfold wX_layOut_27
  rw [nI_clamp (show i < 2 ^ 31 by omega)]
  exact nm_e ⟨pk_in i 36 hi, pk_in i 36 hi, nm_e ⟨pk_in i 36 hi, nm_e ⟨pk_in i 36 hi, nm_e ⟨pk_in i 36 hi, nm_e (nm_r (nI_1 i) h)⟩⟩⟩⟩
def ss_I4 (i : Nat) (s : Int64 × (Nat → Int32) × (Nat → Int32) × (Nat → Int32) × (Nat → Int32)) : Prop :=
  (∀ j, j < 36 → s.2.2.1 j = -2) ∧ (∀ j, j < i → s.2.2.2.1 j = -2) ∧ (∀ j, j < i → s.2.2.2.2 j = 0)
theorem ss_I4s {i : Nat} (hi : i < 36) {x x' : Int64} {b5 b6 b7 b8 b5' : Nat → Int32} (h : ss_I4 i (x, b5, b6, b7, b8)) : ss_I4 (i + 1) (x', b5', upd b6 i (-2), upd b7 i (b6 i), upd b8 i 0) := by
  obtain ⟨h6, h7, h8⟩ := h
  dsimp only at h6 h7 h8
  refine ⟨fun j hj => ?_, fun j hj => ?_, fun j hj => ?_⟩ <;> dsimp only <;> by_cases e : j = i
  · rw [e, pk_us]
  · rw [pk_un e]; exact h6 j hj
  · rw [e, pk_us]; exact h6 i hi
  · rw [pk_un e]; exact h7 j (by omega)
  · rw [e, pk_us]
  · rw [pk_un e]; exact h8 j (by omega)
theorem ss_layOut (h5 : ∀ i, i < 36 → ¬ a1 i = 5) (h6 : ∀ i, i < 36 → a6 i = -2)
    (hp : ∀ b5 b6 b7 b8, (∀ i, i < 36 → b6 i = -2) → (∀ i, i < 36 → b8 i = 0) → post (f, a1, a2, a3, a4, b5, b6, b7, b8, a9, a10, a11, a12, a13)) :
    wpX_layOut post (f, a1, a2, a3, a4, a5, a6, a7, a8, a9, a10, a11, a12, a13) :=
  pk_loop (σ := Int64 × (Nat → Int32) × (Nat → Int32) × (Nat → Int32) × (Nat → Int32)) (fun n i s => wX_layOut_4 post f n s.1 (nI i) a1 a2 a3 a4 s.2.1 s.2.2.1 s.2.2.2.1 s.2.2.2.2 a9 a10 a11 a12 a13) ss_I4 36 0 (0, a5, a6, a7, a8) (by omega)
    ⟨h6, fun j hj => absurd hj (by omega), fun j hj => absurd hj (by omega)⟩
    (fun n s hI => pk_le 36 36 (fun _ => ss_lay75 h5 (fun i hi => (hI.1 i hi).trans (hI.2.1 i hi).symm) (hp _ _ _ _ hI.1 hI.2.2)) (fun z => absurd z (by omega)))
    (fun n i s hi hI hw => pk_le 36 i (fun z => absurd z (by omega)) (fun _ => ⟨pk_in i 36 hi,
      br_c (fun _ => ss_lay27 hi (hw (_, _, _, _, _) (ss_I4s hi hI))) (fun _ => ss_lay27 hi (hw (_, _, _, _, _) (ss_I4s hi hI)))⟩))
/-! findWords -/
theorem ss_w117 {J : Int32 → Int64 → (Nat → Int32) → (Nat → Int32) → (Nat → Int32) → (Nat → Int32) → (Nat → Int32) → (Nat → Int32) → (Nat → Int32) → (Nat → Int32) → (Nat → Int64) → (Nat → Int64) → (Nat → Int32) → (Nat → Int32) → (Nat → Int32) → Prop} {i : Nat} {w : Int64} (hi : i < 36)
    (h : J (nI (i + 1)) (if w = a9 i then f else f ||| ss_b i) a1 a2 a3 a4 a5 a6 a7 a8 (vp_updL a9 i w) a10 a11 a12 a13) :
    wX_findWords_117 post J (nI i) w f a1 a2 a3 a4 a5 a6 a7 a8 a9 a10 a11 a12 a13 := by
  unfold wX_findWords_117
  rw [nI_clamp (show i < 2 ^ 31 by omega)]
  refine ⟨pk_in i 36 hi, br_c (fun g => ⟨pk_in i 36 hi, nm_e (nm_r (nI_1 i) ?_)⟩) (fun g => nm_r (e' := f ||| ss_b i) rfl ⟨pk_in i 36 hi, nm_e (nm_r (nI_1 i) ?_)⟩)⟩
  · rw [if_pos g] at h; exact h
  · rw [if_neg g] at h; exact h
theorem ss_words {K : Nat → Int32} {W W0 : Nat → Int64} (h1 : ∀ i, i < 36 → a1 i = K i) (h34 : ∀ i, i < 36 → ¬ K i = 3 ∧ ¬ K i = 4 ∧ ¬ K i = 5) (h6 : ∀ i, i < 36 → a6 i = -2) (h9 : ∀ i, i < 36 → a9 i = W0 i)
    (hW0 : ∀ i, i < 36 → ¬ K i = 2 → W i = 0) (hW2 : ∀ i, i < 36 → K i = 2 → ((1 : Int64) <<< ((a2 i).toInt64 &&& 63)) ||| ((1 : Int64) <<< ((a3 i).toInt64 &&& 63)) = W i)
    (hp : ∀ b9, (∀ i, i < 36 → b9 i = W i) → post (ss_fw W W0 f 36, a1, a2, a3, a4, a5, a6, a7, a8, b9, a10, a11, a12, a13)) :
    wpX_findWords post (f, a1, a2, a3, a4, a5, a6, a7, a8, a9, a10, a11, a12, a13) :=
  pk_loop (σ := Int64 × (Nat → Int64)) (fun n i s => wX_findWords_2 post n (nI i) s.1 a1 a2 a3 a4 a5 a6 a7 a8 s.2 a10 a11 a12 a13) (fun i s => s.1 = ss_fw W W0 f i ∧ ∀ j, j < 36 → s.2 j = if j < i then W j else W0 j) 36 0 (f, a9) (by omega)
    ⟨rfl, fun j hj => by rw [if_neg (by omega)]; exact h9 j hj⟩
    (fun n s hI => pk_le 36 36 (fun _ => by rw [hI.1]; exact hp _ (fun i hi => by rw [hI.2 i hi, if_pos hi])) (fun z => absurd z (by omega)))
    (fun n i s hi hI hw => by
      have ck : (nI i).toNatClampNeg = i := nI_clamp (by omega)
      have s9 : s.2 i = W0 i := by rw [hI.2 i hi, if_neg (by omega)]
      have fin : wX_findWords_117 post (wX_findWords_2 post n) (nI i) (W i) s.1 a1 a2 a3 a4 a5 a6 a7 a8 s.2 a10 a11 a12 a13 := by
        refine ss_w117 hi (hw (_, _) ⟨?_, ss_fillL rfl hI.2 rfl⟩)
        dsimp only
        rw [s9, hI.1]
        rfl
      have k1 : ¬ a1 i = 3 := by rw [h1 i hi]; exact (h34 i hi).1
      have k2 : ¬ a1 i = 4 := by rw [h1 i hi]; exact (h34 i hi).2.1
      refine pk_le 36 i (fun z => absurd z (by omega)) (fun _ => ⟨pk_in i 36 hi, nm_r (e' := a1 i) (by rw [ck]) ⟨pk_in i 36 hi, br_t (by rw [ck]; exact h6 i hi) (br_c (fun g => ?_) (fun g => br_f k2 (br_f k1 ?_)))⟩⟩)
      · unfold wX_findWords_53
        rw [ck]
        refine ⟨pk_in i 36 hi, pk_in i 36 hi, nm_r (hW2 i hi (by rw [← h1 i hi]; exact g)) (br_f k2 ?_)⟩
        exact fin
      · rw [hW0 i hi (by rw [← h1 i hi]; exact g)] at fin
        exact fin)
/-! close -/
theorem ss_close28 {W : Nat → Int64} (hf : ∀ i, i < 36 → ∀ k, k < 36 → ss_tb (W i) k = 1 → W k = 0) (h10 : ∀ i, i < 36 → a10 i = W i)
    (hp : ∀ b10, (∀ i, i < 36 → b10 i = W i) → post (f, a1, a2, a3, a4, a5, a6, a7, a8, a9, b10, a11, a12, a13)) :
    ∃ n, wX_close_28 post f n 0 a1 a2 a3 a4 a5 a6 a7 a8 a9 a10 a11 a12 a13 :=
  pk_loop (fun n i s => wX_close_28 post f n (nI i) a1 a2 a3 a4 a5 a6 a7 a8 a9 s a11 a12 a13) (fun _ s => ∀ j, j < 36 → s j = W j) 36 0 a10 (by omega) h10
    (fun n s hI => pk_le 36 36 (fun _ => hp s hI) (fun z => absurd z (by omega)))
    (fun n o s ho hI hw => pk_le 36 o (fun z => absurd z (by omega)) (fun _ =>
      pk_loop (fun m i t => wX_close_36 post (wX_close_28 post f n) (nI o) f m (nI i) a1 a2 a3 a4 a5 a6 a7 a8 a9 t a11 a12 a13) (fun _ t => ∀ j, j < 36 → t j = W j) 36 0 s (by omega) hI
        (fun m t hT => pk_le 36 36 (fun _ => nm_r (nI_1 o) (hw t hT)) (fun z => absurd z (by omega)))
        (fun m i t hi hT hv => by
          have ck : (nI i).toNatClampNeg = i := nI_clamp (by omega)
          have co : (nI o).toNatClampNeg = o := nI_clamp (by omega)
          refine pk_le 36 i (fun z => absurd z (by omega)) (fun _ => ⟨pk_in i 36 hi, br_c (fun g => ⟨pk_in i 36 hi, pk_in o 36 ho, pk_in i 36 hi, nm_e (nm_r (nI_1 i) (hv _ (fun j hj => ?_)))⟩) (fun _ => nm_r (nI_1 i) (hv t hT))⟩)
          rw [ck] at g
          have g' : ss_tb (W i) o = 1 := by rw [← hT i hi]; exact g
          rw [ck, co]
          by_cases e : j = i
          · rw [e, pk_uLs, hT i hi, hT o ho, hf i hi o ho g', Int64.or_zero]
          · rw [pk_uLn e]; exact hT j hj)))
theorem ss_close {W : Nat → Int64} (hf : ∀ i, i < 36 → ∀ k, k < 36 → ss_tb (W i) k = 1 → W k = 0) (h9 : ∀ i, i < 36 → a9 i = W i)
    (hp : ∀ b10, (∀ i, i < 36 → b10 i = W i) → post (f, a1, a2, a3, a4, a5, a6, a7, a8, a9, b10, a11, a12, a13)) :
    wpX_close post (f, a1, a2, a3, a4, a5, a6, a7, a8, a9, a10, a11, a12, a13) :=
  pk_loop (fun n i s => wX_close_2 post f n (nI i) a1 a2 a3 a4 a5 a6 a7 a8 a9 s a11 a12 a13) (fun i s => ∀ j, j < 36 → s j = if j < i then W j else a10 j) 36 0 a10 (by omega) (fun j hj => by rw [if_neg (by omega)])
    (fun n s hI => pk_le 36 36 (fun _ => ss_close28 hf (fun i hi => by rw [hI i hi, if_pos hi]) hp) (fun z => absurd z (by omega)))
    (fun n i s hi hI hw => pk_le 36 i (fun z => absurd z (by omega)) (fun _ => ⟨pk_in i 36 hi, pk_in i 36 hi, nm_e (nm_r (nI_1 i) (hw _ (ss_fillL (nI_clamp (by omega)) hI (by rw [nI_clamp (by omega)]; exact h9 i hi))))⟩))
end
end
section
/-! findStates, workOut with at most one cell waiting, renew -/
section
variable {post : St2 → Prop} {f : Int64} {a1 a2 a3 a4 a5 a6 a7 a8 a11 a12 a13 : Nat → Int32} {a9 a10 : Nat → Int64}
theorem ss_s148 {J : Int32 → Int64 → (Nat → Int32) → (Nat → Int32) → (Nat → Int32) → (Nat → Int32) → (Nat → Int32) → (Nat → Int32) → (Nat → Int32) → (Nat → Int32) → (Nat → Int64) → (Nat → Int64) → (Nat → Int32) → (Nat → Int32) → (Nat → Int32) → Prop} {x1 x3 : Int64} {i : Nat} {w : Int32} (hi : i < 36)
    (h : J (nI (i + 1)) (if w = a11 i then f else f ||| ss_b i) a1 a2 a3 a4 a5 a6 a7 a8 a9 a10 (upd a11 i w) a12 a13) :
    wX_findStates_148 post J x1 x3 (nI i) w f a1 a2 a3 a4 a5 a6 a7 a8 a9 a10 a11 a12 a13 := by
  unfold wX_findStates_148
  rw [nI_clamp (show i < 2 ^ 31 by omega)]
  refine ⟨pk_in i 36 hi, br_c (fun g => ⟨pk_in i 36 hi, nm_e (nm_r (nI_1 i) ?_)⟩) (fun g => nm_r (e' := f ||| ss_b i) rfl ⟨pk_in i 36 hi, nm_e (nm_r (nI_1 i) ?_)⟩)⟩
  · rw [if_pos g] at h; exact h
  · rw [if_neg g] at h; exact h
theorem ss_s119 {J : Int32 → Int64 → (Nat → Int32) → (Nat → Int32) → (Nat → Int32) → (Nat → Int32) → (Nat → Int32) → (Nat → Int32) → (Nat → Int32) → (Nat → Int32) → (Nat → Int64) → (Nat → Int64) → (Nat → Int32) → (Nat → Int32) → (Nat → Int32) → Prop} {x1 x3 x6 : Int64} {x5 z0 : Int32}
    (h : wX_findStates_148 post J x1 x3 x5 (if x6 &&& x1 = 0 then (if x6 &&& x3 = 0 then z0 else 3) else 2) f a1 a2 a3 a4 a5 a6 a7 a8 a9 a10 a11 a12 a13) :
    wX_findStates_119 post J x1 x3 x5 x6 z0 f a1 a2 a3 a4 a5 a6 a7 a8 a9 a10 a11 a12 a13 := by
  unfold wX_findStates_119
  refine br_c (fun g => br_c (fun g2 => ?_) (fun g2 => ?_)) (fun g => ?_)
  · rw [if_pos g, if_pos g2] at h; exact h
  · rw [if_pos g, if_neg g2] at h; exact h
  · rw [if_neg g] at h; exact h
theorem ss_s71 {K T T0 : Nat → Int32} {W : Nat → Int64} {x1 x3 : Int64} (h1 : ∀ i, i < 36 → a1 i = K i) (h6 : ∀ i, i < 36 → a6 i = -2) (h10 : ∀ i, i < 36 → a10 i = W i) (h11 : ∀ i, i < 36 → a11 i = T0 i)
    (hT : ∀ i, i < 36 → T i = ss_st K W x1 x3 i)
    (hp : ∀ b11, (∀ i, i < 36 → b11 i = T i) → post (ss_fs T T0 f 36, a1, a2, a3, a4, a5, a6, a7, a8, a9, a10, b11, a12, a13)) :
    ∃ n, wX_findStates_71 post x1 x3 n 0 f a1 a2 a3 a4 a5 a6 a7 a8 a9 a10 a11 a12 a13 :=
  pk_loop (σ := Int64 × (Nat → Int32)) (fun n i s => wX_findStates_71 post x1 x3 n (nI i) s.1 a1 a2 a3 a4 a5 a6 a7 a8 a9 a10 s.2 a12 a13) (fun i s => s.1 = ss_fs T T0 f i ∧ ∀ j, j < 36 → s.2 j = if j < i then T j else T0 j) 36 0 (f, a11) (by omega)
    ⟨rfl, fun j hj => by rw [if_neg (by omega)]; exact h11 j hj⟩
    (fun n s hI => pk_le 36 36 (fun _ => by rw [hI.1]; exact hp _ (fun i hi => by rw [hI.2 i hi, if_pos hi])) (fun z => absurd z (by omega)))
    (fun n i s hi hI hw => by
      have ck : (nI i).toNatClampNeg = i := nI_clamp (by omega)
      have s11 : s.2 i = T0 i := by rw [hI.2 i hi, if_neg (by omega)]
      have fin : wX_findStates_148 post (wX_findStates_71 post x1 x3 n) x1 x3 (nI i) (T i) s.1 a1 a2 a3 a4 a5 a6 a7 a8 a9 a10 s.2 a12 a13 := by
        refine ss_s148 hi (hw (_, _) ⟨?_, ss_fillI rfl hI.2 rfl⟩)
        dsimp only
        rw [s11, hI.1]
        rfl
      rw [hT i hi] at fin
      unfold ss_st at fin
      refine pk_le 36 i (fun z => absurd z (by omega)) (fun _ => ⟨pk_in i 36 hi, nm_r (e' := W i ||| ss_b i) (by rw [ck, h10 i hi]; rfl) ⟨pk_in i 36 hi, br_c (fun g => ⟨pk_in i 36 hi, br_t (by rw [ck]; exact h6 i hi) (ss_s119 ?_)⟩) (fun g => ?_)⟩⟩)
      · rw [ck, h1 i hi] at g
        rw [if_pos g] at fin
        exact fin
      · rw [ck, h1 i hi] at g
        rw [if_neg g] at fin
        exact ss_s119 fin)
theorem ss_states {K T T0 : Nat → Int32} {W : Nat → Int64} (h1 : ∀ i, i < 36 → a1 i = K i) (h6 : ∀ i, i < 36 → a6 i = -2) (h8 : ∀ i, i < 36 → a8 i = 0) (h10 : ∀ i, i < 36 → a10 i = W i) (h11 : ∀ i, i < 36 → a11 i = T0 i)
    (hT : ∀ i, i < 36 → T i = ss_st K W (ss_cir W 36) (ss_fau K 36) i)
    (hp : ∀ b11, (∀ i, i < 36 → b11 i = T i) → post (ss_fs T T0 f 36, a1, a2, a3, a4, a5, a6, a7, a8, a9, a10, b11, a12, a13)) :
    wpX_findStates post (f, a1, a2, a3, a4, a5, a6, a7, a8, a9, a10, a11, a12, a13) :=
  pk_loop (σ := Int64 × Int64) (fun n i s => wX_findStates_7 post f a1 a2 a3 a4 a5 a6 a7 a8 a9 a10 a11 a12 a13 n s.1 s.2 (nI i)) (fun i s => s.1 = ss_cir W i ∧ s.2 = ss_fau K i) 36 0 (0, 0) (by omega) ⟨rfl, rfl⟩
    (fun n s hI => pk_le 36 36 (fun _ => ss_s71 h1 h6 h10 h11 (by rw [hI.1, hI.2]; exact hT) hp) (fun z => absurd z (by omega)))
    (fun n i s hi hI hw => by
      have ck : (nI i).toNatClampNeg = i := nI_clamp (by omega)
      refine pk_le 36 i (fun z => absurd z (by omega)) (fun _ => ⟨pk_in i 36 hi, nm_r (e' := ss_cir W (i + 1)) (by rw [ck, h10 i hi, hI.1]; rfl) ⟨pk_in i 36 hi, br_t (by rw [ck]; exact h8 i hi) ⟨pk_in i 36 hi, br_c (fun g => ?_) (fun g => ?_)⟩⟩⟩)
      · rw [ck, h1 i hi] at g
        refine nm_r (e' := ss_fau K (i + 1)) (by rw [hI.2, ss_fau, if_pos g]; rfl) (nm_r (nI_1 i) (hw (_, _) ⟨rfl, rfl⟩))
      · rw [ck, h1 i hi] at g
        refine nm_r (e' := ss_fau K (i + 1)) (by rw [hI.2, ss_fau, if_neg g]) (nm_r (nI_1 i) (hw (_, _) ⟨rfl, rfl⟩)))
/-! workOut -/
theorem ss_work83 {J : Int64 → Int32 → (Nat → Int32) → (Nat → Int32) → (Nat → Int32) → (Nat → Int32) → (Nat → Int32) → (Nat → Int32) → (Nat → Int32) → (Nat → Int32) → (Nat → Int64) → (Nat → Int64) → (Nat → Int32) → (Nat → Int32) → (Nat → Int32) → Prop} {c : Nat} {v : Int32} (hc : c < 36) (h9 : a9 c &&& ss_b c = 0)
    (hv : ∀ ψ : Int32 → Prop, ψ v → wpX_valueNow ψ (f, a1, a2, a3, a4, a5, a6, a7, a8, a9, a10, a11, a12, a13) (nI c))
    (hp : J 0 (nI 1) a1 a2 a3 a4 a5 a6 a7 a8 a9 a10 a11 (upd a12 c v) a13) :
    ∃ n, wX_workOut_83 post J 0 f n (ss_b c) 0 a1 a2 a3 a4 a5 a6 a7 a8 a9 a10 a11 a12 a13 :=
  pk_loop (σ := Int64 × (Nat → Int32)) (fun n i s => wX_workOut_83 post J 0 f n s.1 (nI i) a1 a2 a3 a4 a5 a6 a7 a8 a9 a10 a11 s.2 a13) (fun i s => (i ≤ c → s = (ss_b c, a12)) ∧ (c < i → s = (0, upd a12 c v))) 36 0 (ss_b c, a12) (by omega)
    ⟨fun _ => rfl, fun z => absurd z (by omega)⟩
    (fun n s hI => by
      have e := hI.2 hc
      subst e
      exact pk_le 36 36 (fun _ => nm_r (e' := nI 1) rfl hp) (fun z => absurd z (by omega)))
    (fun n i s hi hI hw => by
      have ck : (nI i).toNatClampNeg = i := nI_clamp (by omega)
      refine pk_le 36 i (fun z => absurd z (by omega)) (fun _ => ?_)
      by_cases l : i < c
      · have e := hI.1 (by omega)
        subst e
        have t : ¬ ss_tb (ss_b c) i = 1 := fun z => absurd ((ss_tbb c hc i hi).mp z) (by omega)
        exact br_f t (nm_r (nI_1 i) (hw (_, _) ⟨fun _ => rfl, fun z => absurd z (by omega)⟩))
      · by_cases q : i = c
        · subst q
          have e := hI.1 (by omega)
          subst e
          have t : ss_tb (ss_b i) i = 1 := (ss_tbb i hi i hi).mpr rfl
          refine br_t t ⟨pk_in i 36 hi, br_t (by rw [ck]; exact h9) (hv _ ⟨pk_in i 36 hi, nm_r (e' := upd a12 i v) (by rw [ck]) (nm_r (e' := 0) (ss_clr i hi) (nm_r (nI_1 i) (hw (_, _) ⟨fun z => absurd z (by omega), fun _ => rfl⟩)))⟩)⟩
        · have e := hI.2 (by omega)
          subst e
          have t : ¬ ss_tb 0 i = 1 := ss_tb0 i hi
          exact br_f t (nm_r (nI_1 i) (hw (_, _) ⟨fun z => absurd z (by omega), fun _ => rfl⟩)))
def ss_V (T : Nat → Int32) (c : Nat) (v : Int32) (V : Nat → Int32) : Nat → Int32 := fun i => if T i = 1 then (if i = c then v else V i) else 0
def ss_Z (T V : Nat → Int32) : Nat → Int32 := fun i => if T i = 1 then V i else 0
theorem ss_work68 {T V : Nat → Int32} {c : Nat} {v : Int32} {x1 : Int64} (hc : c < 36) (h9 : a9 c &&& ss_b c = 0) (hx : x1 = if T c = 1 then ss_b c else 0) (h12 : ∀ i, i < 36 → a12 i = ss_Z T V i)
    (hv : T c = 1 → ∀ ψ : Int32 → Prop, ψ v → wpX_valueNow ψ (f, a1, a2, a3, a4, a5, a6, a7, a8, a9, a10, a11, a12, a13) (nI c))
    (hp : ∀ b12, (∀ i, i < 36 → b12 i = ss_V T c v V i) → post (f, a1, a2, a3, a4, a5, a6, a7, a8, a9, a10, a11, b12, a13)) :
    ∃ n, wX_workOut_68 post f n x1 0 a1 a2 a3 a4 a5 a6 a7 a8 a9 a10 a11 a12 a13 := by
  by_cases g : T c = 1
  · rw [if_pos g] at hx
    subst hx
    refine ⟨2, br_f (by decide) (br_f (ss_bne c hc) (ss_work83 hc h9 (hv g) ?_))⟩
    refine br_f (by decide) (br_t rfl (hp _ (fun i hi => ?_)))
    unfold ss_V
    by_cases e : i = c
    · rw [e, pk_us, if_pos g, if_pos rfl]
    · rw [pk_un e, if_neg e]
      exact h12 i hi
  · rw [if_neg g] at hx
    subst hx
    refine ⟨1, br_f (by decide) (br_t rfl (hp _ (fun i hi => ?_)))⟩
    rw [h12 i hi]
    unfold ss_V ss_Z
    by_cases e : i = c
    · rw [e, if_neg g, if_neg g]
    · rw [if_neg e]
theorem ss_work {T V : Nat → Int32} {W : Nat → Int64} {c : Nat} {v : Int32} (hc : c < 36) (h9 : ∀ i, i < 36 → a9 i = W i) (h10 : ∀ i, i < 36 → a10 i = W i) (h11 : ∀ i, i < 36 → a11 i = T i) (h12 : ∀ i, i < 36 → a12 i = V i)
    (hWc : W c &&& ss_b c = 0) (hwt : ss_wait T W f 36 = if T c = 1 then ss_b c else 0)
    (hv : T c = 1 → ∀ b12 : Nat → Int32, (∀ i, i < 36 → b12 i = ss_Z T V i) → ∀ ψ : Int32 → Prop, ψ v → wpX_valueNow ψ (f, a1, a2, a3, a4, a5, a6, a7, a8, a9, a10, a11, b12, a13) (nI c))
    (hp : ∀ b12, (∀ i, i < 36 → b12 i = ss_V T c v V i) → post (f, a1, a2, a3, a4, a5, a6, a7, a8, a9, a10, a11, b12, a13)) :
    wpX_workOut post (f, a1, a2, a3, a4, a5, a6, a7, a8, a9, a10, a11, a12, a13) :=
  pk_loop (σ := Int64 × (Nat → Int32)) (fun n i s => wX_workOut_4 post f n s.1 (nI i) a1 a2 a3 a4 a5 a6 a7 a8 a9 a10 a11 s.2 a13) (fun i s => s.1 = ss_wait T W f i ∧ ∀ j, j < 36 → s.2 j = if j < i then ss_Z T V j else V j) 36 0 (0, a12) (by omega)
    ⟨rfl, fun j hj => by rw [if_neg (by omega)]; exact h12 j hj⟩
    (fun n s hI => by
      have z12 : ∀ i, i < 36 → s.2 i = ss_Z T V i := fun i hi => by rw [hI.2 i hi, if_pos hi]
      exact pk_le 36 36 (fun _ => ss_work68 hc (by rw [h9 c hc]; exact hWc) (hI.1.trans hwt) z12 (fun g => hv g _ z12) hp) (fun z => absurd z (by omega)))
    (fun n i s hi hI hw => by
      have ck : (nI i).toNatClampNeg = i := nI_clamp (by omega)
      have same : T i = 1 → ∀ j, j < 36 → s.2 j = if j < i + 1 then ss_Z T V j else V j := by
        intro g j hj
        rw [hI.2 j hj]
        by_cases e : j = i
        · rw [if_neg (by omega), if_pos (by omega), e]
          unfold ss_Z
          rw [if_pos g]
        · by_cases y : j < i
          · rw [if_pos y, if_pos (by omega)]
          · rw [if_neg y, if_neg (by omega)]
      refine pk_le 36 i (fun z => absurd z (by omega)) (fun _ => ⟨pk_in i 36 hi, nm_r (e' := W i ||| ss_b i) (by rw [ck, h10 i hi]; rfl) ⟨pk_in i 36 hi, br_c (fun g => br_c (fun g2 => ?_) (fun g2 => ?_)) (fun g => ?_)⟩⟩)
      · rw [ck, h11 i hi] at g
        exact nm_r (nI_1 i) (hw (_, _) ⟨by dsimp only; rw [ss_wait, if_pos g, if_pos g2]; exact hI.1, same g⟩)
      · rw [ck, h11 i hi] at g
        exact nm_r (e' := ss_wait T W f (i + 1)) (by rw [ss_wait, if_pos g, if_neg g2, hI.1]; rfl) (nm_r (nI_1 i) (hw (_, _) ⟨rfl, same g⟩))
      · rw [ck, h11 i hi] at g
        refine ⟨pk_in i 36 hi, nm_r (e' := upd s.2 i 0) (by rw [ck]) (nm_r (nI_1 i) (hw (_, _) ⟨by dsimp only; rw [ss_wait, if_neg g]; exact hI.1, ss_fillI rfl hI.2 ?_⟩))⟩
        unfold ss_Z
        rw [if_neg g])
theorem ss_renew {K T0 T V : Nat → Int32} {W0 W : Nat → Int64} {c : Nat} {v : Int32} (hc : c < 36) (ok : ss_ok K W0 W T0 T c)
    (h1 : ∀ i, i < 36 → a1 i = K i) (h6 : ∀ i, i < 36 → a6 i = -2) (h9 : ∀ i, i < 36 → a9 i = W0 i) (h11 : ∀ i, i < 36 → a11 i = T0 i) (h12 : ∀ i, i < 36 → a12 i = V i)
    (hW2 : ∀ i, i < 36 → K i = 2 → ((1 : Int64) <<< ((a2 i).toInt64 &&& 63)) ||| ((1 : Int64) <<< ((a3 i).toInt64 &&& 63)) = W i)
    (hv : T c = 1 → ∀ (f' : Int64) (b5 b6 b7 b8 b11 b12 : Nat → Int32) (b9 b10 : Nat → Int64), (∀ i, i < 36 → b6 i = -2) → (∀ i, i < 36 → b12 i = ss_Z T V i) → ∀ ψ : Int32 → Prop, ψ v → wpX_valueNow ψ (f', a1, a2, a3, a4, b5, b6, b7, b8, b9, b10, b11, b12, a13) (nI c))
    (hp : ∀ (f' : Int64) (b5 b6 b7 b8 b11 b12 : Nat → Int32) (b9 b10 : Nat → Int64), (∀ i, i < 36 → b6 i = -2) → (∀ i, i < 36 → b9 i = W i) → (∀ i, i < 36 → b11 i = T i) → (∀ i, i < 36 → b12 i = ss_V T c v V i) → post (f', a1, a2, a3, a4, b5, b6, b7, b8, b9, b10, b11, b12, a13)) :
    wpX_renew post (f, a1, a2, a3, a4, a5, a6, a7, a8, a9, a10, a11, a12, a13) (nI c) := by
  obtain ⟨o1, o2, o3, o4, o5, o6⟩ := ok
  unfold wpX_renew
  refine nm_r (e' := ss_b c) rfl ?_
  refine ss_layOut (fun i hi => by rw [h1 i hi]; exact (o1 i hi).2.2) h6 (fun b5 b6 b7 b8 g6 g8 => ?_)
  refine ss_words h1 o1 g6 h9 o2 hW2 (fun b9 g9 => ?_)
  refine ss_close o3 g9 (fun b10 g10 => ?_)
  refine ss_states h1 g6 g8 g10 h11 o4 (fun b11 g11 => ?_)
  refine ss_work (v := v) hc g9 g10 g11 h12 o6 o5 (fun g b12 g12 ψ hψ => hv g _ _ _ _ _ _ _ _ _ g6 g12 ψ hψ) (fun b12 g12 => ?_)
  exact hp _ _ _ _ _ _ _ _ _ g6 g9 g11 g12
end
end
section
/-! the methods that the law calls, over the law's own pictures -/
def ss_comb (op a b : Int32) : Int32 := if op = 0 then a + b else if op = 1 then a - b else if op = 2 then a * b else if op = 3 then (if b ≤ a then b else a) else (if a ≤ b then b else a)
theorem ss_combine {post : Int32 → Prop} {op a b : Int32} (hp : post (ss_comb op a b)) : wpL_combine post () op a b := by
  unfold ss_comb at hp
  unfold wpL_combine
  refine br_c (fun g => ?_) (fun g => br_c (fun g1 => ?_) (fun g1 => br_c (fun g2 => ?_) (fun g2 => br_c (fun g3 => br_c (fun g4 => ?_) (fun g4 => ?_)) (fun g3 => br_c (fun g4 => ?_) (fun g4 => ?_)))))
  · rw [if_pos g] at hp; exact hp
  · rw [if_neg g, if_pos g1] at hp; exact hp
  · rw [if_neg g, if_neg g1, if_pos g2] at hp; exact hp
  · rw [if_neg g, if_neg g1, if_neg g2, if_pos g3, if_pos g4] at hp; exact hp
  · rw [if_neg g, if_neg g1, if_neg g2, if_pos g3, if_neg g4] at hp; exact hp
  · rw [if_neg g, if_neg g1, if_neg g2, if_neg g3, if_pos g4] at hp; exact hp
  · rw [if_neg g, if_neg g1, if_neg g2, if_neg g3, if_neg g4] at hp; exact hp
theorem ss_combined {post : Int32 → Prop} {op a b : Int32} (hp : post (ss_comb op a b)) : wpX_combined post () op a b := by
  unfold ss_comb at hp
  unfold wpX_combined
  refine br_c (fun g => ?_) (fun g => br_c (fun g1 => ?_) (fun g1 => br_c (fun g2 => ?_) (fun g2 => br_c (fun g3 => br_c (fun g4 => br_t rfl ?_) (fun g4 => br_f (by decide) ?_)) (fun g3 => br_c (fun g4 => br_t rfl ?_) (fun g4 => br_f (by decide) ?_)))))
  · rw [if_pos g] at hp; exact hp
  · rw [if_neg g, if_pos g1] at hp; exact hp
  · rw [if_neg g, if_neg g1, if_pos g2] at hp; exact hp
  · rw [if_neg g, if_neg g1, if_neg g2, if_pos g3, if_pos g4] at hp; exact hp
  · rw [if_neg g, if_neg g1, if_neg g2, if_pos g3, if_neg g4] at hp; exact hp
  · rw [if_neg g, if_neg g1, if_neg g2, if_neg g3, if_pos g4] at hp; exact hp
  · rw [if_neg g, if_neg g1, if_neg g2, if_neg g3, if_neg g4] at hp; exact hp
def ss_mvf (p0 p1 p2 : Int32) : Int32 :=
  if p0 / 6 + p1 < 0 then -1 else if 6 ≤ p0 / 6 + p1 then -1 else if (p0 - p0 / 6 * 6) + p2 < 0 then -1 else if 6 ≤ (p0 - p0 / 6 * 6) + p2 then -1 else 6 * (p0 / 6 + p1) + ((p0 - p0 / 6 * 6) + p2)
theorem ss_moved {post : Int32 → Prop} {p0 p1 p2 : Int32} (r : Int32) (h : ss_mvf p0 p1 p2 = r) (hp : post r) : wpX_moved post () p0 p1 p2 := by
  subst h
  unfold ss_mvf at hp
  unfold wpX_moved
  refine ⟨by decide, nm_e ⟨by decide, nm_e (br_c (fun g => br_t rfl ?_) (fun g => br_c (fun g1 => br_t rfl ?_) (fun g1 => br_c (fun g2 => br_t rfl ?_) (fun g2 => br_c (fun g3 => br_t rfl ?_) (fun g3 => br_f (by decide) ?_)))))⟩⟩
  · rw [if_pos g] at hp; exact hp
  · rw [if_neg g, if_pos g1] at hp; exact hp
  · rw [if_neg g, if_neg g1, if_pos g2] at hp; exact hp
  · rw [if_neg g, if_neg g1, if_neg g2, if_pos g3] at hp; exact hp
  · rw [if_neg g, if_neg g1, if_neg g2, if_neg g3] at hp; exact hp
theorem ss_isCell {post : Int32 → Prop} (c : Nat) (hc : c < 36) (hp : post 1) : wpX_isCell post () (nI c) :=
  br_f (nI_pos (by omega)) (pk_le 36 c (fun z => absurd z (by omega)) (fun _ => hp))
section
variable {f : Int64} {a1 a2 a3 a4 a5 a6 a7 a8 a11 a12 a13 : Nat → Int32} {a9 a10 : Nat → Int64}
theorem ss_write {post : St2 → Prop} {c : Nat} {kd A B C : Int32} (hc : c < 36) (hp : post (f, upd a1 c kd, upd a2 c A, upd a3 c B, upd a4 c C, a5, a6, a7, a8, a9, a10, a11, a12, a13)) :
    wpX_write post (f, a1, a2, a3, a4, a5, a6, a7, a8, a9, a10, a11, a12, a13) (nI c) kd A B C := by
  unfold wpX_write
  dsimp only
  rw [nI_clamp (show c < 2 ^ 31 by omega)]
  exact ⟨pk_in c 36 hc, nm_e ⟨pk_in c 36 hc, nm_e ⟨pk_in c 36 hc, nm_e ⟨pk_in c 36 hc, nm_e hp⟩⟩⟩⟩
theorem ss_vn1 {c : Nat} {v : Int32} (hc : c < 36) (h6 : a6 c = -2) (h1 : a1 c = 1) (h2 : a2 c = v) {ψ : Int32 → Prop} (hψ : ψ v) :
    wpX_valueNow ψ (f, a1, a2, a3, a4, a5, a6, a7, a8, a9, a10, a11, a12, a13) (nI c) := by
  unfold wpX_valueNow
  dsimp only
  rw [nI_clamp (show c < 2 ^ 31 by omega), h2]
  exact ⟨pk_in c 36 hc, br_t h6 ⟨pk_in c 36 hc, nm_r h1 (br_t rfl ⟨pk_in c 36 hc, hψ⟩)⟩⟩
theorem ss_vn2 {c i j : Nat} {op va vb : Int32} (hc : c < 36) (hi : i < 36) (hj : j < 36) (h6 : a6 c = -2) (h1 : a1 c = 2) (h2 : a2 c = nI i) (h3 : a3 c = nI j) (h4 : a4 c = op) (ha : a12 i = va) (hb : a12 j = vb) {ψ : Int32 → Prop} (hψ : ψ (ss_comb op va vb)) :
    wpX_valueNow ψ (f, a1, a2, a3, a4, a5, a6, a7, a8, a9, a10, a11, a12, a13) (nI c) := by
  unfold wpX_valueNow
  dsimp only
  rw [nI_clamp (show c < 2 ^ 31 by omega), h2, h3, h4, nI_clamp (show i < 2 ^ 31 by omega), nI_clamp (show j < 2 ^ 31 by omega)]
  refine ⟨pk_in c 36 hc, br_t h6 ⟨pk_in c 36 hc, nm_r h1 (br_f (by decide) (br_f (by decide) ⟨pk_in c 36 hc, pk_in i 36 hi, nm_r ha ⟨pk_in c 36 hc, pk_in j 36 hj, nm_r hb (br_f (by decide) ⟨pk_in c 36 hc, ss_combined hψ⟩)⟩⟩))⟩⟩
theorem ss_u0 {a : Nat → Int32} {k0 k1 k7 k8 x : Int32} (h : ∀ i, i < 36 → a i = ss_K k0 k1 k7 k8 i) : ∀ i, i < 36 → upd a 0 x i = ss_K x k1 k7 k8 i := by
  intro i hi
  by_cases e : i = 0
  · rw [e, pk_us]; rfl
  · rw [pk_un e, h i hi]; simp only [ss_K, e, if_false]
theorem ss_u1 {a : Nat → Int32} {k0 k1 k7 k8 x : Int32} (h : ∀ i, i < 36 → a i = ss_K k0 k1 k7 k8 i) : ∀ i, i < 36 → upd a 1 x i = ss_K k0 x k7 k8 i := by
  intro i hi
  by_cases e : i = 1
  · rw [e, pk_us]; rfl
  · rw [pk_un e, h i hi]; simp only [ss_K, e, if_false]
theorem ss_u7 {a : Nat → Int32} {k0 k1 k7 k8 x : Int32} (h : ∀ i, i < 36 → a i = ss_K k0 k1 k7 k8 i) : ∀ i, i < 36 → upd a 7 x i = ss_K k0 k1 x k8 i := by
  intro i hi
  by_cases e : i = 7
  · rw [e, pk_us]; rfl
  · rw [pk_un e, h i hi]; simp only [ss_K, e, if_false]
theorem ss_u8 {a : Nat → Int32} {k0 k1 k7 k8 x : Int32} (h : ∀ i, i < 36 → a i = ss_K k0 k1 k7 k8 i) : ∀ i, i < 36 → upd a 8 x i = ss_K k0 k1 k7 x i := by
  intro i hi
  by_cases e : i = 8
  · rw [e, pk_us]; rfl
  · rw [pk_un e, h i hi]; simp only [ss_K, e, if_false]
end
theorem ss_pt {P : Nat → Prop} (h0 : P 0) (h1 : P 1) (h7 : P 7) (h8 : P 8) (hr : ∀ i, ¬ i = 0 → ¬ i = 1 → ¬ i = 7 → ¬ i = 8 → P i) : ∀ i, i < 36 → P i := by
  intro i _
  by_cases e0 : i = 0
  · rw [e0]; exact h0
  · by_cases e1 : i = 1
    · rw [e1]; exact h1
    · by_cases e7 : i = 7
      · rw [e7]; exact h7
      · by_cases e8 : i = 8
        · rw [e8]; exact h8
        · exact hr i e0 e1 e7 e8
/-- cells whose kind is 2: only 7 and 8 -/
theorem ss_no2 {k0 k1 : Int32} (n0 : ¬ k0 = 2) (n1 : ¬ k1 = 2) {P : Nat → Prop} (k7 k8 : Int32) (h7 : k7 = 2 → P 7) (h8 : k8 = 2 → P 8) : ∀ i, i < 36 → ss_K k0 k1 k7 k8 i = 2 → P i :=
  ss_pt (P := fun i => ss_K k0 k1 k7 k8 i = 2 → P i) (fun z => absurd z n0) (fun z => absurd z n1) h7 h8 (fun i e0 e1 e7 e8 z => by
    simp only [ss_K, e0, e1, e7, e8, if_false] at z
    exact absurd z (by decide))
theorem ss_kn (p : Bool) : ¬ ss_k p = 2 := by cases p <;> decide
def ss_R (k0 k1 k7 k8 a b w z : Int32) (u : St2) : Prop := match u with
  | (_, a1, _, _, _, _, a6, _, _, a9, _, a11, a12, _) => (∀ i, i < 36 → a1 i = ss_K k0 k1 k7 k8 i) ∧ (∀ i, i < 36 → a6 i = -2) ∧ (∀ i, i < 36 → a9 i = ss_W k7 k8 i) ∧ (∀ i, i < 36 → a11 i = ss_T k0 k1 k7 k8 i) ∧ (∀ i, i < 36 → a12 i = ss_K a b w z i)
def ss_P7 (op : Int32) (u : St2) : Prop := match u with
  | (_, _, a2, a3, a4, _, _, _, _, _, _, _, _, _) => a2 7 = nI 0 ∧ a3 7 = nI 1 ∧ a4 7 = op
def ss_P8 (u : St2) : Prop := match u with
  | (_, _, a2, a3, _, _, _, _, _, _, _, _, _, _) => a2 8 = nI 1 ∧ a3 8 = nI 2
theorem ss_value {post : Int32 → Prop} {k0 k1 k7 k8 a b w z : Int32} {u : St2} (c : Nat) (hc : c < 36) (hR : ss_R k0 k1 k7 k8 a b w z u) (hp : post (ss_K a b w z c)) : wpX_value post u (nI c) := by
  obtain ⟨f, a1, a2, a3, a4, a5, a6, a7, a8, a9, a10, a11, a12, a13⟩ := u
  unfold wpX_value
  dsimp only
  rw [nI_clamp (show c < 2 ^ 31 by omega), hR.2.2.2.2 c hc]
  exact ss_isCell c hc (br_f (by decide) ⟨pk_in c 36 hc, hp⟩)
theorem ss_state {post : Int32 → Prop} {k0 k1 k7 k8 a b w z : Int32} {u : St2} (c : Nat) (hc : c < 36) (hR : ss_R k0 k1 k7 k8 a b w z u) (hp : post (ss_T k0 k1 k7 k8 c)) : wpX_state post u (nI c) := by
  obtain ⟨f, a1, a2, a3, a4, a5, a6, a7, a8, a9, a10, a11, a12, a13⟩ := u
  unfold wpX_state
  dsimp only
  rw [nI_clamp (show c < 2 ^ 31 by omega), hR.2.2.2.1 c hc]
  exact ss_isCell c hc (br_f (by decide) ⟨pk_in c 36 hc, hp⟩)
theorem ss_kind {post : Int32 → Prop} {k0 k1 k7 k8 a b w z : Int32} {u : St2} (c : Nat) (hc : c < 36) (hR : ss_R k0 k1 k7 k8 a b w z u) (hp : post (ss_K k0 k1 k7 k8 c)) : wpX_kind post u (nI c) := by
  obtain ⟨f, a1, a2, a3, a4, a5, a6, a7, a8, a9, a10, a11, a12, a13⟩ := u
  unfold wpX_kind
  dsimp only
  rw [nI_clamp (show c < 2 ^ 31 by omega), hR.1 c hc]
  exact ss_isCell c hc (br_f (by decide) ⟨pk_in c 36 hc, hp⟩)
end
section
/-! number, pair and copy as the law calls them -/
theorem ss_num0 {post : Int32 → St2 → Prop} {u : St2} {x a : Int32} (ha : ((x < -1000 ∨ ¬ x ≤ 1000) ∧ a = 0) ∨ (¬ x < -1000 ∧ x ≤ 1000 ∧ a = x)) (hR : ss_R 0 0 0 0 0 0 0 0 u)
    (hp : ∀ (r : Int32) (u' : St2) (p : Bool), (p = false → a = 0) → ss_R (ss_k p) 0 0 0 a 0 0 0 u' → post r u') : wpX_number post u 0 x := by
  obtain ⟨f, a1, a2, a3, a4, a5, a6, a7, a8, a9, a10, a11, a12, a13⟩ := u
  obtain ⟨r1, r6, r9, r11, r12⟩ := hR
  unfold wpX_number
  refine ss_isCell 0 (by decide) (br_f (by decide) ?_)
  rcases ha with ⟨hx, rfl⟩ | ⟨h1, h2, rfl⟩
  · have old : ∀ r, post r (f, a1, a2, a3, a4, a5, a6, a7, a8, a9, a10, a11, a12, a13) := fun r => hp r _ false (fun _ => rfl) ⟨r1, r6, r9, r11, r12⟩
    rcases hx with g | g
    · exact br_t g (old _)
    · exact br_c (fun _ => old _) (fun _ => br_f g (old _))
  · refine br_f h1 (br_t h2 ?_)
    refine ss_write (c := 0) (by decide) ?_
    refine ss_renew (c := 0) (v := a) (by decide) ss_ok_n0 (ss_u0 r1) r6 r9 r11 r12 ?_ ?_ ?_
    · exact ss_no2 (by decide) (by decide) _ _ (fun z => absurd z (by decide)) (fun z => absurd z (by decide))
    · intro _ f' b5 b6 b7 b8 b11 b12 b9 b10 g6 g12 ψ hψ
      exact ss_vn1 (by decide) (g6 0 (by decide)) pk_us pk_us hψ
    · intro f' b5 b6 b7 b8 b11 b12 b9 b10 g6 g9 g11 g12
      refine hp _ _ true (fun z => absurd z (by decide)) ⟨ss_u0 r1, g6, g9, g11, fun i hi => (g12 i hi).trans ?_⟩
      revert i
      refine ss_pt rfl rfl rfl rfl (fun i e0 e1 e7 e8 => ?_)
      simp [ss_V, ss_T, ss_K, e0, e1, e7, e8]
theorem ss_num1 {post : Int32 → St2 → Prop} {u : St2} {p : Bool} {y a b : Int32} (hb : ((y < -1000 ∨ ¬ y ≤ 1000) ∧ b = 0) ∨ (¬ y < -1000 ∧ y ≤ 1000 ∧ b = y)) (hpa : p = false → a = 0) (hR : ss_R (ss_k p) 0 0 0 a 0 0 0 u)
    (hp : ∀ (r : Int32) (u' : St2) (q : Bool), (q = false → b = 0) → ss_R (ss_k p) (ss_k q) 0 0 a b 0 0 u' → post r u') : wpX_number post u 1 y := by
  obtain ⟨f, a1, a2, a3, a4, a5, a6, a7, a8, a9, a10, a11, a12, a13⟩ := u
  obtain ⟨r1, r6, r9, r11, r12⟩ := hR
  unfold wpX_number
  refine ss_isCell 1 (by decide) (br_f (by decide) ?_)
  rcases hb with ⟨hx, rfl⟩ | ⟨h1, h2, rfl⟩
  · have old : ∀ r, post r (f, a1, a2, a3, a4, a5, a6, a7, a8, a9, a10, a11, a12, a13) := fun r => hp r _ false (fun _ => rfl) ⟨r1, r6, r9, r11, r12⟩
    rcases hx with g | g
    · exact br_t g (old _)
    · exact br_c (fun _ => old _) (fun _ => br_f g (old _))
  · refine br_f h1 (br_t h2 ?_)
    refine ss_write (c := 1) (by decide) ?_
    refine ss_renew (c := 1) (v := b) (by decide) (ss_ok_n1 p) (ss_u1 r1) r6 r9 r11 r12 ?_ ?_ ?_
    · exact ss_no2 (ss_kn p) (by decide) _ _ (fun z => absurd z (by decide)) (fun z => absurd z (by decide))
    · intro _ f' b5 b6 b7 b8 b11 b12 b9 b10 g6 g12 ψ hψ
      exact ss_vn1 (by decide) (g6 1 (by decide)) pk_us pk_us hψ
    · intro f' b5 b6 b7 b8 b11 b12 b9 b10 g6 g9 g11 g12
      refine hp _ _ true (fun z => absurd z (by decide)) ⟨ss_u1 r1, g6, g9, g11, fun i hi => (g12 i hi).trans ?_⟩
      revert i
      refine ss_pt ?_ rfl rfl rfl (fun i e0 e1 e7 e8 => ?_)
      · cases p with
        | true => rfl
        | false => rw [hpa rfl]; rfl
      · simp [ss_V, ss_T, ss_K, e0, e1, e7, e8]
theorem ss_pairU {post : Int32 → St2 → Prop} {u : St2} {op : Int32} (ho : op < 0 ∨ ¬ op ≤ 4) (hp : post (-2) u) : wpX_pair post u 7 op 0 1 := by
  obtain ⟨f, a1, a2, a3, a4, a5, a6, a7, a8, a9, a10, a11, a12, a13⟩ := u
  unfold wpX_pair
  refine ss_isCell 7 (by decide) (br_f (by decide) ?_)
  rcases ho with g | g
  · exact br_t g hp
  · exact br_c (fun _ => hp) (fun _ => br_f g hp)
theorem ss_pairK {post : Int32 → St2 → Prop} {u : St2} {p q : Bool} {op a b : Int32} (h0 : ¬ op < 0) (h4 : op ≤ 4) (hpa : p = false → a = 0) (hqb : q = false → b = 0) (hR : ss_R (ss_k p) (ss_k q) 0 0 a b 0 0 u)
    (hp : ∀ u' : St2, ss_R (ss_k p) (ss_k q) 2 0 a b (ss_comb op a b) 0 u' → ss_P7 op u' → post 0 u') : wpX_pair post u 7 op 0 1 := by
  obtain ⟨f, a1, a2, a3, a4, a5, a6, a7, a8, a9, a10, a11, a12, a13⟩ := u
  obtain ⟨r1, r6, r9, r11, r12⟩ := hR
  have z0 : ∀ i, i < 36 → ss_Z (ss_T (ss_k p) (ss_k q) 2 0) (ss_K a b 0 0) i = ss_K a b 0 0 i := by
    refine ss_pt ?_ ?_ ?_ rfl (fun i e0 e1 e7 e8 => ?_)
    · cases p with
      | true => rfl
      | false => rw [hpa rfl]; rfl
    · cases q with
      | true => rfl
      | false => rw [hqb rfl]; rfl
    · cases p <;> rfl
    · simp [ss_Z, ss_T, ss_K, e0, e1, e7, e8]
  unfold wpX_pair
  refine ss_isCell 7 (by decide) (br_f (by decide) (br_f h0 (br_t h4 ?_)))
  refine ss_isCell 0 (by decide) (br_f (by decide) ?_)
  refine ss_isCell 1 (by decide) (br_f (by decide) ?_)
  refine ss_write (c := 7) (by decide) ?_
  refine ss_renew (c := 7) (v := ss_comb op a b) (by decide) (ss_ok_p7 p q) (ss_u7 r1) r6 r9 r11 r12 ?_ ?_ ?_
  · exact ss_no2 (ss_kn p) (ss_kn q) _ _ (fun _ => by rw [pk_us, pk_us]; decide) (fun z => absurd z (by decide))
  · intro _ f' b5 b6 b7 b8 b11 b12 b9 b10 g6 g12 ψ hψ
    exact ss_vn2 (i := 0) (j := 1) (by decide) (by decide) (by decide) (g6 7 (by decide)) pk_us pk_us pk_us pk_us ((g12 0 (by decide)).trans (z0 0 (by decide))) ((g12 1 (by decide)).trans (z0 1 (by decide))) hψ
  · intro f' b5 b6 b7 b8 b11 b12 b9 b10 g6 g9 g11 g12
    refine hp _ ⟨ss_u7 r1, g6, g9, g11, fun i hi => (g12 i hi).trans ?_⟩ ⟨pk_us, pk_us, pk_us⟩
    revert i
    refine ss_pt (z0 0 (by decide)) (z0 1 (by decide)) ?_ rfl (fun i e0 e1 e7 e8 => ?_)
    · cases p <;> rfl
    · simp [ss_V, ss_T, ss_K, e0, e1, e7, e8]
theorem ss_copy8K {post : Int32 → St2 → Prop} {u : St2} {p q : Bool} {op a b w : Int32} (h0 : ¬ op < 0) (hpa : p = false → a = 0) (hqb : q = false → b = 0) (hR : ss_R (ss_k p) (ss_k q) 2 0 a b w 0 u) (h7 : ss_P7 op u)
    (hp : ∀ u' : St2, ss_R (ss_k p) (ss_k q) 2 2 a b w (ss_comb op b 0) u' → ss_P7 op u' → ss_P8 u' → post 0 u') : wpX_copy post u 7 8 := by
  obtain ⟨f, a1, a2, a3, a4, a5, a6, a7, a8, a9, a10, a11, a12, a13⟩ := u
  obtain ⟨r1, r6, r9, r11, r12⟩ := hR
  obtain ⟨p2, p3, p4⟩ := h7
  have z0 : ∀ i, i < 36 → ss_Z (ss_T (ss_k p) (ss_k q) 2 2) (ss_K a b w 0) i = ss_K a b w 0 i := by
    refine ss_pt ?_ ?_ ?_ rfl (fun i e0 e1 e7 e8 => ?_)
    · cases p with
      | true => rfl
      | false => rw [hpa rfl]; rfl
    · cases q with
      | true => rfl
      | false => rw [hqb rfl]; rfl
    · cases p <;> rfl
    · simp [ss_Z, ss_T, ss_K, e0, e1, e7, e8]
  have c7 : (7 : Int32).toNatClampNeg = 7 := by decide
  unfold wpX_copy
  rw [c7]
  refine ss_isCell 7 (by decide) (br_f (by decide) ?_)
  refine ss_isCell 8 (by decide) (br_f (by decide) ?_)
  refine ⟨by decide, by decide, nm_r (e' := 0) (by decide) ⟨by decide, by decide, nm_r (e' := 1) (by decide) ⟨pk_in 7 36 (by decide), nm_r (e' := 2) (r1 7 (by decide)) ⟨pk_in 7 36 (by decide), nm_r p2 ⟨pk_in 7 36 (by decide), nm_r p3 ⟨pk_in 7 36 (by decide), nm_r p4 (br_f (by decide) (br_f (by decide) ?_))⟩⟩⟩⟩⟩⟩
  refine ss_moved (nI 1) (by decide) ?_
  refine ss_moved (nI 2) (by decide) ?_
  refine br_f (by decide) (br_f (by decide) (br_f (by decide) (br_t (Int32.not_lt.mp h0) ?_)))
  unfold wX_copy_144 wX_copy_146
  refine ss_write (c := 8) (by decide) ?_
  refine ss_renew (c := 8) (v := ss_comb op b 0) (by decide) (ss_ok_c8 p q) (ss_u8 r1) r6 r9 r11 r12 ?_ ?_ ?_
  · exact ss_no2 (ss_kn p) (ss_kn q) _ _ (fun _ => by rw [pk_un (by decide), pk_un (by decide), p2, p3]; decide) (fun _ => by rw [pk_us, pk_us]; decide)
  · intro _ f' b5 b6 b7 b8 b11 b12 b9 b10 g6 g12 ψ hψ
    exact ss_vn2 (i := 1) (j := 2) (by decide) (by decide) (by decide) (g6 8 (by decide)) pk_us pk_us pk_us pk_us ((g12 1 (by decide)).trans (z0 1 (by decide))) ((g12 2 (by decide)).trans (z0 2 (by decide))) hψ
  · intro f' b5 b6 b7 b8 b11 b12 b9 b10 g6 g9 g11 g12
    refine br_f (by decide) (hp _ ⟨ss_u8 r1, g6, g9, g11, fun i hi => (g12 i hi).trans ?_⟩ ⟨(pk_un (by decide)).trans p2, (pk_un (by decide)).trans p3, (pk_un (by decide)).trans p4⟩ ⟨pk_us, pk_us⟩)
    revert i
    refine ss_pt (z0 0 (by decide)) (z0 1 (by decide)) (z0 7 (by decide)) rfl (fun i e0 e1 e7 e8 => ?_)
    simp [ss_V, ss_T, ss_K, e0, e1, e7, e8]
theorem ss_copy0K {post : Int32 → St2 → Prop} {u : St2} {p q : Bool} {op a b w z : Int32} (hqb : q = false → b = 0) (hR : ss_R (ss_k p) (ss_k q) 2 2 a b w z u) (h7 : ss_P7 op u) (h8 : ss_P8 u)
    (hp : ∀ u' : St2, ss_R 6 (ss_k q) 2 2 0 b 0 z u' → post 1 u') : wpX_copy post u 7 0 := by
  obtain ⟨f, a1, a2, a3, a4, a5, a6, a7, a8, a9, a10, a11, a12, a13⟩ := u
  obtain ⟨r1, r6, r9, r11, r12⟩ := hR
  obtain ⟨p2, p3, p4⟩ := h7
  obtain ⟨q2, q3⟩ := h8
  have c7 : (7 : Int32).toNatClampNeg = 7 := by decide
  unfold wpX_copy
  rw [c7]
  refine ss_isCell 7 (by decide) (br_f (by decide) ?_)
  refine ss_isCell 0 (by decide) (br_f (by decide) ?_)
  refine ⟨by decide, by decide, nm_r (e' := -1) (by decide) ⟨by decide, by decide, nm_r (e' := -1) (by decide) ⟨pk_in 7 36 (by decide), nm_r (e' := 2) (r1 7 (by decide)) ⟨pk_in 7 36 (by decide), nm_r p2 ⟨pk_in 7 36 (by decide), nm_r p3 ⟨pk_in 7 36 (by decide), nm_r p4 (br_f (by decide) (br_f (by decide) ?_))⟩⟩⟩⟩⟩⟩
  refine ss_moved (-1) (by decide) ?_
  refine ss_moved (-1) (by decide) ?_
  refine br_f (by decide) (br_t (by decide) ?_)
  unfold wX_copy_137 wX_copy_144 wX_copy_146
  refine ss_write (c := 0) (by decide) ?_
  refine ss_renew (c := 0) (v := 0) (by decide) (ss_ok_c0 p q) (ss_u0 r1) r6 r9 r11 r12 ?_ ?_ ?_
  · exact ss_no2 (by decide) (ss_kn q) _ _ (fun _ => by rw [pk_un (by decide), pk_un (by decide), p2, p3]; decide) (fun _ => by rw [pk_un (by decide), pk_un (by decide), q2, q3]; decide)
  · intro h
    exact absurd h (by cases p <;> cases q <;> decide)
  · intro f' b5 b6 b7 b8 b11 b12 b9 b10 g6 g9 g11 g12
    refine br_t rfl (hp _ ⟨ss_u0 r1, g6, g9, g11, fun i hi => (g12 i hi).trans ?_⟩)
    revert i
    refine ss_pt rfl ?_ rfl rfl (fun i e0 e1 e7 e8 => ?_)
    · cases q with
      | true => rfl
      | false => rw [hqb rfl]; rfl
    · simp [ss_V, ss_T, ss_K, e0, e1, e7, e8]
theorem ss_copy8U {post : Int32 → St2 → Prop} {u : St2} {p q : Bool} {a b : Int32} (hpa : p = false → a = 0) (hqb : q = false → b = 0) (hR : ss_R (ss_k p) (ss_k q) 0 0 a b 0 0 u)
    (hp : ∀ u' : St2, ss_R (ss_k p) (ss_k q) 0 0 a b 0 0 u' → post 0 u') : wpX_copy post u 7 8 := by
  obtain ⟨f, a1, a2, a3, a4, a5, a6, a7, a8, a9, a10, a11, a12, a13⟩ := u
  obtain ⟨r1, r6, r9, r11, r12⟩ := hR
  have c7 : (7 : Int32).toNatClampNeg = 7 := by decide
  unfold wpX_copy
  rw [c7]
  refine ss_isCell 7 (by decide) (br_f (by decide) ?_)
  refine ss_isCell 8 (by decide) (br_f (by decide) ?_)
  refine ⟨by decide, by decide, nm_e ⟨by decide, by decide, nm_e ⟨pk_in 7 36 (by decide), nm_r (e' := 0) (r1 7 (by decide)) ⟨pk_in 7 36 (by decide), nm_e ⟨pk_in 7 36 (by decide), nm_e ⟨pk_in 7 36 (by decide), nm_e (br_t (by decide) ?_)⟩⟩⟩⟩⟩⟩
  unfold wX_copy_146
  refine ss_write (c := 8) (by decide) ?_
  refine ss_renew (c := 8) (v := 0) (by decide) (ss_ok_u8 p q) (ss_u8 r1) r6 r9 r11 r12 ?_ ?_ ?_
  · exact ss_no2 (ss_kn p) (ss_kn q) _ _ (fun z => absurd z (by decide)) (fun z => absurd z (by decide))
  · intro h
    exact absurd h (by cases p <;> cases q <;> decide)
  · intro f' b5 b6 b7 b8 b11 b12 b9 b10 g6 g9 g11 g12
    refine br_f (by decide) (hp _ ⟨ss_u8 r1, g6, g9, g11, fun i hi => (g12 i hi).trans ?_⟩)
    revert i
    refine ss_pt ?_ ?_ rfl rfl (fun i e0 e1 e7 e8 => ?_)
    · cases p with
      | true => rfl
      | false => rw [hpa rfl]; rfl
    · cases q with
      | true => rfl
      | false => rw [hqb rfl]; rfl
    · simp [ss_V, ss_T, ss_K, e0, e1, e7, e8]
theorem ss_copy0U {post : Int32 → St2 → Prop} {u : St2} {p q : Bool} {a b : Int32} (hqb : q = false → b = 0) (hR : ss_R (ss_k p) (ss_k q) 0 0 a b 0 0 u)
    (hp : ∀ u' : St2, ss_R 0 (ss_k q) 0 0 0 b 0 0 u' → post 0 u') : wpX_copy post u 7 0 := by
  obtain ⟨f, a1, a2, a3, a4, a5, a6, a7, a8, a9, a10, a11, a12, a13⟩ := u
  obtain ⟨r1, r6, r9, r11, r12⟩ := hR
  have c7 : (7 : Int32).toNatClampNeg = 7 := by decide
  unfold wpX_copy
  rw [c7]
  refine ss_isCell 7 (by decide) (br_f (by decide) ?_)
  refine ss_isCell 0 (by decide) (br_f (by decide) ?_)
  refine ⟨by decide, by decide, nm_e ⟨by decide, by decide, nm_e ⟨pk_in 7 36 (by decide), nm_r (e' := 0) (r1 7 (by decide)) ⟨pk_in 7 36 (by decide), nm_e ⟨pk_in 7 36 (by decide), nm_e ⟨pk_in 7 36 (by decide), nm_e (br_t (by decide) ?_)⟩⟩⟩⟩⟩⟩
  unfold wX_copy_146
  refine ss_write (c := 0) (by decide) ?_
  refine ss_renew (c := 0) (v := 0) (by decide) (ss_ok_u0 p q) (ss_u0 r1) r6 r9 r11 r12 ?_ ?_ ?_
  · exact ss_no2 (by decide) (ss_kn q) _ _ (fun z => absurd z (by decide)) (fun z => absurd z (by decide))
  · intro h
    exact absurd h (by cases p <;> cases q <;> decide)
  · intro f' b5 b6 b7 b8 b11 b12 b9 b10 g6 g9 g11 g12
    refine br_f (by decide) (hp _ ⟨ss_u0 r1, g6, g9, g11, fun i hi => (g12 i hi).trans ?_⟩)
    revert i
    refine ss_pt rfl ?_ rfl rfl (fun i e0 e1 e7 e8 => ?_)
    · cases q with
      | true => rfl
      | false => rw [hqb rfl]; rfl
    · simp [ss_V, ss_T, ss_K, e0, e1, e7, e8]
end
section
/-! the constructor, the law -/
theorem ss_init {post : St2 → Prop} {f : Int64} (hp : ∀ u : St2, ss_R 0 0 0 0 0 0 0 0 u → post u) : wpX_init post 13 468 f := by
  unfold wpX_init
  refine ⟨by decide, by decide, by decide, by decide, by decide, by decide, by decide, by decide, by decide, by decide, by decide, by decide, by decide, by decide, by decide, by decide, by decide, by decide, by decide, by decide, by decide, by decide, by decide, by decide, by decide, by decide, ?_⟩
  refine pk_loop (σ := (Nat → Int32) × (Nat → Int32)) (fun n i s => wX_init_110 post 13 468 13 468 f n (nI i) (fun _ => 0) (fun _ => 0) (fun _ => 0) (fun _ => 0) s.1 s.2 (fun _ => 0) (fun _ => 0) (fun _ => 0) (fun _ => 0) (fun _ => 0) (fun _ => 0) (fun _ => 0)) (fun i s => ∀ j, j < i → s.2 j = -2) 36 0 ((fun _ => 0), (fun _ => 0)) (by omega) (fun j hj => absurd hj (by omega)) (fun n s hI => ?_) (fun n i s hi hI hw => ?_)
  · refine pk_le 36 36 (fun _ => hp _ ⟨fun i _ => ?_, hI, fun i _ => ?_, fun i _ => ?_, fun i _ => ?_⟩) (fun z => absurd z (by omega))
    · simp [ss_K]
    · simp [ss_W]
    · simp [ss_T]
    · simp [ss_K]
  · have ck : (nI i).toNatClampNeg = i := nI_clamp (by omega)
    have F : ∀ j, j < i + 1 → upd s.2 i (-2) j = -2 := by
      intro j hj
      by_cases e : j = i
      · rw [e, pk_us]
      · rw [pk_un e]; exact hI j (by omega)
    exact pk_le 36 i (fun z => absurd z (by omega)) (fun _ => ⟨pk_in i 36 hi, nm_r (e' := upd s.1 i (-2)) (by rw [ck]) ⟨pk_in i 36 hi, nm_r (e' := upd s.2 i (-2)) (by rw [ck]) (nm_r (nI_1 i) (hw (upd s.1 i (-2), upd s.2 i (-2)) F))⟩⟩)
section
variable {f : Int64} {a1 a2 a3 a4 a5 a6 a7 a8 a11 a12 a13 : Nat → Int32} {a9 a10 : Nat → Int64} {mc ms kc ks : Nat} {p q : Bool} {op a b : Int32}
theorem ss_unk (hpa : p = false → a = 0) (hqb : q = false → b = 0) (hR : ss_R (ss_k p) (ss_k q) 0 0 a b 0 0 (f, a1, a2, a3, a4, a5, a6, a7, a8, a9, a10, a11, a12, a13)) :
    wL_lawOf_130 (fun r _ => r = 1) mc ms op a b 0 (-2) (-2) kc ks f a1 a2 a3 a4 a5 a6 a7 a8 a9 a10 a11 a12 a13 := by
  unfold wL_lawOf_130
  refine br_t rfl (ss_value 7 (by decide) hR (br_t rfl ?_))
  unfold wL_lawOf_161
  refine ss_state 7 (by decide) hR (br_t rfl (br_t rfl ?_))
  unfold wL_lawOf_191
  refine br_t rfl (ss_copy8U hpa hqb hR (fun u hR => ?_))
  obtain ⟨f, a1, a2, a3, a4, a5, a6, a7, a8, a9, a10, a11, a12, a13⟩ := u
  refine ss_value 8 (by decide) hR (br_t rfl ?_)
  unfold wL_lawOf_232
  refine br_t rfl (br_t rfl (ss_copy0U hqb hR (fun u hR => ?_)))
  obtain ⟨f, a1, a2, a3, a4, a5, a6, a7, a8, a9, a10, a11, a12, a13⟩ := u
  refine ss_state 7 (by decide) hR (ss_kind 0 (by decide) hR (br_t rfl ?_))
  exact br_t rfl (br_t rfl (br_t rfl (br_t rfl (br_t rfl rfl))))
theorem ss_kno (h0 : ¬ op < 0) (hpa : p = false → a = 0) (hqb : q = false → b = 0) (hR : ss_R (ss_k p) (ss_k q) 2 0 a b (ss_comb op a b) 0 (f, a1, a2, a3, a4, a5, a6, a7, a8, a9, a10, a11, a12, a13)) (h7 : ss_P7 op (f, a1, a2, a3, a4, a5, a6, a7, a8, a9, a10, a11, a12, a13)) :
    wL_lawOf_130 (fun r _ => r = 1) mc ms op a b 1 0 0 kc ks f a1 a2 a3 a4 a5 a6 a7 a8 a9 a10 a11 a12 a13 := by
  have t7 : ss_T (ss_k p) (ss_k q) 2 0 7 = 1 := by cases p <;> cases q <;> decide
  unfold wL_lawOf_130
  refine br_t rfl (ss_value 7 (by decide) hR (br_f (by decide) (ss_combine ?_)))
  unfold wL_lawOf_161
  refine ss_state 7 (by decide) hR (br_t rfl (br_f (by decide) ?_))
  unfold wL_lawOf_191
  refine br_t t7 (ss_copy8K h0 hpa hqb hR h7 (fun u hR h7 h8 => ?_))
  obtain ⟨f, a1, a2, a3, a4, a5, a6, a7, a8, a9, a10, a11, a12, a13⟩ := u
  refine ss_value 8 (by decide) hR (br_f (by decide) (ss_combine ?_))
  unfold wL_lawOf_232
  refine br_t rfl (br_t rfl (ss_copy0K hqb hR h7 h8 (fun u hR => ?_)))
  obtain ⟨f, a1, a2, a3, a4, a5, a6, a7, a8, a9, a10, a11, a12, a13⟩ := u
  refine ss_state 7 (by decide) hR (ss_kind 0 (by decide) hR (br_f (by decide) ?_))
  exact br_t rfl (br_f (by decide) (br_t rfl (br_f (by decide) (br_t rfl rfl))))
end
theorem ss_78 {x0 x1 x2 a b z0 : Int32} (ha : ((x0 < -1000 ∨ ¬ x0 ≤ 1000) ∧ a = 0) ∨ (¬ x0 < -1000 ∧ x0 ≤ 1000 ∧ a = x0)) (hb : ((x1 < -1000 ∨ ¬ x1 ≤ 1000) ∧ b = 0) ∨ (¬ x1 < -1000 ∧ x1 ≤ 1000 ∧ b = x1))
    (hk : (z0 = 0 ∧ (x2 < 0 ∨ ¬ x2 ≤ 4)) ∨ (z0 = 1 ∧ ¬ x2 < 0 ∧ x2 ≤ 4)) : wL_lawOf_78 (fun r _ => r = 1) 292 4672 x0 x1 x2 a b z0 0 0 := by
  unfold wL_lawOf_78
  refine ⟨by decide, by decide, 13, 468, by decide, by decide, ss_init (fun u hR => ?_)⟩
  obtain ⟨f, a1, a2, a3, a4, a5, a6, a7, a8, a9, a10, a11, a12, a13⟩ := u
  refine ss_num0 ha hR (fun r u p hpa hR => ?_)
  obtain ⟨f, a1, a2, a3, a4, a5, a6, a7, a8, a9, a10, a11, a12, a13⟩ := u
  refine ss_num1 hb hpa hR (fun r u q hqb hR => ?_)
  obtain ⟨f, a1, a2, a3, a4, a5, a6, a7, a8, a9, a10, a11, a12, a13⟩ := u
  rcases hk with ⟨rfl, ho⟩ | ⟨rfl, h0, h4⟩
  · exact ss_pairU ho (br_t rfl (ss_unk hpa hqb hR))
  · refine ss_pairK h0 h4 hpa hqb hR (fun u hR h7 => ?_)
    obtain ⟨f, a1, a2, a3, a4, a5, a6, a7, a8, a9, a10, a11, a12, a13⟩ := u
    exact br_f (by decide) (ss_kno h0 hpa hqb hR h7)
theorem ss_62 {x0 x1 x2 a b : Int32} (ha : ((x0 < -1000 ∨ ¬ x0 ≤ 1000) ∧ a = 0) ∨ (¬ x0 < -1000 ∧ x0 ≤ 1000 ∧ a = x0)) (hb : ((x1 < -1000 ∨ ¬ x1 ≤ 1000) ∧ b = 0) ∨ (¬ x1 < -1000 ∧ x1 ≤ 1000 ∧ b = x1)) : wL_lawOf_62 (fun r _ => r = 1) 292 4672 x0 x1 x2 a b 0 0 :=
  br_c (fun g => ss_78 ha hb (Or.inl ⟨rfl, Or.inl g⟩)) (fun g => br_c (fun g2 => ss_78 ha hb (Or.inl ⟨rfl, Or.inr (Int32.not_le.mpr g2)⟩)) (fun g2 => ss_78 ha hb (Or.inr ⟨rfl, g, Int32.not_lt.mp g2⟩)))
theorem ss_39 {x0 x1 x2 x3 x4 : Int32} (h3 : (x3 = 0 ∧ (x0 < -1000 ∨ ¬ x0 ≤ 1000)) ∨ (x3 = 1 ∧ ¬ x0 < -1000 ∧ x0 ≤ 1000)) (h4 : (x4 = 0 ∧ (x1 < -1000 ∨ ¬ x1 ≤ 1000)) ∨ (x4 = 1 ∧ ¬ x1 < -1000 ∧ x1 ≤ 1000)) : wL_lawOf_39 (fun r _ => r = 1) 292 4672 x0 x1 x2 x3 x4 0 0 := by
  have s50 : ∀ a : Int32, ((x0 < -1000 ∨ ¬ x0 ≤ 1000) ∧ a = 0) ∨ (¬ x0 < -1000 ∧ x0 ≤ 1000 ∧ a = x0) → wL_lawOf_50 (fun r _ => r = 1) 292 4672 x0 x1 x2 x4 a 0 0 := by
    intro a ha
    unfold wL_lawOf_50
    rcases h4 with ⟨rfl, g⟩ | ⟨rfl, g1, g2⟩
    · exact br_t rfl (ss_62 ha (Or.inl ⟨g, rfl⟩))
    · exact br_f (by decide) (ss_62 ha (Or.inr ⟨g1, g2, rfl⟩))
  unfold wL_lawOf_39
  rcases h3 with ⟨rfl, g⟩ | ⟨rfl, g1, g2⟩
  · exact br_t rfl (s50 0 (Or.inl ⟨g, rfl⟩))
  · exact br_f (by decide) (s50 x0 (Or.inr ⟨g1, g2, rfl⟩))
theorem ss_19 {x0 x1 x2 x3 : Int32} (h3 : (x3 = 0 ∧ (x0 < -1000 ∨ ¬ x0 ≤ 1000)) ∨ (x3 = 1 ∧ ¬ x0 < -1000 ∧ x0 ≤ 1000)) : wL_lawOf_19 (fun r _ => r = 1) 292 4672 x0 x1 x2 x3 0 0 :=
  br_c (fun g => ss_39 h3 (Or.inl ⟨rfl, Or.inl g⟩)) (fun g => br_c (fun g2 => ss_39 h3 (Or.inl ⟨rfl, Or.inr (Int32.not_le.mpr g2)⟩)) (fun g2 => ss_39 h3 (Or.inr ⟨rfl, g, Int32.not_lt.mp g2⟩)))
theorem ss_lawOf (x0 x1 x2 : Int32) : wpL_lawOf (fun r _ => r = 1) 292 4672 () x0 x1 x2 :=
  br_c (fun g => ss_19 (Or.inl ⟨rfl, Or.inl g⟩)) (fun g => br_c (fun g2 => ss_19 (Or.inl ⟨rfl, Or.inr (Int32.not_le.mpr g2)⟩)) (fun g2 => ss_19 (Or.inr ⟨rfl, g, Int32.not_lt.mp g2⟩)))
theorem ss_cell {post : Int32 → Prop} {L : Nat} {xs : Nat → Int32} (hL : L ≤ 3) (k : Nat) (hk : k < 3) (hp : ∀ r, post r) : wpL_cellAt post L xs () (nI k) :=
  pk_le L k (fun _ => hp _) (fun z => ⟨pk_in k L z, hp _⟩)
theorem i_vc (xs : Nat → Int32) (L : Nat) (hL : L ≤ 3) : wpL_law (fun r => r = 1) L xs :=
  ss_cell hL 0 (by decide) (fun r1 => ss_cell hL 1 (by decide) (fun r2 => ss_cell hL 2 (by decide) (fun r3 => ⟨292, 4672, by decide, by decide, ss_lawOf r1 r2 r3⟩)))
end
