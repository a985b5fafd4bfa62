section
/-! numbers, and the methods that only look -/
theorem qz_sh : ∀ P, P < 32 → nI P >>> ((2 : Int32) &&& 31) = nI (P / 4) := by decide +kernel
theorem qz_an : ∀ P, P < 32 → nI P &&& 3 = nI (P % 4) := by decide +kernel
theorem qz_pg (p v : Nat) : nI p * 16 + nI v = nI (p * 16 + v) := by
  rw [show (16 : Int32) = nI 16 from rfl, pk_mul, nI_add]
theorem qz_m4 (f w : Nat) : nI f * 4 + nI w = nI (f * 4 + w) := by
  rw [show (4 : Int32) = nI 4 from rfl, pk_mul, nI_add]
theorem qz_m1n : (-1 : Int32) < 0 := by decide
theorem qz_m1p : ¬ (0 : Int32) ≤ -1 := by decide
/-- frames with a page -/
def qz_cnt (f : Nat → Int32) : Nat → Nat
  | 0 => 0
  | n + 1 => if f n ≤ 0 then qz_cnt f n else qz_cnt f n + 1
/-- used frames of a group -/
def qz_ui (f : Nat → Int32) (g : Nat) : Nat → Nat
  | 0 => 0
  | n + 1 => if f (g * 4 + n) ≤ 0 then qz_ui f g n else qz_ui f g n + 1
/-- the group that a range holds -/
def qz_held (f : Nat → Int32) (r : Int32) : Nat → Int32
  | 0 => -1
  | n + 1 => if f n = r then nI n else qz_held f r n
/-- pages of a process, where there is no large entry -/
def qz_pc (f : Nat → Int32) (p : Nat) : Nat → Nat
  | 0 => 0
  | n + 1 => if f (p * 16 + n) < 0 then qz_pc f p n else qz_pc f p n + 1
theorem qz_ui_le (f : Nat → Int32) (g : Nat) : ∀ n, qz_ui f g n ≤ n
  | 0 => Nat.le_refl 0
  | n + 1 => by
    have h := qz_ui_le f g n
    show (if f (g * 4 + n) ≤ 0 then qz_ui f g n else qz_ui f g n + 1) ≤ n + 1
    split <;> omega
section
variable {ck : Int32} {a1 a2 a3 a4 a5 a6 a7 a8 : Nat → Int32}
theorem qz_bad {post : Int32 → Prop} {p v : Nat} (hp : p < 2) (hv : v < 16) (h : post 0) : wpX_bad post (ck, a1, a2, a3, a4, a5, a6, a7, a8) (nI p) (nI v) :=
  br_f (nI_pos (by omega)) (br_f (nI_nlt (b := p) (a := 1) (by omega) (by omega)) (br_f (nI_pos (by omega)) (br_t (nI_le (b := 15) (by omega) (by decide)) h)))
theorem qz_fo {post : Int32 → Prop} {P : Nat} (hP : P < 32) (hL : a5 (P / 4) < 0) (h : post (a3 P)) : wpX_frameOf post (ck, a1, a2, a3, a4, a5, a6, a7, a8) (nI P) := by
  unfold wpX_frameOf
  rw [qz_sh P hP, nI_clamp (show P / 4 < 2 ^ 31 by omega), nI_clamp (show P < 2 ^ 31 by omega)]
  exact ⟨pk_in (P / 4) 8 (by omega), nm_e (br_t hL ⟨pk_in P 32 hP, h⟩)⟩
theorem qz_foL {post : Int32 → Prop} {P e : Nat} (hP : P < 32) (he : e < 4) (hL : a5 (P / 4) = nI e) (h : post (nI (e * 4 + P % 4))) : wpX_frameOf post (ck, a1, a2, a3, a4, a5, a6, a7, a8) (nI P) := by
  unfold wpX_frameOf
  rw [qz_sh P hP, nI_clamp (show P / 4 < 2 ^ 31 by omega), qz_an P hP]
  refine ⟨pk_in (P / 4) 8 (by omega), nm_r hL (br_f (nI_pos (by omega)) ?_)⟩
  rw [qz_m4]
  exact h
theorem qz_fiu {post : Int32 → Prop} (h : post (nI (qz_cnt a2 16))) : wpX_framesInUse post (ck, a1, a2, a3, a4, a5, a6, a7, a8) :=
  pk_loop (σ := Unit) (fun n i _ => wX_framesInUse_4 post ck a1 a2 a3 a4 a5 a6 a7 a8 n (nI (qz_cnt a2 i)) (nI i)) (fun _ _ => True) 16 0 () (by omega) trivial
    (fun n _ _ => pk_le 16 16 (fun _ => h) (fun z => absurd z (by omega)))
    (fun n i _ hi _ hw => pk_le 16 i (fun z => absurd z (by omega)) (fun _ => ⟨pk_in i 16 hi, by
      have hw' : wX_framesInUse_4 post ck a1 a2 a3 a4 a5 a6 a7 a8 n (nI (qz_cnt a2 (i + 1))) (nI (i + 1)) := hw () trivial
      rw [nI_clamp (show i < 2 ^ 31 by omega)]
      refine br_c (fun g => nm_r (nI_1 i) ?_) (fun g => nm_r (nI_1 _) (nm_r (nI_1 i) ?_))
      · have e : qz_cnt a2 (i + 1) = qz_cnt a2 i := if_pos g
        rw [e] at hw'
        exact hw'
      · have e : qz_cnt a2 (i + 1) = qz_cnt a2 i + 1 := if_neg g
        rw [e] at hw'
        exact hw'⟩))
theorem qz_iu {post : Int32 → Prop} (h : post (nI (qz_cnt a2 16))) : wpX_inUse post (ck, a1, a2, a3, a4, a5, a6, a7, a8) := by
  unfold wpX_inUse
  exact qz_fiu h
theorem qz_rd {post : Int32 → Prop} {p v w f : Nat} (hp : p < 2) (hv : v < 16) (hw : w < 4) (hf : f < 16) (hL : a5 ((p * 16 + v) / 4) < 0) (hB : a3 (p * 16 + v) = nI f) (h : post (a1 (f * 4 + w))) : wpX_read post (ck, a1, a2, a3, a4, a5, a6, a7, a8) (nI p) (nI v) (nI w) := by
  unfold wpX_read
  refine qz_bad hp hv (br_t rfl (br_f (nI_pos (by omega)) (br_t (nI_le (b := 3) (by omega) (by decide)) ?_)))
  rw [qz_pg]
  refine qz_fo (by omega) hL ?_
  rw [hB]
  refine br_t (nI_pos' (by omega)) ?_
  rw [qz_m4, nI_clamp (show f * 4 + w < 2 ^ 31 by omega)]
  exact ⟨pk_in (f * 4 + w) 64 (by omega), h⟩
theorem qz_rd0 {post : Int32 → Prop} {p v w : Nat} (hp : p < 2) (hv : v < 16) (hw : w < 4) (hL : a5 ((p * 16 + v) / 4) < 0) (hB : a3 (p * 16 + v) = -1) (h : post 0) : wpX_read post (ck, a1, a2, a3, a4, a5, a6, a7, a8) (nI p) (nI v) (nI w) := by
  unfold wpX_read
  refine qz_bad hp hv (br_t rfl (br_f (nI_pos (by omega)) (br_t (nI_le (b := 3) (by omega) (by decide)) ?_)))
  rw [qz_pg]
  refine qz_fo (by omega) hL ?_
  rw [hB]
  exact br_f qz_m1p h
theorem qz_hb {post : Int32 → Prop} {r : Int32} (h : post (qz_held a6 r 4)) : wpX_heldBy post (ck, a1, a2, a3, a4, a5, a6, a7, a8) r :=
  pk_loop (σ := Unit) (fun n i _ => wX_heldBy_4 post r ck a1 a2 a3 a4 a5 a6 a7 a8 n (qz_held a6 r i) (nI i)) (fun _ _ => True) 4 0 () (by omega) trivial
    (fun n _ _ => pk_le 4 4 (fun _ => h) (fun z => absurd z (by omega)))
    (fun n i _ hi _ hw => pk_le 4 i (fun z => absurd z (by omega)) (fun _ => ⟨pk_in i 4 hi, by
      have hw' : wX_heldBy_4 post r ck a1 a2 a3 a4 a5 a6 a7 a8 n (qz_held a6 r (i + 1)) (nI (i + 1)) := hw () trivial
      rw [nI_clamp (show i < 2 ^ 31 by omega)]
      refine br_c (fun g => nm_r (nI_1 i) ?_) (fun g => nm_r (nI_1 i) ?_)
      · have e : qz_held a6 r (i + 1) = nI i := if_pos g
        rw [e] at hw'
        exact hw'
      · have e : qz_held a6 r (i + 1) = qz_held a6 r i := if_neg g
        rw [e] at hw'
        exact hw'⟩))
theorem qz_us {post : Int32 → Prop} {g : Nat} (hg : g < 4) (h : post (nI (qz_ui a2 g 4))) : wpX_usedIn post (ck, a1, a2, a3, a4, a5, a6, a7, a8) (nI g) :=
  pk_loop (σ := Unit) (fun n i _ => wX_usedIn_4 post (nI g) ck a1 a2 a3 a4 a5 a6 a7 a8 n (nI (qz_ui a2 g i)) (nI i)) (fun _ _ => True) 4 0 () (by omega) trivial
    (fun n _ _ => pk_le 4 4 (fun _ => h) (fun z => absurd z (by omega)))
    (fun n i _ hi _ hw => pk_le 4 i (fun z => absurd z (by omega)) (fun _ => by
      have hw' : wX_usedIn_4 post (nI g) ck a1 a2 a3 a4 a5 a6 a7 a8 n (nI (qz_ui a2 g (i + 1))) (nI (i + 1)) := hw () trivial
      rw [qz_m4, nI_clamp (show g * 4 + i < 2 ^ 31 by omega)]
      refine ⟨pk_in (g * 4 + i) 16 (by omega), br_c (fun z => nm_r (nI_1 i) ?_) (fun z => nm_r (nI_1 _) (nm_r (nI_1 i) ?_))⟩
      · have e : qz_ui a2 g (i + 1) = qz_ui a2 g i := if_pos z
        rw [e] at hw'
        exact hw'
      · have e : qz_ui a2 g (i + 1) = qz_ui a2 g i + 1 := if_neg z
        rw [e] at hw'
        exact hw'))
theorem qz_uin {g : Nat} (h : ¬ qz_ui a2 g 4 = 0) : ¬ nI (qz_ui a2 g 4) = 0 :=
  nI_ne0 (by omega) (by have := qz_ui_le a2 g 4; omega)
/-- a step over a group in use -/
theorem qz_egs {post : Int32 → Prop} {n i : Nat} (hi : i < 4) (h0 : ¬ qz_ui a2 i 4 = 0) (hw : wX_emptyGroup_2 post ck a1 a2 a3 a4 a5 a6 a7 a8 n (nI (i + 1))) : wX_emptyGroup_2 post ck a1 a2 a3 a4 a5 a6 a7 a8 (n + 1) (nI i) :=
  pk_le 4 i (fun z => absurd z (by omega)) (fun _ => qz_us hi (br_f (qz_uin h0) (nm_r (nI_1 i) hw)))
theorem qz_eg {post : Int32 → Prop} {g : Nat} (hg : g < 4) (h0 : ∀ j, j < g → ¬ qz_ui a2 j 4 = 0) (h1 : qz_ui a2 g 4 = 0) (h2 : ¬ 0 ≤ a6 g) (h : post (nI g)) : wpX_emptyGroup post (ck, a1, a2, a3, a4, a5, a6, a7, a8) :=
  pk_loop (σ := Unit) (fun n i _ => wX_emptyGroup_2 post ck a1 a2 a3 a4 a5 a6 a7 a8 n (nI i)) (fun _ _ => True) g 0 () (by omega) trivial
    (fun n _ _ => pk_le 4 g (fun z => absurd z (by omega)) (fun _ => qz_us hg (br_t (by rw [h1]; rfl) ⟨pk_in g 4 hg, br_f (by rw [nI_clamp (by omega)]; exact h2) h⟩)))
    (fun n i _ hi _ hw => qz_egs (by omega) (h0 i hi) (hw () trivial))
theorem qz_eg0 {post : Int32 → Prop} (h0 : ∀ j, j < 4 → ¬ qz_ui a2 j 4 = 0) (h : post (-1)) : wpX_emptyGroup post (ck, a1, a2, a3, a4, a5, a6, a7, a8) :=
  pk_loop (σ := Unit) (fun n i _ => wX_emptyGroup_2 post ck a1 a2 a3 a4 a5 a6 a7 a8 n (nI i)) (fun _ _ => True) 4 0 () (by omega) trivial
    (fun n _ _ => pk_le 4 4 (fun _ => h) (fun z => absurd z (by omega)))
    (fun n i _ hi _ hw => qz_egs hi (h0 i hi) (hw () trivial))
/-- a step over a frame that is in use or reserved -/
theorem qz_lfs {post : Int32 → Prop} {n i : Nat} (hi : i < 16) (h0 : a2 i = 0 → 0 ≤ a6 (i / 4)) (hw : wX_looseFrame_2 post ck a1 a2 a3 a4 a5 a6 a7 a8 n (nI (i + 1))) : wX_looseFrame_2 post ck a1 a2 a3 a4 a5 a6 a7 a8 (n + 1) (nI i) :=
  pk_le 16 i (fun z => absurd z (by omega)) (fun _ => by
    rw [nI_clamp (show i < 2 ^ 31 by omega), qz_sh i (by omega), nI_clamp (show i / 4 < 2 ^ 31 by omega)]
    exact ⟨pk_in i 16 hi, br_c (fun z => ⟨pk_in (i / 4) 4 (by omega), br_t (h0 z) (nm_r (nI_1 i) hw)⟩) (fun _ => nm_r (nI_1 i) hw)⟩)
theorem qz_lf {post : Int32 → Prop} {f : Nat} (hf : f < 16) (h0 : ∀ j, j < f → a2 j = 0 → 0 ≤ a6 (j / 4)) (h1 : a2 f = 0) (h2 : ¬ 0 ≤ a6 (f / 4)) (h : post (nI f)) : wpX_looseFrame post (ck, a1, a2, a3, a4, a5, a6, a7, a8) :=
  pk_loop (σ := Unit) (fun n i _ => wX_looseFrame_2 post ck a1 a2 a3 a4 a5 a6 a7 a8 n (nI i)) (fun _ _ => True) f 0 () (by omega) trivial
    (fun n _ _ => pk_le 16 f (fun z => absurd z (by omega)) (fun _ => by
      rw [nI_clamp (show f < 2 ^ 31 by omega), qz_sh f (by omega), nI_clamp (show f / 4 < 2 ^ 31 by omega)]
      exact ⟨pk_in f 16 hf, br_t h1 ⟨pk_in (f / 4) 4 (by omega), br_f h2 h⟩⟩))
    (fun n i _ hi _ hw => qz_lfs (by omega) (h0 i hi) (hw () trivial))
theorem qz_lf0 {post : Int32 → Prop} (h0 : ∀ j, j < 16 → a2 j = 0 → 0 ≤ a6 (j / 4)) (h : post (-1)) : wpX_looseFrame post (ck, a1, a2, a3, a4, a5, a6, a7, a8) :=
  pk_loop (σ := Unit) (fun n i _ => wX_looseFrame_2 post ck a1 a2 a3 a4 a5 a6 a7 a8 n (nI i)) (fun _ _ => True) 16 0 () (by omega) trivial
    (fun n _ _ => pk_le 16 16 (fun _ => h) (fun z => absurd z (by omega)))
    (fun n i _ hi _ hw => qz_lfs hi (h0 i hi) (hw () trivial))
theorem qz_pr {post : Int32 → Prop} {p : Nat} (hp : p < 2) (hL : ∀ j, j < 8 → a5 j < 0) (h : post (nI (qz_pc a3 p 16))) : wpX_present post (ck, a1, a2, a3, a4, a5, a6, a7, a8) (nI p) := by
  unfold wpX_present
  refine br_f (nI_pos (by omega)) (br_t (nI_le (b := 1) (by omega) (by decide)) ?_)
  refine pk_loop (σ := Unit) (fun n i _ => wX_present_15 post (nI p) ck a1 a2 a3 a4 a5 a6 a7 a8 n (nI (qz_pc a3 p i)) (nI i)) (fun _ _ => True) 16 0 () (by omega) trivial
    (fun n _ _ => pk_le 16 16 (fun _ => h) (fun z => absurd z (by omega)))
    (fun n i _ hi _ hw => pk_le 16 i (fun z => absurd z (by omega)) (fun _ => ?_))
  have hw' : wX_present_15 post (nI p) ck a1 a2 a3 a4 a5 a6 a7 a8 n (nI (qz_pc a3 p (i + 1))) (nI (i + 1)) := hw () trivial
  rw [qz_pg]
  refine qz_fo (by omega) (hL _ (by omega)) (br_c (fun z => nm_r (nI_1 i) ?_) (fun z => nm_r (nI_1 _) (nm_r (nI_1 i) ?_)))
  · have e : qz_pc a3 p (i + 1) = qz_pc a3 p i := if_pos z
    rw [e] at hw'
    exact hw'
  · have e : qz_pc a3 p (i + 1) = qz_pc a3 p i + 1 := if_neg z
    rw [e] at hw'
    exact hw'
/-- not shared: the first frame is none, or the two differ -/
theorem qz_sd {post : Int32 → Prop} {v : Nat} (hv : v < 16) (hL : ∀ j, j < 8 → a5 j < 0) (hd : a3 v < 0 ∨ ¬ a3 v = a3 (16 + v)) (h : post 0) : wpX_shared post (ck, a1, a2, a3, a4, a5, a6, a7, a8) (nI v) := by
  unfold wpX_shared
  refine br_f (nI_pos (by omega)) (br_t (nI_le (b := 15) (by omega) (by decide)) ?_)
  rw [show (16 : Int32) + nI v = nI (16 + v) from nI_add 16 v]
  refine qz_fo (by omega) (hL _ (by omega)) (qz_fo (by omega) (hL _ (by omega)) (br_c (fun _ => h) (fun z => br_f ?_ h)))
  cases hd with
  | inl t => exact absurd t z
  | inr t => exact t
end
end
section
/-! the methods that change the state, piece by piece -/
/-- the oldest group so far, where c alone has room -/
def qz_old (c : Nat) : Nat → Int32
  | 0 => -1
  | i + 1 => if i = c then nI i else qz_old c i
theorem qz_old4 : ∀ c, c < 4 → qz_old c 4 = nI c := by decide +kernel
theorem qz_oldc : ∀ c, c < 4 → qz_old c c = -1 := by decide +kernel
/-- four words of frame t are those of f -/
def qz_cf (a : Nat → Int32) (f t : Nat) : Nat → Nat → Int32
  | 0 => a
  | i + 1 => upd (qz_cf a f t i) (t * 4 + i) (qz_cf a f t i (f * 4 + i))
/-- four words of frame f are zero -/
def qz_zw (a : Nat → Int32) (f : Nat) : Nat → Nat → Int32
  | 0 => a
  | i + 1 => upd (qz_zw a f i) (f * 4 + i) 0
/-- four pages of a range have no frame -/
def qz_cb (a : Nat → Int32) (r : Nat) : Nat → Nat → Int32
  | 0 => a
  | i + 1 => upd (qz_cb a r i) (r * 4 + i) (-1)
/-- four pages of a range lie in a group -/
def qz_db (a : Nat → Int32) (r e : Nat) : Nat → Nat → Int32
  | 0 => a
  | i + 1 => upd (qz_db a r e i) (r * 4 + i) (nI (e * 4 + i))
/-- a page of the range lies in the group -/
def qz_kp (f : Nat → Int32) (r : Nat) (g : Int32) : Nat → Int32
  | 0 => 0
  | i + 1 => if qz_kp f r g i = 0 then (if f (r * 4 + i) < 0 then 0 else if f (r * 4 + i) >>> ((2 : Int32) &&& 31) = g then 1 else 0) else 1
/-- promote gives up at one of the next c pages -/
def qz_st (u b : Nat → Int32) (r : Nat) : Nat → Nat → Bool
  | 0, _ => false
  | c + 1, i => decide (b (r * 4 + i) < 0) || (decide ((b (r * 4 + i)).toNatClampNeg < 16) && (!decide (u (b (r * 4 + i)).toNatClampNeg = 1) || qz_st u b r c (i + 1)))
def qz_x3 (g : Nat) : Nat → Int32
  | 0 => -1
  | _ + 1 => nI g
theorem qz_c16 {f : Nat → Int32} (h : qz_cnt f 16 < 16) : ¬ nI (qz_cnt f 16) = 16 := by
  intro z
  have e : qz_cnt f 16 = 16 := (nI_eq (b := 16) (by omega) (by omega)).mp z
  omega
section
variable {ck bk : Int32} {a1 a2 a3 a4 a5 a6 a7 a8 b1 b2 b3 b4 b5 b6 b7 b8 : Nat → Int32}
theorem qz_pe {post : St2 → Prop} {c : Nat} (hc : c < 4) (hA : ∀ j, j < 4 → ¬ a6 j < 0) (hu : ∀ j, j < 4 → j ≠ c → qz_ui a2 j 4 = 4) (hu' : qz_ui a2 c 4 = 3) (h : post (ck, a1, a2, a3, a4, a5, upd a6 c (-1), a7, a8)) : wpX_preempt post (ck, a1, a2, a3, a4, a5, a6, a7, a8) := by
  refine pk_loop (σ := Unit) (fun n i _ => wX_preempt_4 post ck a1 a2 a3 a4 a5 a6 a7 a8 n (qz_old c i) (nI i)) (fun _ _ => True) 4 0 () (by omega) trivial
    (fun n _ _ => ?_) (fun n i _ hi _ hw => ?_)
  · show wX_preempt_4 post ck a1 a2 a3 a4 a5 a6 a7 a8 (n + 1) (qz_old c 4) (nI 4)
    rw [qz_old4 c hc]
    refine pk_le 4 4 (fun _ => br_f (nI_pos (by omega)) ⟨pk_in c 4 hc, nm_r ?_ h⟩) (fun z => absurd z (by omega))
    rw [nI_clamp (show c < 2 ^ 31 by omega)]
  · have hw' : wX_preempt_4 post ck a1 a2 a3 a4 a5 a6 a7 a8 n (qz_old c (i + 1)) (nI (i + 1)) := hw () trivial
    refine pk_le 4 i (fun z => absurd z (by omega)) (fun _ => qz_us hi ⟨pk_in i 4 hi, ?_⟩)
    rw [nI_clamp (show i < 2 ^ 31 by omega)]
    refine br_f (hA i hi) ?_
    by_cases e : i = c
    · have t : qz_old c (i + 1) = nI i := if_pos e
      rw [t] at hw'
      refine br_f ?_ (br_t ?_ (nm_r (nI_1 i) hw'))
      · rw [e, hu']
        exact nI_ge (b := 4) (a := 3) (by decide) (by decide)
      · rw [e, qz_oldc c hc]
        exact qz_m1n
    · have t : qz_old c (i + 1) = qz_old c i := if_neg e
      rw [t] at hw'
      refine br_t ?_ (nm_r (nI_1 i) hw')
      rw [hu i hi e]
      exact nI_le (a := 4) (b := 4) (by decide) (by decide)
theorem qz_t77 {post : Int32 → St2 → Prop} {f : Nat} (hf : f < 16) (hA : ∀ j, j < 4 → ¬ a6 j < 0) (hA' : ∀ j, j < 4 → 0 ≤ a6 j) (hU : ∀ j, j < 16 → j ≠ f → ¬ a2 j = 0) (h0 : a2 f = 0) (hu : ∀ j, j < 4 → j ≠ f / 4 → qz_ui a2 j 4 = 4) (hu' : qz_ui a2 (f / 4) 4 = 3) (h : post (nI f) (ck, a1, a2, a3, a4, a5, upd a6 (f / 4) (-1), a7, a8)) : wX_takeFrame_77 post ck a1 a2 a3 a4 a5 a6 a7 a8 := by
  unfold wX_takeFrame_77
  refine qz_lf0 (fun j hj _ => hA' _ (by omega)) (br_f qz_m1p (qz_pe (c := f / 4) (by omega) hA hu hu' (qz_lf (f := f) hf (fun j hj z => absurd z (hU j (by omega) (by omega))) h0 ?_ h)))
  rw [pk_us]
  exact qz_m1p
theorem qz_tf {post : Int32 → St2 → Prop} {P f : Nat} (hP : P < 32) (hf : f < 16) (hH : qz_held a6 (nI (P / 4)) 4 = -1) (hA : ∀ j, j < 4 → ¬ a6 j < 0) (hA' : ∀ j, j < 4 → 0 ≤ a6 j) (hU : ∀ j, j < 16 → j ≠ f → ¬ a2 j = 0) (h0 : a2 f = 0) (hu : ∀ j, j < 4 → j ≠ f / 4 → qz_ui a2 j 4 = 4) (hu' : qz_ui a2 (f / 4) 4 = 3) (h : post (nI f) (ck, a1, a2, a3, a4, a5, upd a6 (f / 4) (-1), a7, a8)) : wpX_takeFrame post (ck, a1, a2, a3, a4, a5, a6, a7, a8) (nI P) := by
  unfold wpX_takeFrame
  refine nm_r (qz_sh P hP) (qz_hb ?_)
  rw [hH]
  refine br_f qz_m1p (qz_eg0 (fun j hj => ?_) (br_t qz_m1n ?_))
  · by_cases e : j = f / 4
    · rw [e, hu']
      decide
    · rw [hu j hj e]
      decide
  · unfold wX_takeFrame_30
    exact br_t qz_m1n (qz_t77 hf hA hA' hU h0 hu hu' h)
theorem qz_t30 {post : Int32 → St2 → Prop} {P g : Nat} (hP : P < 32) (hg : g < 4) (hU : a2 (g * 4 + P % 4) = 0) (h : post (nI (g * 4 + P % 4)) (ck + 1, a1, a2, a3, a4, a5, a6, upd a7 g (ck + 1), a8)) : wX_takeFrame_30 post (nI P) (nI g) ck a1 a2 a3 a4 a5 a6 a7 a8 := by
  unfold wX_takeFrame_30
  rw [qz_an P hP, qz_m4, nI_clamp (show g * 4 + P % 4 < 2 ^ 31 by omega)]
  refine br_f (nI_pos (by omega)) ⟨pk_in (g * 4 + P % 4) 16 (by omega), br_t hU (nm_e ⟨pk_in g 4 hg, nm_r ?_ h⟩)⟩
  rw [nI_clamp (show g < 2 ^ 31 by omega)]
/-- a frame of the group that the range holds -/
theorem qz_tfA {post : Int32 → St2 → Prop} {P g : Nat} (hP : P < 32) (hg : g < 4) (hH : qz_held a6 (nI (P / 4)) 4 = nI g) (hU : a2 (g * 4 + P % 4) = 0) (h : post (nI (g * 4 + P % 4)) (ck + 1, a1, a2, a3, a4, a5, a6, upd a7 g (ck + 1), a8)) : wpX_takeFrame post (ck, a1, a2, a3, a4, a5, a6, a7, a8) (nI P) := by
  unfold wpX_takeFrame
  refine nm_r (qz_sh P hP) (qz_hb ?_)
  rw [hH]
  exact br_t (nI_pos' (by omega)) (qz_t30 hP hg hU h)
/-- a frame of an empty group, which is reserved -/
theorem qz_tfB {post : Int32 → St2 → Prop} {P g : Nat} (hP : P < 32) (hg : g < 4) (hH : qz_held a6 (nI (P / 4)) 4 = -1) (h0 : ∀ j, j < g → ¬ qz_ui a2 j 4 = 0) (h1 : qz_ui a2 g 4 = 0) (h2 : ¬ 0 ≤ a6 g) (hU : a2 (g * 4 + P % 4) = 0) (h : post (nI (g * 4 + P % 4)) (ck + 1, a1, a2, a3, a4, a5, upd a6 g (nI (P / 4)), upd a7 g (ck + 1), a8)) : wpX_takeFrame post (ck, a1, a2, a3, a4, a5, a6, a7, a8) (nI P) := by
  unfold wpX_takeFrame
  refine nm_r (qz_sh P hP) (qz_hb ?_)
  rw [hH]
  refine br_f qz_m1p (qz_eg hg h0 h1 h2 (br_f (nI_pos (by omega)) ⟨pk_in g 4 hg, nm_r ?_ (qz_t30 hP hg hU h)⟩))
  rw [nI_clamp (show g < 2 ^ 31 by omega)]
theorem qz_cp {post : St2 → Prop} {f t : Nat} (hf : f < 16) (ht : t < 16) (h : post (ck, qz_cf a1 f t 4, a2, a3, a4, a5, a6, a7, a8)) : wpX_copyFrame post (ck, a1, a2, a3, a4, a5, a6, a7, a8) (nI f) (nI t) := by
  refine pk_loop (σ := Unit) (fun n i _ => wX_copyFrame_2 post (nI f) (nI t) ck n (nI i) (qz_cf a1 f t i) a2 a3 a4 a5 a6 a7 a8) (fun _ _ => True) 4 0 () (by omega) trivial
    (fun n _ _ => pk_le 4 4 (fun _ => h) (fun z => absurd z (by omega)))
    (fun n i _ hi _ hw => pk_le 4 i (fun z => absurd z (by omega)) (fun _ => ?_))
  have hw' : wX_copyFrame_2 post (nI f) (nI t) ck n (nI (i + 1)) (qz_cf a1 f t (i + 1)) a2 a3 a4 a5 a6 a7 a8 := hw () trivial
  rw [qz_m4 f i, qz_m4 t i, nI_clamp (show f * 4 + i < 2 ^ 31 by omega), nI_clamp (show t * 4 + i < 2 ^ 31 by omega)]
  exact ⟨pk_in (f * 4 + i) 64 (by omega), pk_in (t * 4 + i) 64 (by omega), nm_e (nm_r (nI_1 i) hw')⟩
theorem qz_re0 {post : St2 → Prop} {r : Int32} (hH : qz_held a6 r 4 = -1) (h : post (ck, a1, a2, a3, a4, a5, a6, a7, a8)) : wpX_release post (ck, a1, a2, a3, a4, a5, a6, a7, a8) r := by
  unfold wpX_release
  refine qz_hb ?_
  rw [hH]
  exact br_t qz_m1n h
theorem qz_re1 {post : St2 → Prop} {r g : Nat} (hr : r < 8) (hg : g < 4) (hH : qz_held a6 (nI r) 4 = nI g) (hL : a5 r < 0) (hk : ¬ qz_kp a3 r (nI g) 4 = 0) (h : post (ck, a1, a2, a3, a4, a5, a6, a7, a8)) : wpX_release post (ck, a1, a2, a3, a4, a5, a6, a7, a8) (nI r) := by
  unfold wpX_release
  refine qz_hb ?_
  rw [hH]
  refine br_f (nI_pos (by omega)) ⟨pk_in r 8 hr, br_t (by rw [nI_clamp (by omega)]; exact hL) ?_⟩
  refine pk_loop (σ := Unit) (fun n i _ => wX_release_25 post (nI r) (nI g) ck a1 a2 a3 a4 a5 a6 a7 a8 n (qz_kp a3 r (nI g) i) (nI i)) (fun _ _ => True) 4 0 () (by omega) trivial
    (fun n _ _ => pk_le 4 4 (fun _ => br_f hk h) (fun z => absurd z (by omega)))
    (fun n i _ hi _ hw => pk_le 4 i (fun z => absurd z (by omega)) (fun _ => ?_))
  have hw' : wX_release_25 post (nI r) (nI g) ck a1 a2 a3 a4 a5 a6 a7 a8 n (qz_kp a3 r (nI g) (i + 1)) (nI (i + 1)) := hw () trivial
  rw [qz_m4, nI_clamp (show r * 4 + i < 2 ^ 31 by omega)]
  refine ⟨pk_in (r * 4 + i) 32 (by omega), nm_e (br_c (fun z => ?_) (fun z => nm_r (nI_1 i) ?_))⟩
  · have e : qz_kp a3 r (nI g) (i + 1) = (if a3 (r * 4 + i) < 0 then 0 else if a3 (r * 4 + i) >>> ((2 : Int32) &&& 31) = nI g then 1 else 0) := if_pos z
    rw [e] at hw'
    refine br_c (fun y => nm_r (nI_1 i) ?_) (fun y => br_c (fun t => nm_r (nI_1 i) ?_) (fun t => nm_r (nI_1 i) ?_))
    · rw [if_pos y] at hw'
      exact hw'
    · rw [if_neg y, if_pos t] at hw'
      exact hw'
    · rw [if_neg y, if_neg t] at hw'
      exact hw'
  · have e : qz_kp a3 r (nI g) (i + 1) = 1 := if_neg z
    rw [e] at hw'
    exact hw'
theorem qz_do {post : St2 → Prop} {r : Int32} {g : Nat} (hg : g < 4) (h0 : ∀ j, j < 4 → j ≠ g → ¬ a6 j = r) (h : post (ck, a1, a2, a3, a4, a5, a6, a7, a8)) : wpX_dropOthers post (ck, a1, a2, a3, a4, a5, a6, a7, a8) r (nI g) :=
  pk_loop (σ := Unit) (fun n i _ => wX_dropOthers_2 post r (nI g) ck n (nI i) a1 a2 a3 a4 a5 a6 a7 a8) (fun _ _ => True) 4 0 () (by omega) trivial
    (fun n _ _ => pk_le 4 4 (fun _ => h) (fun z => absurd z (by omega)))
    (fun n i _ hi _ hw => pk_le 4 i (fun z => absurd z (by omega)) (fun _ => pk_eq i g (fun _ => nm_r (nI_1 i) (hw () trivial)) (fun z => ⟨pk_in i 4 hi, br_f (by rw [nI_clamp (by omega)]; exact h0 i hi z) (nm_r (nI_1 i) (hw () trivial))⟩)))
theorem qz_84 {post : St2 → Prop} {J : Int32 → Int32 → Int32 → Prop} {x1 x2 x3 x4 x6 : Int32} {i : Nat} (H : ∀ y3 y4, J y3 y4 (nI (i + 1))) : wX_promote_84 post J x1 x2 x3 x4 (nI i) x6 ck a1 a2 a3 a4 a5 a6 a7 a8 :=
  br_c (fun _ => nm_r (nI_1 i) (H _ _)) (fun _ => br_c (fun _ => nm_r (nI_1 i) (H _ _)) (fun _ => nm_r (nI_1 i) (H _ _)))
theorem qz_ps22 {post : St2 → Prop} {r : Nat} (hr : r < 8) (h4 : ∀ i, i < 4 → a4 (r * 4 + i) = a4 (r * 4)) (h : post (ck, a1, a2, a3, a4, a5, a6, a7, a8)) : ∀ c i x3 x4, i + c = 4 → qz_st a2 a3 r c i = true → wX_promote_22 post (nI r) (nI (r * 4)) ck a1 a2 a3 a4 a5 a6 a7 a8 (c + 1) x3 x4 (nI i)
  | 0, i, x3, x4, hi, hs => absurd hs (by intro z; cases z)
  | c + 1, i, x3, x4, hi, hs => by
    have ih : ∀ y3 y4, qz_st a2 a3 r c (i + 1) = true → wX_promote_22 post (nI r) (nI (r * 4)) ck a1 a2 a3 a4 a5 a6 a7 a8 (c + 1) y3 y4 (nI (i + 1)) := fun y3 y4 t => qz_ps22 hr h4 h c (i + 1) y3 y4 (by omega) t
    have hs' : (decide (a3 (r * 4 + i) < 0) || (decide ((a3 (r * 4 + i)).toNatClampNeg < 16) && (!decide (a2 (a3 (r * 4 + i)).toNatClampNeg = 1) || qz_st a2 a3 r c (i + 1)))) = true := hs
    refine pk_le 4 i (fun z => absurd z (by omega)) (fun _ => ?_)
    rw [nI_add, nI_clamp (show r * 4 + i < 2 ^ 31 by omega), nI_clamp (show r * 4 < 2 ^ 31 by omega)]
    refine ⟨pk_in (r * 4 + i) 32 (by omega), nm_e (br_c (fun _ => h) (fun y => ?_))⟩
    rw [decide_eq_false y, Bool.false_or, Bool.and_eq_true, Bool.or_eq_true] at hs'
    obtain ⟨k1, k2⟩ := hs'
    have k1' := of_decide_eq_true k1
    refine ⟨fun t => t.elim y (fun t => absurd t (by omega)), br_c (fun w => ⟨pk_in (r * 4 + i) 32 (by omega), pk_in (r * 4) 32 (by omega), br_t (h4 i (by omega)) ?_⟩) (fun _ => h)⟩
    have k3 : qz_st a2 a3 r c (i + 1) = true := by
      cases k2 with
      | inl t => rw [decide_eq_true w] at t; cases t
      | inr t => exact t
    exact br_c (fun _ => nm_e (qz_84 (fun y3 y4 => ih y3 y4 k3))) (fun _ => qz_84 (fun y3 y4 => ih y3 y4 k3))
/-- promote gives up -/
theorem qz_ps {post : St2 → Prop} {r : Nat} (hr : r < 8) (hL : a5 r < 0) (h4 : ∀ i, i < 4 → a4 (r * 4 + i) = a4 (r * 4)) (hs : qz_st a2 a3 r 4 0 = true) (h : post (ck, a1, a2, a3, a4, a5, a6, a7, a8)) : wpX_promote post (ck, a1, a2, a3, a4, a5, a6, a7, a8) (nI r) := by
  unfold wpX_promote
  refine ⟨pk_in r 8 hr, br_t (by rw [nI_clamp (by omega)]; exact hL) (nm_r (pk_mul r 4) ⟨5, ?_⟩)⟩
  exact qz_ps22 hr h4 h 4 0 (-1) 1 rfl hs
theorem qz_134 {post : St2 → Prop} {r g : Nat} (hr : r < 8) (hg : g < 4) (hH : ∀ j, j < 4 → j ≠ g → ¬ a6 j = nI r) (h : post (ck, a1, a2, qz_cb a3 r 4, a4, upd a5 r (nI g), upd a6 g (nI r), a7, a8)) : wX_promote_134 post (nI r) (nI (r * 4)) (nI g) ck a1 a2 a3 a4 a5 a6 a7 a8 := by
  unfold wX_promote_134
  rw [nI_clamp (show r < 2 ^ 31 by omega), nI_clamp (show g < 2 ^ 31 by omega)]
  refine ⟨pk_in r 8 hr, nm_e ⟨pk_in g 4 hg, nm_e (qz_do hg (fun j hj hn => by rw [pk_un hn]; exact hH j hj hn) ?_)⟩⟩
  refine pk_loop (σ := Unit) (fun n i _ => wX_promote_157 post (nI (r * 4)) ck n (nI i) a1 a2 (qz_cb a3 r i) a4 (upd a5 r (nI g)) (upd a6 g (nI r)) a7 a8) (fun _ _ => True) 4 0 () (by omega) trivial
    (fun n _ _ => pk_le 4 4 (fun _ => h) (fun z => absurd z (by omega)))
    (fun n i _ hi _ hw => pk_le 4 i (fun z => absurd z (by omega)) (fun _ => ?_))
  have hw' : wX_promote_157 post (nI (r * 4)) ck n (nI (i + 1)) a1 a2 (qz_cb a3 r (i + 1)) a4 (upd a5 r (nI g)) (upd a6 g (nI r)) a7 a8 := hw () trivial
  rw [nI_add, nI_clamp (show r * 4 + i < 2 ^ 31 by omega)]
  exact ⟨pk_in (r * 4 + i) 32 (by omega), nm_e (nm_r (nI_1 i) hw')⟩
/-- promote makes a large entry, in place -/
theorem qz_po {post : St2 → Prop} {r g : Nat} (hr : r < 8) (hg : g < 4) (hL : a5 r < 0) (hB : ∀ i, i < 4 → a3 (r * 4 + i) = nI (g * 4 + i)) (hU : ∀ i, i < 4 → a2 (g * 4 + i) = 1) (h4 : ∀ i, i < 4 → a4 (r * 4 + i) = a4 (r * 4)) (hH : ∀ j, j < 4 → j ≠ g → ¬ a6 j = nI r) (h : post (ck, a1, a2, qz_cb a3 r 4, a4, upd a5 r (nI g), upd a6 g (nI r), a7, a8)) : wpX_promote post (ck, a1, a2, a3, a4, a5, a6, a7, a8) (nI r) := by
  unfold wpX_promote
  refine ⟨pk_in r 8 hr, br_t (by rw [nI_clamp (by omega)]; exact hL) (nm_r (pk_mul r 4) ?_)⟩
  refine pk_loop (σ := Unit) (fun n i _ => wX_promote_22 post (nI r) (nI (r * 4)) ck a1 a2 a3 a4 a5 a6 a7 a8 n (qz_x3 g i) 1 (nI i)) (fun _ _ => True) 4 0 () (by omega) trivial
    (fun n _ _ => pk_le 4 4 (fun _ => br_f (by decide) (qz_134 hr hg hH h)) (fun z => absurd z (by omega)))
    (fun n i _ hi _ hw => pk_le 4 i (fun z => absurd z (by omega)) (fun _ => ?_))
  have hw' : wX_promote_22 post (nI r) (nI (r * 4)) ck a1 a2 a3 a4 a5 a6 a7 a8 n (nI g) 1 (nI (i + 1)) := hw () trivial
  rw [nI_add, nI_clamp (show r * 4 + i < 2 ^ 31 by omega), nI_clamp (show r * 4 < 2 ^ 31 by omega)]
  have k : wX_promote_84 post (wX_promote_22 post (nI r) (nI (r * 4)) ck a1 a2 a3 a4 a5 a6 a7 a8 n) (nI r) (nI (r * 4)) (nI g) 1 (nI i) (nI (g * 4 + i)) ck a1 a2 a3 a4 a5 a6 a7 a8 :=
    br_f (by decide) (br_t (qz_m4 g i).symm (nm_r (nI_1 i) hw'))
  refine ⟨pk_in (r * 4 + i) 32 (by omega), nm_r (hB i hi) (br_f (nI_pos (by omega)) ⟨pk_in (g * 4 + i) 16 (by omega), br_t (by rw [nI_clamp (by omega)]; exact hU i hi) ⟨pk_in (r * 4 + i) 32 (by omega), pk_in (r * 4) 32 (by omega), br_t (h4 i hi) ?_⟩⟩)⟩
  refine pk_eq i 0 (fun z => nm_r ?_ k) (fun z => ?_)
  · rw [qz_sh _ (by omega)]
    exact congrArg nI (by omega)
  · cases i with
    | zero => exact absurd rfl z
    | succ i => exact k
theorem qz_de0 {post : St2 → Prop} {r : Nat} (hr : r < 8) (hL : a5 r = -1) (h : post (ck, a1, a2, a3, a4, a5, a6, a7, a8)) : wpX_demote post (ck, a1, a2, a3, a4, a5, a6, a7, a8) (nI r) := by
  unfold wpX_demote
  rw [nI_clamp (show r < 2 ^ 31 by omega)]
  exact ⟨pk_in r 8 hr, nm_r hL (br_f qz_m1p h)⟩
theorem qz_de {post : St2 → Prop} {r e : Nat} (hr : r < 8) (he : e < 4) (hL : a5 r = nI e) (h : post (ck, a1, a2, qz_db a3 r e 4, a4, upd a5 r (-1), a6, a7, a8)) : wpX_demote post (ck, a1, a2, a3, a4, a5, a6, a7, a8) (nI r) := by
  unfold wpX_demote
  rw [nI_clamp (show r < 2 ^ 31 by omega)]
  refine ⟨pk_in r 8 hr, nm_r hL (br_t (nI_pos' (by omega)) ⟨pk_in r 8 hr, nm_e ?_⟩)⟩
  refine pk_loop (σ := Unit) (fun n i _ => wX_demote_21 post (nI r) (nI e) ck n (nI i) a1 a2 (qz_db a3 r e i) a4 (upd a5 r (-1)) a6 a7 a8) (fun _ _ => True) 4 0 () (by omega) trivial
    (fun n _ _ => pk_le 4 4 (fun _ => h) (fun z => absurd z (by omega)))
    (fun n i _ hi _ hw => pk_le 4 i (fun z => absurd z (by omega)) (fun _ => ?_))
  have hw' : wX_demote_21 post (nI r) (nI e) ck n (nI (i + 1)) a1 a2 (qz_db a3 r e (i + 1)) a4 (upd a5 r (-1)) a6 a7 a8 := hw () trivial
  rw [qz_m4 r i, qz_m4 e i, nI_clamp (show r * 4 + i < 2 ^ 31 by omega)]
  exact ⟨pk_in (r * 4 + i) 32 (by omega), nm_e (nm_r (nI_1 i) hw')⟩
end
end
section
/-! the calls -/
/-- the ranges 0 .. i - 1 of a process are demoted: pages -/
def qz_sb (a : Nat → Int32) (p : Nat) : Nat → Nat → Int32
  | 0 => a
  | i + 1 => qz_db (qz_sb a p i) (p * 4 + i) i 4
/-- .. and large entries -/
def qz_sl (a : Nat → Int32) (p : Nat) : Nat → Nat → Int32
  | 0 => a
  | i + 1 => upd (qz_sl a p i) (p * 4 + i) (-1)
/-- the other process gets the pages 0 .. i - 1 -/
def qz_tb (a : Nat → Int32) (q : Nat) : Nat → Nat → Int32
  | 0 => a
  | i + 1 => upd (qz_tb a q i) (q * 16 + i) (nI i)
def qz_tu (a : Nat → Int32) : Nat → Nat → Int32
  | 0 => a
  | i + 1 => upd (qz_tu a i) i 2
def qz_z : Nat → Int32 := fun _ => 0
theorem qz_zu (k : Nat) : upd qz_z k 0 = qz_z := by
  funext j
  show (if j = k then (0 : Int32) else 0) = 0
  split <;> rfl
theorem qz_zn : vp_nar .boolean (0 : Int32) = 0 := by decide
section
variable {ck bk dk : Int32} {a1 a2 a3 a4 a5 a6 a7 a8 b1 b2 b3 b4 b5 b6 b7 b8 d1 d2 d3 d4 d5 d6 d7 d8 : Nat → Int32}
theorem qz_rm {post : St2 → Prop} {P f : Nat} {y : Int32} (hP : P < 32) (hf : f < 16) (hL : a5 (P / 4) = -1) (hB : a3 P = nI f) (hy : a2 f - 1 = y)
    (hR : ∀ Q : St2 → Prop, Q (ck, a1, upd a2 f y, upd a3 P (-1), a4, a5, a6, a7, a8) → wpX_release Q (ck, a1, upd a2 f y, upd a3 P (-1), a4, a5, a6, a7, a8) (nI (P / 4)))
    (h : post (ck, a1, upd a2 f y, upd a3 P (-1), a4, a5, a6, a7, a8)) : wpX_remove post (ck, a1, a2, a3, a4, a5, a6, a7, a8) (nI P) := by
  unfold wpX_remove
  refine nm_r (qz_sh P hP) (qz_de0 (by omega) hL ⟨pk_in P 32 hP, ?_⟩)
  rw [nI_clamp (show P < 2 ^ 31 by omega)]
  refine nm_r hB ⟨pk_in f 16 hf, pk_in f 16 hf, nm_r ?_ ⟨pk_in P 32 hP, nm_e (hR _ h)⟩⟩
  rw [nI_clamp (show f < 2 ^ 31 by omega), hy]
theorem qz_um {post : Int32 → St2 → Prop} {p v f : Nat} {y : Int32} (hp : p < 2) (hv : v < 16) (hf : f < 16) (hL : a5 ((p * 16 + v) / 4) = -1) (hB : a3 (p * 16 + v) = nI f) (hy : a2 f - 1 = y)
    (hR : ∀ Q : St2 → Prop, Q (ck, a1, upd a2 f y, upd a3 (p * 16 + v) (-1), a4, a5, a6, a7, a8) → wpX_release Q (ck, a1, upd a2 f y, upd a3 (p * 16 + v) (-1), a4, a5, a6, a7, a8) (nI ((p * 16 + v) / 4)))
    (h : post 0 (ck, a1, upd a2 f y, upd a3 (p * 16 + v) (-1), a4, a5, a6, a7, a8)) : wpX_unmap post (ck, a1, a2, a3, a4, a5, a6, a7, a8) (nI p) (nI v) := by
  unfold wpX_unmap
  refine qz_bad hp hv (br_t rfl ?_)
  rw [qz_pg]
  refine qz_fo (by omega) (by rw [hL]; exact qz_m1n) ?_
  rw [hB]
  exact br_t (nI_pos' (by omega)) (qz_rm (by omega) hf hL hB hy hR h)
/-- bringIn takes a frame -/
theorem qz_bi {post : Int32 → St2 → Prop} {P f : Nat} (hP : P < 32) (hf : f < 16) (hL : a5 (P / 4) < 0) (hB : a3 P = -1) (hc : qz_cnt a2 16 < 16)
    (hT : ∀ Q : Int32 → St2 → Prop, Q (nI f) (bk, b1, b2, b3, b4, b5, b6, b7, b8) → wpX_takeFrame Q (ck, a1, a2, a3, a4, a5, a6, a7, a8) (nI P))
    (hM : ∀ Q : St2 → Prop, Q (dk, d1, d2, d3, d4, d5, d6, d7, d8) → wpX_promote Q (bk, qz_zw b1 f 4, upd b2 f 1, upd b3 P (nI f), upd b4 P 0, b5, b6, b7, b8) (nI (P / 4)))
    (h : post 1 (dk, d1, d2, d3, d4, d5, d6, d7, d8)) : wpX_bringIn post (ck, a1, a2, a3, a4, a5, a6, a7, a8) (nI P) := by
  unfold wpX_bringIn
  refine qz_fo hP hL ?_
  rw [hB]
  refine br_t qz_m1n (qz_fiu (br_f (qz_c16 hc) (hT _ (br_t (nI_pos' (by omega)) ?_))))
  refine pk_loop (σ := Unit) (fun n i _ => wX_bringIn_42 post (nI P) (nI f) bk n (nI i) (qz_zw b1 f i) b2 b3 b4 b5 b6 b7 b8) (fun _ _ => True) 4 0 () (by omega) trivial
    (fun n _ _ => pk_le 4 4 (fun _ => ?_) (fun z => absurd z (by omega)))
    (fun n i _ hi _ hw => pk_le 4 i (fun z => absurd z (by omega)) (fun _ => ?_))
  · rw [nI_clamp (show f < 2 ^ 31 by omega), nI_clamp (show P < 2 ^ 31 by omega), qz_sh P hP]
    exact ⟨pk_in f 16 hf, nm_e ⟨pk_in P 32 hP, nm_e ⟨pk_in P 32 hP, nm_e (hM _ h)⟩⟩⟩
  · have hw' : wX_bringIn_42 post (nI P) (nI f) bk n (nI (i + 1)) (qz_zw b1 f (i + 1)) b2 b3 b4 b5 b6 b7 b8 := hw () trivial
    rw [qz_m4, nI_clamp (show f * 4 + i < 2 ^ 31 by omega)]
    exact ⟨pk_in (f * 4 + i) 64 (by omega), nm_e (nm_r (nI_1 i) hw')⟩
/-- bringIn finds no frame -/
theorem qz_bi2 {post : Int32 → St2 → Prop} {P : Nat} (hP : P < 32) (hL : a5 (P / 4) < 0) (hB : a3 P = -1) (hc : qz_cnt a2 16 = 16) (h : post (-2) (ck, a1, a2, a3, a4, a5, a6, a7, a8)) : wpX_bringIn post (ck, a1, a2, a3, a4, a5, a6, a7, a8) (nI P) := by
  unfold wpX_bringIn
  refine qz_fo hP hL ?_
  rw [hB]
  refine br_t qz_m1n (qz_fiu (br_t ?_ h))
  rw [hc]
  rfl
theorem qz_to {post : Int32 → St2 → Prop} {p v : Nat} (hp : p < 2) (hv : v < 16) (hL : a5 ((p * 16 + v) / 4) < 0) (hB : a3 (p * 16 + v) = -1) (hc : qz_cnt a2 16 = 16) (h : post (-2) (ck, a1, a2, a3, a4, a5, a6, a7, a8)) : wpX_touch post (ck, a1, a2, a3, a4, a5, a6, a7, a8) (nI p) (nI v) := by
  unfold wpX_touch
  refine qz_bad hp hv (br_t rfl ?_)
  rw [qz_pg]
  exact qz_bi2 (by omega) hL hB hc h
/-- a page that is not there is brought in -/
theorem qz_op1 {post : Int32 → St2 → Prop} {P : Nat} (hP : P < 32) (hL : a5 (P / 4) < 0) (hB : a3 P = -1)
    (hI : ∀ Q : Int32 → St2 → Prop, Q 1 (bk, b1, b2, b3, b4, b5, b6, b7, b8) → wpX_bringIn Q (ck, a1, a2, a3, a4, a5, a6, a7, a8) (nI P)) (h : post 0 (bk, b1, b2, b3, b4, b5, b6, b7, b8)) : wpX_open post (ck, a1, a2, a3, a4, a5, a6, a7, a8) (nI P) := by
  unfold wpX_open
  refine qz_fo hP hL ?_
  rw [hB]
  exact br_f qz_m1p (hI _ (br_t (by decide) h))
/-- a page with a frame of its own -/
theorem qz_op2 {post : Int32 → St2 → Prop} {P f : Nat} (hP : P < 32) (hf : f < 16) (hL : a5 (P / 4) < 0) (hB : a3 P = nI f) (h4 : a4 P = 0) (hU : a2 f = 1) (h : post 0 (ck, a1, a2, a3, a4, a5, a6, a7, a8)) : wpX_open post (ck, a1, a2, a3, a4, a5, a6, a7, a8) (nI P) := by
  unfold wpX_open
  refine qz_fo hP hL ?_
  rw [hB, nI_clamp (show P < 2 ^ 31 by omega), nI_clamp (show f < 2 ^ 31 by omega)]
  exact br_t (nI_pos' (by omega)) ⟨pk_in P 32 hP, br_t h4 ⟨pk_in f 16 hf, br_t hU h⟩⟩
/-- a shared page, and no frame -/
theorem qz_op3 {post : Int32 → St2 → Prop} {P f : Nat} (hP : P < 32) (hf : f < 16) (hL : a5 (P / 4) < 0) (hB : a3 P = nI f) (h4 : a4 P = 0) (hU : ¬ a2 f = 1) (hc : qz_cnt a2 16 = 16) (h : post (-2) (ck, a1, a2, a3, a4, a5, a6, a7, a8)) : wpX_open post (ck, a1, a2, a3, a4, a5, a6, a7, a8) (nI P) := by
  unfold wpX_open
  refine qz_fo hP hL ?_
  rw [hB, nI_clamp (show P < 2 ^ 31 by omega), nI_clamp (show f < 2 ^ 31 by omega)]
  refine br_t (nI_pos' (by omega)) ⟨pk_in P 32 hP, br_t h4 ⟨pk_in f 16 hf, br_f hU (qz_fiu (br_t ?_ h))⟩⟩
  rw [hc]
  rfl
/-- a shared page gets a frame of its own -/
theorem qz_op4 {post : Int32 → St2 → Prop} {P f g : Nat} (hP : P < 32) (hf : f < 16) (hg : g < 16) (hL : a5 (P / 4) < 0) (hB : a3 P = nI f) (h4 : a4 P = 0) (hU : ¬ a2 f = 1) (hc : qz_cnt a2 16 < 16)
    (hT : ∀ Q : Int32 → St2 → Prop, Q (nI g) (bk, b1, b2, b3, b4, b5, b6, b7, b8) → wpX_takeFrame Q (ck, a1, a2, a3, a4, a5, a6, a7, a8) (nI P))
    (hR : ∀ Q : St2 → Prop, Q (bk, qz_cf b1 f g 4, upd (upd b2 f 1) g 1, upd b3 P (nI g), b4, b5, b6, b7, b8) → wpX_release Q (bk, qz_cf b1 f g 4, upd (upd b2 f 1) g 1, upd b3 P (nI g), b4, b5, b6, b7, b8) (nI (P / 4)))
    (hM : ∀ Q : St2 → Prop, Q (bk, qz_cf b1 f g 4, upd (upd b2 f 1) g 1, upd b3 P (nI g), b4, b5, b6, b7, b8) → wpX_promote Q (bk, qz_cf b1 f g 4, upd (upd b2 f 1) g 1, upd b3 P (nI g), b4, b5, b6, b7, b8) (nI (P / 4)))
    (hM' : ∀ Q : St2 → Prop, Q (bk, qz_cf b1 f g 4, upd (upd b2 f 1) g 1, upd b3 P (nI g), b4, b5, b6, b7, b8) → wpX_promote Q (bk, qz_cf b1 f g 4, upd (upd b2 f 1) g 1, upd b3 P (nI g), b4, b5, b6, b7, b8) (nI (P / 4) ^^^ 4))
    (h : post 0 (bk, qz_cf b1 f g 4, upd (upd b2 f 1) g 1, upd b3 P (nI g), b4, b5, b6, b7, b8)) : wpX_open post (ck, a1, a2, a3, a4, a5, a6, a7, a8) (nI P) := by
  unfold wpX_open
  refine qz_fo hP hL ?_
  rw [hB, nI_clamp (show P < 2 ^ 31 by omega), nI_clamp (show f < 2 ^ 31 by omega), qz_sh P hP]
  refine br_t (nI_pos' (by omega)) ⟨pk_in P 32 hP, br_t h4 ⟨pk_in f 16 hf, br_f hU (qz_fiu (br_f (qz_c16 hc) (hT _ (br_t (nI_pos' (by omega)) (qz_cp hf hg ?_)))))⟩⟩
  refine ⟨pk_in f 16 hf, nm_e ⟨pk_in g 16 hg, nm_r (e' := upd (upd b2 f 1) g 1) ?_ ⟨pk_in P 32 hP, nm_e (hR _ (hM _ (hM' _ h)))⟩⟩⟩
  rw [nI_clamp (show g < 2 ^ 31 by omega)]
/-- write, where the page can be written -/
theorem qz_wr {post : Int32 → St2 → Prop} {p v w f : Nat} {y : Int32} (hp : p < 2) (hv : v < 16) (hw : w < 4) (hf : f < 16)
    (hO : ∀ Q : Int32 → St2 → Prop, Q 0 (bk, b1, b2, b3, b4, b5, b6, b7, b8) → wpX_open Q (ck, a1, a2, a3, a4, a5, a6, a7, a8) (nI (p * 16 + v)))
    (hF : ∀ Q : Int32 → Prop, Q (nI f) → wpX_frameOf Q (bk, b1, b2, b3, b4, b5, b6, b7, b8) (nI (p * 16 + v)))
    (h : post 0 (bk, upd b1 (f * 4 + w) y, b2, b3, b4, b5, b6, b7, b8)) : wpX_write post (ck, a1, a2, a3, a4, a5, a6, a7, a8) (nI p) (nI v) (nI w) y := by
  unfold wpX_write
  refine qz_bad hp hv (br_t rfl (br_f (nI_pos (by omega)) (br_t (nI_le (b := 3) (by omega) (by decide)) ?_)))
  rw [qz_pg]
  refine hO _ (br_t (by decide) (hF _ ?_))
  refine ⟨pk_in (f * 4 + w) 64 (by omega) (qz_m4 f w), nm_r ?_ h⟩
  rw [qz_m4, nI_clamp (show f * 4 + w < 2 ^ 31 by omega)]
/-- write, where there is no frame -/
theorem qz_wr2 {post : Int32 → St2 → Prop} {p v w : Nat} {y : Int32} (hp : p < 2) (hv : v < 16) (hw : w < 4)
    (hO : ∀ Q : Int32 → St2 → Prop, Q (-2) (ck, a1, a2, a3, a4, a5, a6, a7, a8) → wpX_open Q (ck, a1, a2, a3, a4, a5, a6, a7, a8) (nI (p * 16 + v)))
    (h : post (-2) (ck, a1, a2, a3, a4, a5, a6, a7, a8)) : wpX_write post (ck, a1, a2, a3, a4, a5, a6, a7, a8) (nI p) (nI v) (nI w) y := by
  unfold wpX_write
  refine qz_bad hp hv (br_t rfl (br_f (nI_pos (by omega)) (br_t (nI_le (b := 3) (by omega) (by decide)) ?_)))
  rw [qz_pg]
  exact hO _ (br_f (by decide) h)
/-- copy, where there is no frame -/
theorem qz_cy {post : Int32 → St2 → Prop} {p v u f : Nat} (hp : p < 2) (hv : v < 16) (hu : u < 16) (hf : f < 16) (hL : a5 ((p * 16 + v) / 4) < 0) (hB : a3 (p * 16 + v) = nI f)
    (hO : ∀ (c : Nat → Int32) (Q : Int32 → St2 → Prop), Q (-2) (ck, a1, a2, a3, a4, a5, a6, a7, c) → wpX_open Q (ck, a1, a2, a3, a4, a5, a6, a7, c) (nI (p * 16 + u)))
    (h : ∀ c : Nat → Int32, post (-2) (ck, a1, a2, a3, a4, a5, a6, a7, c)) : wpX_copy post (ck, a1, a2, a3, a4, a5, a6, a7, a8) (nI p) (nI v) (nI u) := by
  unfold wpX_copy
  refine qz_bad hp hv (br_t rfl (qz_bad hp hu (br_t rfl ?_)))
  refine pk_loop (fun n i (s : Nat → Int32) => wX_copy_23 post (nI p) (nI v) (nI u) ck n (nI i) a1 a2 a3 a4 a5 a6 a7 s) (fun _ _ => True) 4 0 a8 (by omega) trivial
    (fun n s _ => pk_le 4 4 (fun _ => ?_) (fun z => absurd z (by omega)))
    (fun n i s hi _ hw => pk_le 4 i (fun z => absurd z (by omega)) (fun _ => qz_rd hp hv hi hf hL hB ⟨pk_in i 4 hi, nm_e (nm_r (nI_1 i) (hw _ trivial))⟩))
  rw [qz_pg]
  exact hO s _ (br_f (by decide) (h s))
theorem qz_ur {post : Int32 → St2 → Prop} {p : Nat} (hp : p < 2) (hL : ∀ j, j < 16 → a5 ((p * 16 + j) / 4) < 0) (hB : ∀ j, j < 16 → a3 (p * 16 + j) = -1) (h : post 0 (ck, a1, a2, a3, a4, a5, a6, a7, a8)) : wpX_unmapRange post (ck, a1, a2, a3, a4, a5, a6, a7, a8) (nI p) 0 15 := by
  unfold wpX_unmapRange
  refine qz_bad (v := 0) hp (by omega) (br_t rfl (qz_bad (v := 15) hp (by omega) (br_t rfl ?_)))
  refine pk_loop (σ := Unit) (fun n i _ => wX_unmapRange_26 post (nI p) 15 n 0 (nI i) ck a1 a2 a3 a4 a5 a6 a7 a8) (fun _ _ => True) 16 0 () (by omega) trivial
    (fun n _ _ => pk_lt 15 16 (fun _ => h) (fun z => absurd z (by omega)))
    (fun n i _ hi _ hw => pk_lt 15 i (fun z => absurd z (by omega)) (fun _ => ?_))
  rw [qz_pg]
  refine qz_fo (by omega) (hL i hi) ?_
  rw [hB i hi]
  exact br_t qz_m1n (nm_r (nI_1 i) (hw () trivial))
theorem qz_s51 {post : Int32 → St2 → Prop} {p q : Nat} (hp : p < 2) (hq : q < 2) (hB : ∀ i, i < 16 → qz_tb a3 q i (p * 16 + i) = nI i)
    (h : post 16 (ck, a1, qz_tu a2 16, qz_tb a3 q 16, qz_z, a5, a6, a7, a8)) : ∃ n, wX_split_51 post (nI p) (nI q) ck n 0 0 a1 a2 a3 qz_z a5 a6 a7 a8 := by
  refine pk_loop (σ := Unit) (fun n i _ => wX_split_51 post (nI p) (nI q) ck n (nI i) (nI i) a1 (qz_tu a2 i) (qz_tb a3 q i) qz_z a5 a6 a7 a8) (fun _ _ => True) 16 0 () (by omega) trivial
    (fun n _ _ => pk_le 16 16 (fun _ => h) (fun z => absurd z (by omega)))
    (fun n i _ hi _ hw => pk_le 16 i (fun z => absurd z (by omega)) (fun _ => ?_))
  have hw' : wX_split_51 post (nI p) (nI q) ck n (nI (i + 1)) (nI (i + 1)) a1 (qz_tu a2 (i + 1)) (qz_tb a3 q (i + 1)) qz_z a5 a6 a7 a8 := hw () trivial
  rw [qz_pg p i, qz_pg q i, nI_clamp (show p * 16 + i < 2 ^ 31 by omega), nI_clamp (show q * 16 + i < 2 ^ 31 by omega)]
  refine ⟨pk_in (p * 16 + i) 32 (by omega), nm_r (hB i hi) (br_f (nI_pos (by omega)) ⟨pk_in (q * 16 + i) 32 (by omega), nm_e ⟨pk_in (p * 16 + i) 32 (by omega), pk_in (q * 16 + i) 32 (by omega), nm_r (e' := qz_z) ?_ ⟨pk_in i 16 hi, nm_r (e' := qz_tu a2 (i + 1)) ?_ (nm_r (nI_1 i) (nm_r (nI_1 i) hw'))⟩⟩⟩)⟩
  · show upd qz_z (q * 16 + i) (vp_nar .boolean 0) = qz_z
    rw [qz_zn, qz_zu]
  · rw [nI_clamp (show i < 2 ^ 31 by omega)]
    rfl
theorem qz_sp {post : Int32 → St2 → Prop} {p q : Nat} (hp : p < 2) (hq : q = 1 - p) (hLq : ∀ j, j < 16 → a5 ((q * 16 + j) / 4) < 0) (hBq : ∀ j, j < 16 → a3 (q * 16 + j) = -1)
    (hL : ∀ i, i < 4 → qz_sl a5 p i (p * 4 + i) = nI i) (hB : ∀ i, i < 16 → qz_tb (qz_sb a3 p 4) q i (p * 16 + i) = nI i)
    (h : post 16 (ck, a1, qz_tu a2 16, qz_tb (qz_sb a3 p 4) q 16, qz_z, qz_sl a5 p 4, a6, a7, a8)) : wpX_split post (ck, a1, a2, a3, qz_z, a5, a6, a7, a8) (nI p) := by
  unfold wpX_split
  have eq : (1 : Int32) - nI p = nI q := by
    rw [hq]
    exact pk_sub (a := 1) (by omega)
  refine br_f (nI_pos (by omega)) (br_t (nI_le (b := 1) (by omega) (by decide)) (nm_r eq (qz_ur (by omega) hLq hBq ?_)))
  refine pk_loop (σ := Unit) (fun n i _ => wX_split_26 post (nI p) (nI q) n (nI i) ck a1 a2 (qz_sb a3 p i) qz_z (qz_sl a5 p i) a6 a7 a8) (fun _ _ => True) 4 0 () (by omega) trivial
    (fun n _ _ => pk_le 4 4 (fun _ => qz_s51 hp (by omega) hB h) (fun z => absurd z (by omega)))
    (fun n i _ hi _ hw => pk_le 4 i (fun z => absurd z (by omega)) (fun _ => ?_))
  have hw' : wX_split_26 post (nI p) (nI q) n (nI (i + 1)) ck a1 a2 (qz_sb a3 p (i + 1)) qz_z (qz_sl a5 p (i + 1)) a6 a7 a8 := hw () trivial
  rw [qz_m4]
  exact qz_de (by omega) hi (hL i hi) (nm_r (nI_1 i) hw')
end
end
section
/-! the arrays while process p fills the frames: k pages are there -/
def qz_u (k : Nat) : Nat → Int32 := fun j => if j < k then 1 else 0
def qz_b (p k : Nat) : Nat → Int32 := fun j => if j < 32 then (if p * 16 + k / 4 * 4 ≤ j ∧ j < p * 16 + k then nI (j - p * 16) else -1) else 0
def qz_l (p k : Nat) : Nat → Int32 := fun j => if j < 8 then (if p * 4 ≤ j ∧ j < p * 4 + k / 4 then nI (j - p * 4) else -1) else 0
def qz_h (p k : Nat) : Nat → Int32 := fun j => if j < 4 then (if j * 4 < k then nI (p * 4 + j) else -1) else 0
/-- word w of page k, once written -/
def qz_v (x : Int32) (k w : Nat) : Int32 := if k % 2 = 0 ∧ w = 0 then x + nI k else if k % 2 = 1 ∧ w = 3 then x - nI (k / 2) else 0
def qz_w (x : Int32) (k : Nat) : Nat → Int32 := fun j => if j < k * 4 then qz_v x (j / 4) (j % 4) else 0
/-- the number of the word, and what is written -/
def qz_wi (k : Nat) : Nat := if k % 2 = 0 then 0 else 3
def qz_wv (x : Int32) (k : Nat) : Int32 := if k % 2 = 0 then x + nI k else x - nI (k / 2)
theorem qz_u1 (k : Nat) : upd (qz_u k) k 1 = qz_u (k + 1) := by
  funext j
  show (if j = k then (1 : Int32) else if j < k then 1 else 0) = if j < k + 1 then 1 else 0
  by_cases h : j = k
  · rw [if_pos h, if_pos (by omega)]
  · rw [if_neg h]
    by_cases h2 : j < k
    · rw [if_pos h2, if_pos (by omega)]
    · rw [if_neg h2, if_neg (by omega)]
theorem qz_b32 {p k j : Nat} (h : 32 ≤ j) : qz_b p k j = 0 := if_neg (by omega)
theorem qz_l8 {p k j : Nat} (h : 8 ≤ j) : qz_l p k j = 0 := if_neg (by omega)
theorem qz_h4 {p k j : Nat} (h : 4 ≤ j) : qz_h p k j = 0 := if_neg (by omega)
/-- functions that agree below N and above -/
theorem qz_ext {f g : Nat → Int32} (N : Nat) (h : ∀ j, j < N → f j = g j) (h' : ∀ j, N ≤ j → f j = g j) : f = g := by
  funext j
  cases Nat.lt_or_ge j N with
  | inl t => exact h j t
  | inr t => exact h' j t
theorem qz_b1_in : ∀ p, p < 2 → ∀ k, k < 16 → ¬ k % 4 = 3 → ∀ j, j < 32 → upd (qz_b p k) (p * 16 + k) (nI k) j = qz_b p (k + 1) j := by decide +kernel
theorem qz_b1 {p k : Nat} (hp : p < 2) (hk : k < 16) (h : ¬ k % 4 = 3) : upd (qz_b p k) (p * 16 + k) (nI k) = qz_b p (k + 1) :=
  qz_ext 32 (qz_b1_in p hp k hk h) (fun j hj => by rw [pk_un (by omega), qz_b32 hj, qz_b32 hj])
theorem qz_b2_in : ∀ p, p < 2 → ∀ k, k < 16 → k % 4 = 3 → ∀ j, j < 32 → qz_cb (upd (qz_b p k) (p * 16 + k) (nI k)) (p * 4 + k / 4) 4 j = qz_b p (k + 1) j := by decide +kernel
theorem qz_cb_o {a : Nat → Int32} {r j : Nat} (hr : r < 8) (hj : 32 ≤ j) : ∀ i, i ≤ 4 → qz_cb a r i j = a j
  | 0, _ => rfl
  | i + 1, h => by
    show upd (qz_cb a r i) (r * 4 + i) (-1) j = a j
    rw [pk_un (by omega)]
    exact qz_cb_o hr hj i (by omega)
theorem qz_b2 {p k : Nat} (hp : p < 2) (hk : k < 16) (h : k % 4 = 3) : qz_cb (upd (qz_b p k) (p * 16 + k) (nI k)) (p * 4 + k / 4) 4 = qz_b p (k + 1) :=
  qz_ext 32 (qz_b2_in p hp k hk h) (fun j hj => by rw [qz_cb_o (by omega) hj 4 (by omega), pk_un (by omega), qz_b32 hj, qz_b32 hj])
theorem qz_l1 {p k : Nat} (h : ¬ k % 4 = 3) : qz_l p k = qz_l p (k + 1) := by
  unfold qz_l
  rw [show (k + 1) / 4 = k / 4 by omega]
theorem qz_l2_in : ∀ p, p < 2 → ∀ k, k < 16 → k % 4 = 3 → ∀ j, j < 8 → upd (qz_l p k) (p * 4 + k / 4) (nI (k / 4)) j = qz_l p (k + 1) j := by decide +kernel
theorem qz_l2 {p k : Nat} (hp : p < 2) (hk : k < 16) (h : k % 4 = 3) : upd (qz_l p k) (p * 4 + k / 4) (nI (k / 4)) = qz_l p (k + 1) :=
  qz_ext 8 (qz_l2_in p hp k hk h) (fun j hj => by rw [pk_un (by omega), qz_l8 hj, qz_l8 hj])
theorem qz_h1_in : ∀ p, p < 2 → ∀ k, k < 16 → ¬ k % 4 = 0 → ∀ j, j < 4 → qz_h p k j = qz_h p (k + 1) j := by decide +kernel
theorem qz_h1 {p k : Nat} (hp : p < 2) (hk : k < 16) (h : ¬ k % 4 = 0) : qz_h p k = qz_h p (k + 1) :=
  qz_ext 4 (qz_h1_in p hp k hk h) (fun j hj => by rw [qz_h4 hj, qz_h4 hj])
theorem qz_h2_in : ∀ p, p < 2 → ∀ k, k < 16 → k % 4 = 0 → ∀ j, j < 4 → upd (qz_h p k) (k / 4) (nI ((p * 16 + k) / 4)) j = qz_h p (k + 1) j := by decide +kernel
theorem qz_h2 {p k : Nat} (hp : p < 2) (hk : k < 16) (h : k % 4 = 0) : upd (qz_h p k) (k / 4) (nI ((p * 16 + k) / 4)) = qz_h p (k + 1) :=
  qz_ext 4 (qz_h2_in p hp k hk h) (fun j hj => by rw [pk_un (by omega), qz_h4 hj, qz_h4 hj])
theorem qz_h3_in : ∀ p, p < 2 → ∀ k, k < 16 → ∀ j, j < 4 → upd (qz_h p (k + 1)) (k / 4) (nI (p * 4 + k / 4)) j = qz_h p (k + 1) j := by decide +kernel
theorem qz_h3 {p k : Nat} (hp : p < 2) (hk : k < 16) : upd (qz_h p (k + 1)) (k / 4) (nI (p * 4 + k / 4)) = qz_h p (k + 1) :=
  qz_ext 4 (qz_h3_in p hp k hk) (fun j hj => by rw [pk_un (by omega)])
theorem qz_zw_in {a : Nat → Int32} {f i : Nat} : ∀ n, i < n → qz_zw a f n (f * 4 + i) = 0
  | 0, h => absurd h (by omega)
  | n + 1, h => by
    show upd (qz_zw a f n) (f * 4 + n) 0 (f * 4 + i) = 0
    by_cases e : i = n
    · rw [e, pk_us]
    · rw [pk_un (by omega)]
      exact qz_zw_in n (by omega)
theorem qz_zw_o {a : Nat → Int32} {f j : Nat} (h : j < f * 4 ∨ f * 4 + 4 ≤ j) : ∀ n, n ≤ 4 → qz_zw a f n j = a j
  | 0, _ => rfl
  | n + 1, hn => by
    show upd (qz_zw a f n) (f * 4 + n) 0 j = a j
    rw [pk_un (by omega)]
    exact qz_zw_o h n (by omega)
theorem qz_w1 (x : Int32) (k : Nat) : upd (qz_zw (qz_w x k) k 4) (k * 4 + qz_wi k) (qz_wv x k) = qz_w x (k + 1) := by
  have hwi : qz_wi k < 4 := by
    unfold qz_wi
    split <;> omega
  funext j
  by_cases hj : j < k * 4 ∨ k * 4 + 4 ≤ j
  · rw [pk_un (by omega), qz_zw_o hj 4 (by omega)]
    show (if j < k * 4 then qz_v x (j / 4) (j % 4) else 0) = if j < (k + 1) * 4 then qz_v x (j / 4) (j % 4) else 0
    by_cases t : j < k * 4
    · rw [if_pos t, if_pos (by omega)]
    · rw [if_neg t, if_neg (by omega)]
  · have e : j = k * 4 + j % 4 := by omega
    have e2 : j / 4 = k := by omega
    have e3 : qz_w x (k + 1) j = qz_v x k (j % 4) := by
      show (if j < (k + 1) * 4 then qz_v x (j / 4) (j % 4) else 0) = _
      rw [if_pos (by omega), e2]
    rw [e3]
    by_cases t : j % 4 = qz_wi k
    · rw [e, t, pk_us, ← t]
      unfold qz_wv qz_v
      unfold qz_wi at t
      by_cases k2 : k % 2 = 0
      · rw [if_pos k2] at t
        rw [if_pos k2, if_pos ⟨k2, by omega⟩]
      · rw [if_neg k2] at t
        rw [if_neg k2, if_neg (fun z => k2 z.1), if_pos ⟨by omega, by omega⟩]
    · rw [pk_un (by omega), e, qz_zw_in 4 (by omega)]
      unfold qz_v
      unfold qz_wi at t
      by_cases k2 : k % 2 = 0
      · rw [if_pos k2] at t
        rw [if_neg (by omega), if_neg (by omega)]
      · rw [if_neg k2] at t
        rw [if_neg (by omega), if_neg (by omega)]
/-! what the methods see there -/
theorem qz_f1 : ∀ p, p < 2 → ∀ k, k < 16 → qz_l p k ((p * 16 + k) / 4) < 0 ∧ qz_b p k (p * 16 + k) = -1 := by decide +kernel
theorem qz_f2 : ∀ k, k < 17 → qz_cnt (qz_u k) 16 = k := by decide +kernel
theorem qz_f3 : ∀ p, p < 2 → ∀ k, k < 16 → k % 4 = 0 → qz_held (qz_h p k) (nI ((p * 16 + k) / 4)) 4 = -1 ∧ qz_ui (qz_u k) (k / 4) 4 = 0 ∧ ¬ 0 ≤ qz_h p k (k / 4) := by decide +kernel
theorem qz_f4 : ∀ k, k < 16 → ∀ j, j < k / 4 → ¬ qz_ui (qz_u k) j 4 = 0 := by decide +kernel
theorem qz_f5 : ∀ p, p < 2 → ∀ k, k < 16 → ¬ k % 4 = 0 → qz_held (qz_h p k) (nI ((p * 16 + k) / 4)) 4 = nI (k / 4) := by decide +kernel
theorem qz_f6 : ∀ p, p < 2 → ∀ k, k < 16 → ¬ k % 4 = 3 → qz_st (qz_u (k + 1)) (qz_b p (k + 1)) (p * 4 + k / 4) 4 0 = true := by decide +kernel
theorem qz_f7 : ∀ p, p < 2 → ∀ k, k < 16 → k % 4 = 3 → ∀ i, i < 4 → upd (qz_b p k) (p * 16 + k) (nI k) ((p * 4 + k / 4) * 4 + i) = nI (k / 4 * 4 + i) ∧ qz_u (k + 1) (k / 4 * 4 + i) = 1 := by decide +kernel
theorem qz_f8 : ∀ p, p < 2 → ∀ k, k < 16 → ∀ j, j < 4 → j ≠ k / 4 → ¬ qz_h p (k + 1) j = nI (p * 4 + k / 4) := by decide +kernel
theorem qz_f9 : ∀ p, p < 2 → ∀ k, k < 16 → ¬ k % 4 = 3 → qz_l p (k + 1) ((p * 16 + k) / 4) < 0 ∧ qz_b p (k + 1) (p * 16 + k) = nI k := by decide +kernel
theorem qz_f10 : ∀ p, p < 2 → ∀ k, k < 16 → k % 4 = 3 → qz_l p (k + 1) ((p * 16 + k) / 4) = nI (k / 4) := by decide +kernel
section
variable {x : Int32} {p k : Nat}
/-- behind it, promote -/
theorem qz_fp {post : St2 → Prop} {c : Int32} {W s : Nat → Int32} (hp : p < 2) (hk : k < 16) (h : post (c, W, qz_u (k + 1), qz_b p (k + 1), qz_z, qz_l p (k + 1), qz_h p (k + 1), s, qz_z)) :
    wpX_promote post (c, W, upd (qz_u k) k 1, upd (qz_b p k) (p * 16 + k) (nI k), upd qz_z (p * 16 + k) 0, qz_l p k, qz_h p (k + 1), s, qz_z) (nI ((p * 16 + k) / 4)) := by
  have e : (p * 16 + k) / 4 = p * 4 + k / 4 := by omega
  obtain ⟨t1, _⟩ := qz_f1 p hp k hk
  rw [e] at t1
  rw [e, qz_u1, qz_zu]
  by_cases hm : k % 4 = 3
  · refine qz_po (g := k / 4) (by omega) (by omega) t1 (fun i hi => (qz_f7 p hp k hk hm i hi).1) (fun i hi => (qz_f7 p hp k hk hm i hi).2) (fun _ _ => rfl) (qz_f8 p hp k hk) ?_
    rw [qz_b2 hp hk hm, qz_l2 hp hk hm, qz_h3 hp hk]
    exact h
  · rw [qz_b1 hp hk hm]
    refine qz_ps (by omega) t1 (fun _ _ => rfl) (qz_f6 p hp k hk hm) ?_
    rw [qz_l1 hm]
    exact h
/-- one page more -/
theorem qz_fw {post : Int32 → St2 → Prop} {s : Nat → Int32} (hp : p < 2) (hk : k < 16) (h : ∀ s', post 0 (nI (k + 1), qz_w x (k + 1), qz_u (k + 1), qz_b p (k + 1), qz_z, qz_l p (k + 1), qz_h p (k + 1), s', qz_z)) :
    wpX_write post (nI k, qz_w x k, qz_u k, qz_b p k, qz_z, qz_l p k, qz_h p k, s, qz_z) (nI p) (nI k) (nI (qz_wi k)) (qz_wv x k) := by
  obtain ⟨t1, t2⟩ := qz_f1 p hp k hk
  have hwi : qz_wi k < 4 := by
    unfold qz_wi
    split <;> omega
  have hc : qz_cnt (qz_u k) 16 < 16 := by
    rw [qz_f2 k (by omega)]
    exact hk
  have key : ∃ s', (∀ Q : Int32 → St2 → Prop, Q (nI k) (nI (k + 1), qz_w x k, qz_u k, qz_b p k, qz_z, qz_l p k, qz_h p (k + 1), s', qz_z) → wpX_takeFrame Q (nI k, qz_w x k, qz_u k, qz_b p k, qz_z, qz_l p k, qz_h p k, s, qz_z) (nI (p * 16 + k))) := by
    refine ⟨upd s (k / 4) (nI (k + 1)), fun Q hQ => ?_⟩
    have e : k / 4 * 4 + (p * 16 + k) % 4 = k := by omega
    have hz : qz_u k (k / 4 * 4 + (p * 16 + k) % 4) = 0 := by
      rw [e]
      exact if_neg (by omega)
    by_cases hm : k % 4 = 0
    · obtain ⟨t1, t2, t3⟩ := qz_f3 p hp k hk hm
      refine qz_tfB (g := k / 4) (by omega) (by omega) t1 (qz_f4 k hk) t2 t3 hz ?_
      rw [e, nI_1, qz_h2 hp hk hm]
      exact hQ
    · refine qz_tfA (g := k / 4) (by omega) (by omega) (qz_f5 p hp k hk hm) hz ?_
      rw [e, nI_1, qz_h1 hp hk hm]
      exact hQ
  obtain ⟨s', hT⟩ := key
  refine qz_wr (f := k) hp hk hwi hk (fun Q hQ => qz_op1 (by omega) t1 t2 (fun Q' hQ' => qz_bi (by omega) hk t1 t2 hc hT (fun Q'' hQ'' => qz_fp hp hk hQ'') hQ') hQ) (fun Q hQ => ?_) (by rw [qz_w1]; exact h s')
  by_cases hm : k % 4 = 3
  · refine qz_foL (e := k / 4) (by omega) (by omega) (qz_f10 p hp k hk hm) ?_
    rw [show k / 4 * 4 + (p * 16 + k) % 4 = k by omega]
    exact hQ
  · obtain ⟨t3, t4⟩ := qz_f9 p hp k hk hm
    refine qz_fo (by omega) t3 ?_
    rw [t4]
    exact hQ
end
end
section
/-! the constructor; the arrays behind the split, and what the methods see there -/
def qz_ng (N : Nat) : Nat → Int32 := fun j => if j < N then -1 else 0
theorem qz_ng0 : qz_z = qz_ng 0 := by
  funext j
  exact (if_neg (by omega)).symm
theorem qz_ng1 (i : Nat) : upd (qz_ng i) i (-1) = qz_ng (i + 1) := by
  funext j
  show (if j = i then (-1 : Int32) else if j < i then -1 else 0) = if j < i + 1 then -1 else 0
  by_cases h : j = i
  · rw [if_pos h, if_pos (by omega)]
  · rw [if_neg h]
    by_cases h2 : j < i
    · rw [if_pos h2, if_pos (by omega)]
    · rw [if_neg h2, if_neg (by omega)]
theorem qz_in {post : St2 → Prop} {mc ms : Nat} {ck : Int32} (hm : 8 ≤ mc) (hs : 164 ≤ ms) (h : post (ck, qz_z, qz_z, qz_ng 32, qz_z, qz_ng 8, qz_ng 4, qz_z, qz_z)) : wpX_init post mc ms ck := by
  unfold wpX_init
  refine ⟨by omega, by omega, by omega, by omega, by omega, by omega, by omega, by omega, by omega, by omega, by omega, by omega, by omega, by omega, by omega, by omega, ?_⟩
  refine pk_loop (fun n i (s : Nat → Int32) => wX_init_67 post mc ms 8 164 ck n (nI i) qz_z qz_z s qz_z qz_z qz_z qz_z qz_z) (fun i s => s = qz_ng i) 32 0 qz_z (by omega) qz_ng0
    (fun n s e => pk_le 32 32 (fun _ => ?_) (fun z => absurd z (by omega)))
    (fun n i s hi e hw => pk_le 32 i (fun z => absurd z (by omega)) (fun _ => ⟨pk_in i 32 hi, nm_e (nm_r (nI_1 i) (hw _ (by rw [nI_clamp (by omega), e, qz_ng1])))⟩))
  subst e
  refine pk_loop (fun n i (s : Nat → Int32) => wX_init_88 post mc ms 8 164 ck n (nI i) qz_z qz_z (qz_ng 32) qz_z s qz_z qz_z qz_z) (fun i s => s = qz_ng i) 8 0 qz_z (by omega) qz_ng0
    (fun n s e => pk_le 8 8 (fun _ => ?_) (fun z => absurd z (by omega)))
    (fun n i s hi e hw => pk_le 8 i (fun z => absurd z (by omega)) (fun _ => ⟨pk_in i 8 hi, nm_e (nm_r (nI_1 i) (hw _ (by rw [nI_clamp (by omega), e, qz_ng1])))⟩))
  subst e
  refine pk_loop (fun n i (s : Nat → Int32) => wX_init_109 post mc ms 8 164 ck n (nI i) qz_z qz_z (qz_ng 32) qz_z (qz_ng 8) s qz_z qz_z) (fun i s => s = qz_ng i) 4 0 qz_z (by omega) qz_ng0
    (fun n s e => pk_le 4 4 (fun _ => ?_) (fun z => absurd z (by omega)))
    (fun n i s hi e hw => pk_le 4 i (fun z => absurd z (by omega)) (fun _ => ⟨pk_in i 4 hi, nm_e (nm_r (nI_1 i) (hw _ (by rw [nI_clamp (by omega), e, qz_ng1])))⟩))
  subst e
  exact h
theorem qz_u0 : qz_u 0 = qz_z := by
  funext j
  exact if_neg (by omega)
theorem qz_w0 (x : Int32) : qz_w x 0 = qz_z := by
  funext j
  exact if_neg (by omega)
theorem qz_b0 (p : Nat) : qz_b p 0 = qz_ng 32 := by
  funext j
  show (if j < 32 then (if p * 16 + 0 / 4 * 4 ≤ j ∧ j < p * 16 + 0 then nI (j - p * 16) else -1) else 0) = if j < 32 then -1 else 0
  rw [if_neg (show ¬ (p * 16 + 0 / 4 * 4 ≤ j ∧ j < p * 16 + 0) by omega)]
theorem qz_l0 (p : Nat) : qz_l p 0 = qz_ng 8 := by
  funext j
  show (if j < 8 then (if p * 4 ≤ j ∧ j < p * 4 + 0 / 4 then nI (j - p * 4) else -1) else 0) = if j < 8 then -1 else 0
  rw [if_neg (show ¬ (p * 4 ≤ j ∧ j < p * 4 + 0 / 4) by omega)]
theorem qz_h0 (p : Nat) : qz_h p 0 = qz_ng 4 := by
  funext j
  show (if j < 4 then (if j * 4 < 0 then nI (p * 4 + j) else -1) else 0) = if j < 4 then -1 else 0
  rw [if_neg (show ¬ j * 4 < 0 by omega)]
/-- behind the split: every frame has two pages -/
def qz_U : Nat → Int32 := fun j => if j < 16 then 2 else 0
def qz_B : Nat → Int32 := fun j => if j < 32 then nI (j % 16) else 0
theorem qz_tu_o {a : Nat → Int32} {j : Nat} : ∀ i, i ≤ j → qz_tu a i j = a j
  | 0, _ => rfl
  | i + 1, h => by
    show upd (qz_tu a i) i 2 j = a j
    rw [pk_un (by omega)]
    exact qz_tu_o i (by omega)
theorem qz_tb_o {a : Nat → Int32} {q j : Nat} (hq : q < 2) (hj : 32 ≤ j) : ∀ i, i ≤ 16 → qz_tb a q i j = a j
  | 0, _ => rfl
  | i + 1, h => by
    show upd (qz_tb a q i) (q * 16 + i) (nI i) j = a j
    rw [pk_un (by omega)]
    exact qz_tb_o hq hj i (by omega)
theorem qz_db_o {a : Nat → Int32} {r e j : Nat} (hr : r < 8) (hj : 32 ≤ j) : ∀ i, i ≤ 4 → qz_db a r e i j = a j
  | 0, _ => rfl
  | i + 1, h => by
    show upd (qz_db a r e i) (r * 4 + i) (nI (e * 4 + i)) j = a j
    rw [pk_un (by omega)]
    exact qz_db_o hr hj i (by omega)
theorem qz_sb_o {a : Nat → Int32} {p j : Nat} (hp : p < 2) (hj : 32 ≤ j) : ∀ i, i ≤ 4 → qz_sb a p i j = a j
  | 0, _ => rfl
  | i + 1, h => by
    show qz_db (qz_sb a p i) (p * 4 + i) i 4 j = a j
    rw [qz_db_o (by omega) hj 4 (by omega)]
    exact qz_sb_o hp hj i (by omega)
theorem qz_sl_o {a : Nat → Int32} {p j : Nat} (hp : p < 2) (hj : 8 ≤ j) : ∀ i, i ≤ 4 → qz_sl a p i j = a j
  | 0, _ => rfl
  | i + 1, h => by
    show upd (qz_sl a p i) (p * 4 + i) (-1) j = a j
    rw [pk_un (by omega)]
    exact qz_sl_o hp hj i (by omega)
theorem qz_U_in : ∀ j, j < 16 → qz_tu (qz_u 16) 16 j = qz_U j := by decide +kernel
theorem qz_U_e : qz_tu (qz_u 16) 16 = qz_U :=
  qz_ext 16 qz_U_in (fun j hj => by rw [qz_tu_o 16 hj]; exact (if_neg (by omega)).trans (if_neg (by omega)).symm)
theorem qz_B_in : ∀ p, p < 2 → ∀ j, j < 32 → qz_tb (qz_sb (qz_b p 16) p 4) (1 - p) 16 j = qz_B j := by decide +kernel
theorem qz_B_e {p : Nat} (hp : p < 2) : qz_tb (qz_sb (qz_b p 16) p 4) (1 - p) 16 = qz_B :=
  qz_ext 32 (qz_B_in p hp) (fun j hj => by rw [qz_tb_o (by omega) hj 16 (by omega), qz_sb_o hp hj 4 (by omega), qz_b32 hj]; exact (if_neg (by omega)).symm)
theorem qz_L_in : ∀ p, p < 2 → ∀ j, j < 8 → qz_sl (qz_l p 16) p 4 j = qz_ng 8 j := by decide +kernel
theorem qz_L_e {p : Nat} (hp : p < 2) : qz_sl (qz_l p 16) p 4 = qz_ng 8 :=
  qz_ext 8 (qz_L_in p hp) (fun j hj => by rw [qz_sl_o hp hj 4 (by omega), qz_l8 hj]; exact (if_neg (by omega)).symm)
/-! before the split -/
theorem qz_g1 : ∀ p, p < 2 → ∀ j, j < 16 → qz_l p 16 (((1 - p) * 16 + j) / 4) < 0 ∧ qz_b p 16 ((1 - p) * 16 + j) = -1 := by decide +kernel
theorem qz_g2 : ∀ p, p < 2 → ∀ i, i < 4 → qz_sl (qz_l p 16) p i (p * 4 + i) = nI i := by decide +kernel
theorem qz_g3 : ∀ p, p < 2 → ∀ i, i < 16 → qz_tb (qz_sb (qz_b p 16) p 4) (1 - p) i (p * 16 + i) = nI i := by decide +kernel
/-! behind it -/
theorem qz_n8 : ∀ j, j < 8 → qz_ng 8 j = -1 := by decide +kernel
theorem qz_n8' : ∀ j, j < 8 → qz_ng 8 j < 0 := by decide +kernel
theorem qz_i1 : qz_cnt qz_U 16 = 16 := by decide +kernel
theorem qz_i2 : ∀ p, p < 2 → ∀ v, v < 16 → qz_B (p * 16 + v) = nI v := by decide +kernel
theorem qz_i3 : ∀ v, v < 16 → ¬ qz_U v = 1 ∧ qz_U v - 1 = 1 := by decide +kernel
/-- page v of process p is gone -/
def qz_U1 (v : Nat) : Nat → Int32 := upd qz_U v 1
def qz_B1 (p v : Nat) : Nat → Int32 := upd qz_B (p * 16 + v) (-1)
/-- .. and that of the other -/
def qz_U0 (v : Nat) : Nat → Int32 := upd (qz_U1 v) v 0
def qz_B0 (p v : Nat) : Nat → Int32 := upd (qz_B1 p v) ((1 - p) * 16 + v) (-1)
theorem qz_j1 : ∀ p, p < 2 → ∀ v, v < 16 → qz_held (qz_h p 16) (nI ((p * 16 + v) / 4)) 4 = nI (v / 4) ∧ ¬ qz_kp (qz_B1 p v) ((p * 16 + v) / 4) (nI (v / 4)) 4 = 0 := by decide +kernel
theorem qz_j2 : ∀ v, v < 16 → qz_cnt (qz_U1 v) 16 = 16 ∧ qz_U1 v v = 1 ∧ qz_U1 v v - 1 = 0 := by decide +kernel
theorem qz_j3 : ∀ p, p < 2 → ∀ v, v < 16 → qz_B1 p v ((1 - p) * 16 + v) = nI v := by decide +kernel
theorem qz_j4 : ∀ p, p < 2 → ∀ u, u < 16 → qz_held (qz_h p 16) (nI (((1 - p) * 16 + u) / 4)) 4 = -1 := by decide +kernel
theorem qz_j5 : ∀ v, v < 16 → qz_cnt (qz_U0 v) 16 = 15 ∧ qz_U0 v v = 0 ∧ qz_ui (qz_U0 v) (v / 4) 4 = 3 := by decide +kernel
theorem qz_j6 : ∀ p, p < 2 → ∀ v, v < 16 → qz_B0 p v ((1 - p) * 16 + v) = -1 ∧ qz_B0 p v (p * 16 + v) = -1 := by decide +kernel
theorem qz_j7 : ∀ p, p < 2 → ∀ j, j < 4 → ¬ qz_h p 16 j < 0 ∧ 0 ≤ qz_h p 16 j := by decide +kernel
theorem qz_j8 : ∀ v, v < 16 → ∀ j, j < 16 → j ≠ v → ¬ qz_U0 v j = 0 ∧ ¬ qz_U0 v j = 1 := by decide +kernel
theorem qz_j9 : ∀ v, v < 16 → ∀ j, j < 4 → j ≠ v / 4 → qz_ui (qz_U0 v) j 4 = 4 := by decide +kernel
/-! the last write: the page that is gone (A), another one (B) -/
def qz_UA (v : Nat) : Nat → Int32 := upd (qz_U0 v) v 1
def qz_BA (p v : Nat) : Nat → Int32 := upd (qz_B0 p v) ((1 - p) * 16 + v) (nI v)
def qz_UB (v u : Nat) : Nat → Int32 := upd (upd (qz_U0 v) u 1) v 1
def qz_BB (p v u : Nat) : Nat → Int32 := upd (qz_B0 p v) ((1 - p) * 16 + u) (nI v)
theorem qz_k1 : ∀ p, p < 2 → ∀ v, v < 16 → qz_st (qz_UA v) (qz_BA p v) (((1 - p) * 16 + v) / 4) 4 0 = true := by decide +kernel
theorem qz_k2 : ∀ p, p < 2 → ∀ v, v < 16 → qz_pc (qz_BA p v) p 16 = 15 ∧ qz_pc (qz_BA p v) (1 - p) 16 = 16 ∧ (qz_BA p v v < 0 ∨ ¬ qz_BA p v v = qz_BA p v (16 + v)) := by decide +kernel
theorem qz_k3 : ∀ v, v < 16 → qz_cnt (qz_UA v) 16 = 16 := by decide +kernel
theorem qz_k4 : ∀ p, p < 2 → ∀ v, v < 16 → qz_BA p v ((1 - p) * 16 + v) = nI v ∧ qz_BA p v (p * 16 + v) = -1 := by decide +kernel
theorem qz_m1 : ∀ p, p < 2 → ∀ v, v < 16 → ∀ u, u < 16 → u ≠ v → qz_st (qz_UB v u) (qz_BB p v u) (((1 - p) * 16 + u) / 4) 4 0 = true ∧ qz_st (qz_UB v u) (qz_BB p v u) (p * 4 + u / 4) 4 0 = true := by decide +kernel
theorem qz_m2 : ∀ p, p < 2 → ∀ v, v < 16 → ∀ u, u < 16 → u ≠ v → qz_pc (qz_BB p v u) p 16 = 15 ∧ qz_pc (qz_BB p v u) (1 - p) 16 = 15 := by decide +kernel
theorem qz_m4s : ∀ p, p < 2 → ∀ v, v < 16 → ∀ u, u < 16 → u ≠ v → qz_BB p v u u < 0 ∨ ¬ qz_BB p v u u = qz_BB p v u (16 + u) := by decide +kernel
theorem qz_m3 : ∀ v, v < 16 → ∀ u, u < 16 → u ≠ v → qz_cnt (qz_UB v u) 16 = 16 := by decide +kernel
theorem qz_m5 : ∀ p, p < 2 → ∀ v, v < 16 → ∀ u, u < 16 → u ≠ v → qz_BB p v u ((1 - p) * 16 + u) = nI v ∧ qz_BB p v u (p * 16 + u) = nI u ∧ qz_B0 p v ((1 - p) * 16 + u) = nI u := by decide +kernel
theorem qz_m6 : ∀ p, p < 2 → ∀ v, v < 16 → ∀ u, u < 16 → qz_held (upd (qz_h p 16) (v / 4) (-1)) (nI (((1 - p) * 16 + u) / 4)) 4 = -1 := by decide +kernel
theorem qz_m7 : ∀ p, p < 2 → ∀ u, u < 16 → nI (((1 - p) * 16 + u) / 4) ^^^ 4 = nI (p * 4 + u / 4) := by decide +kernel
theorem qz_m8 : ∀ u, u < 16 → (nI u &&& 1 = 0 ↔ u % 2 = 0) := by decide +kernel
/-! words -/
theorem qz_cf_o {a : Nat → Int32} {f t j : Nat} (h : j < t * 4 ∨ t * 4 + 4 ≤ j) : ∀ n, n ≤ 4 → qz_cf a f t n j = a j
  | 0, _ => rfl
  | n + 1, hn => by
    show upd (qz_cf a f t n) (t * 4 + n) _ j = a j
    rw [pk_un (by omega)]
    exact qz_cf_o h n (by omega)
theorem qz_cf_in {a : Nat → Int32} {f t i : Nat} (hft : f ≠ t) : ∀ n, n ≤ 4 → i < n → qz_cf a f t n (t * 4 + i) = a (f * 4 + i)
  | 0, _, h => absurd h (by omega)
  | n + 1, hn, h => by
    show upd (qz_cf a f t n) (t * 4 + n) (qz_cf a f t n (f * 4 + n)) (t * 4 + i) = a (f * 4 + i)
    by_cases e : i = n
    · rw [e, pk_us]
      exact qz_cf_o (by omega) n (by omega)
    · rw [pk_un (by omega)]
      exact qz_cf_in hft n (by omega) (by omega)
theorem qz_w16 (x : Int32) {u w : Nat} (hu : u < 16) (hw : w < 4) : qz_w x 16 (u * 4 + w) = qz_v x u w := by
  show (if u * 4 + w < 16 * 4 then qz_v x ((u * 4 + w) / 4) ((u * 4 + w) % 4) else 0) = qz_v x u w
  rw [if_pos (by omega), show (u * 4 + w) / 4 = u by omega, show (u * 4 + w) % 4 = w by omega]
end
section
/-! the law -/
section
variable {post : Int32 → St0 → Prop} {mc ms kc ks : Nat} {x z0 : Int32} {p v u : Nat} {W s c : Nat → Int32}
/-- behind both unmaps the one free frame is v, and its group is preempted -/
theorem qz_lt {Q : Int32 → St2 → Prop} (hp : p < 2) (hv : v < 16) (hu : u < 16) (h : Q (nI v) (nI 16, W, qz_U0 v, qz_B0 p v, qz_z, qz_ng 8, upd (qz_h p 16) (v / 4) (-1), s, c)) :
    wpX_takeFrame Q (nI 16, W, qz_U0 v, qz_B0 p v, qz_z, qz_ng 8, qz_h p 16, s, c) (nI ((1 - p) * 16 + u)) :=
  qz_tf (by omega) hv (qz_j4 p hp u hu) (fun j hj => (qz_j7 p hp j hj).1) (fun j hj => (qz_j7 p hp j hj).2) (fun j hj hn => (qz_j8 v hv j hj hn).1) (qz_j5 v hv).2.1 (qz_j9 v hv) (qz_j5 v hv).2.2 h
theorem qz_wA {Q : Int32 → St2 → Prop} (hp : p < 2) (hv : v < 16) (h : Q 0 (nI 16, upd (qz_zw W v 4) (v * 4 + 1) x, qz_UA v, qz_BA p v, qz_z, qz_ng 8, upd (qz_h p 16) (v / 4) (-1), s, c)) :
    wpX_write Q (nI 16, W, qz_U0 v, qz_B0 p v, qz_z, qz_ng 8, qz_h p 16, s, c) (nI (1 - p)) (nI v) (nI 1) x := by
  refine qz_wr (f := v) (by omega) hv (by omega) hv (fun Q hQ => qz_op1 (by omega) (qz_n8' _ (by omega)) (qz_j6 p hp v hv).1 (fun Q' hQ' => qz_bi (by omega) hv (qz_n8' _ (by omega)) (qz_j6 p hp v hv).1 (by rw [(qz_j5 v hv).1]; decide) (fun Q'' hQ'' => qz_lt hp hv hv hQ'') (fun Q'' hQ'' => ?_) hQ') hQ) (fun Q hQ => ?_) h
  · rw [qz_zu]
    exact qz_ps (by omega) (qz_n8' _ (by omega)) (fun _ _ => rfl) (qz_k1 p hp v hv) hQ''
  · refine qz_fo (by omega) (qz_n8' _ (by omega)) ?_
    rw [(qz_k4 p hp v hv).1]
    exact hQ
theorem qz_wB {Q : Int32 → St2 → Prop} (hp : p < 2) (hv : v < 16) (hu : u < 16) (huv : u ≠ v) (h : Q 0 (nI 16, upd (qz_cf W u v 4) (v * 4 + 1) x, qz_UB v u, qz_BB p v u, qz_z, qz_ng 8, upd (qz_h p 16) (v / 4) (-1), s, c)) :
    wpX_write Q (nI 16, W, qz_U0 v, qz_B0 p v, qz_z, qz_ng 8, qz_h p 16, s, c) (nI (1 - p)) (nI u) (nI 1) x := by
  refine qz_wr (f := v) (by omega) hu (by omega) hv (fun Q hQ => qz_op4 (f := u) (g := v) (by omega) hu hv (qz_n8' _ (by omega)) (qz_m5 p hp v hv u hu huv).2.2 rfl (qz_j8 v hv u hu huv).2 (by rw [(qz_j5 v hv).1]; decide) (fun Q'' hQ'' => qz_lt hp hv hu hQ'') (fun Q'' hQ'' => qz_re0 (qz_m6 p hp v hv u hu) hQ'') (fun Q'' hQ'' => qz_ps (by omega) (qz_n8' _ (by omega)) (fun _ _ => rfl) (qz_m1 p hp v hv u hu huv).1 hQ'') (fun Q'' hQ'' => ?_) hQ) (fun Q hQ => ?_) h
  · rw [qz_m7 p hp u hu]
    exact qz_ps (by omega) (qz_n8' _ (by omega)) (fun _ _ => rfl) (qz_m1 p hp v hv u hu huv).2 hQ''
  · refine qz_fo (by omega) (qz_n8' _ (by omega)) ?_
    rw [pk_us]
    exact hQ
theorem qz_329A (hp : p < 2) (hv : v < 16) (h : post 1 ()) : wL_lawOf_329 post mc ms x (nI p) (nI (1 - p)) (nI v) (nI v) 1 0 kc ks (nI 16) W (qz_U0 v) (qz_B0 p v) qz_z (qz_ng 8) (qz_h p 16) s c := by
  unfold wL_lawOf_329
  refine qz_wA hp hv (br_f (by decide) (br_t rfl (qz_iu (br_t ?_ (qz_rd (w := 0) (by omega) hv (by omega) hv (qz_n8' _ (by omega)) (qz_k4 p hp v hv).1 (br_t ?_ (qz_rd (w := 1) (by omega) hv (by omega) hv (qz_n8' _ (by omega)) (qz_k4 p hp v hv).1 (br_t ?_
    (qz_rd0 (w := 1) hp hv (by omega) (qz_n8' _ (by omega)) (qz_k4 p hp v hv).2 (br_t rfl (qz_rd0 (w := 0) hp hv (by omega) (qz_n8' _ (by omega)) (qz_k4 p hp v hv).2 (br_t rfl (qz_sd hv qz_n8' (qz_k2 p hp v hv).2.2 (br_t rfl (qz_pr hp qz_n8' (br_t ?_ (qz_pr (by omega) qz_n8' (br_t rfl ?_))))))))))))))))))
  · rw [qz_k3 v hv]
    rfl
  · rw [pk_un (by omega), qz_zw_in 4 (by omega)]
  · rw [pk_us]
  · rw [(qz_k2 p hp v hv).1]
    rfl
  · rw [(qz_k2 p hp v hv).2.1]
    exact br_t rfl h
theorem qz_e1 (hu : u < 16) (hv : v < 16) (huv : u ≠ v) : upd (qz_cf (upd (qz_w x 16) (v * 4 + 0) x) u v 4) (v * 4 + 1) x (v * 4 + 0) = qz_v x u 0 := by
  rw [pk_un (by omega), qz_cf_in huv 4 (by omega) (by omega), pk_un (by omega), qz_w16 x hu (by omega)]
theorem qz_e2 {w : Nat} (hw : w < 4) (hu : u < 16) (hv : v < 16) (huv : u ≠ v) : upd (qz_cf (upd (qz_w x 16) (v * 4 + 0) x) u v 4) (v * 4 + 1) x (u * 4 + w) = qz_v x u w := by
  rw [pk_un (by omega), qz_cf_o (by omega) 4 (by omega), pk_un (by omega), qz_w16 x hu hw]
theorem qz_v1 : qz_v x u 1 = 0 := by
  unfold qz_v
  rw [if_neg (by omega), if_neg (by omega)]
theorem qz_329B (hp : p < 2) (hv : v < 16) (hu : u < 16) (huv : u ≠ v) (hz : qz_v x u 0 = z0) (h : post 1 ()) : wL_lawOf_329 post mc ms x (nI p) (nI (1 - p)) (nI v) (nI u) 1 z0 kc ks (nI 16) (upd (qz_w x 16) (v * 4 + 0) x) (qz_U0 v) (qz_B0 p v) qz_z (qz_ng 8) (qz_h p 16) s c := by
  unfold wL_lawOf_329
  refine qz_wB hp hv hu huv (br_f (by decide) (br_t rfl (qz_iu (br_t ?_ (qz_rd (w := 0) (by omega) hu (by omega) hv (qz_n8' _ (by omega)) (qz_m5 p hp v hv u hu huv).1 (br_t ?_ (qz_rd (w := 1) (by omega) hu (by omega) hv (qz_n8' _ (by omega)) (qz_m5 p hp v hv u hu huv).1 (br_t ?_
    (qz_rd (w := 1) hp hu (by omega) hu (qz_n8' _ (by omega)) (qz_m5 p hp v hv u hu huv).2.1 (br_t ?_ (qz_rd (w := 0) hp hu (by omega) hu (qz_n8' _ (by omega)) (qz_m5 p hp v hv u hu huv).2.1 (br_t ?_ (qz_sd hu qz_n8' (qz_m4s p hp v hv u hu huv) (br_t rfl (qz_pr hp qz_n8' (br_t ?_ (qz_pr (by omega) qz_n8' (br_f ?_ ?_))))))))))))))))))
  · rw [qz_m3 v hv u hu huv]
    rfl
  · rw [qz_e1 hu hv huv, hz]
  · rw [pk_us]
  · rw [qz_e2 (by omega) hu hv huv, qz_v1]
  · rw [qz_e2 (by omega) hu hv huv, hz]
  · rw [(qz_m2 p hp v hv u hu huv).1]
    rfl
  · exact fun z => huv ((nI_eq (by omega) (by omega)).mp z)
  · rw [(qz_m2 p hp v hv u hu huv).2]
    exact br_t rfl h
theorem qz_301 (hp : p < 2) (hv : v < 16) (hu : u < 16) (h : post 1 ()) : wL_lawOf_301 post mc ms x (nI p) (nI (1 - p)) (nI v) (nI u) 1 kc ks (nI 16) (upd (qz_w x 16) (v * 4 + 0) x) (qz_U0 v) (qz_B0 p v) qz_z (qz_ng 8) (qz_h p 16) s c := by
  unfold wL_lawOf_301
  refine pk_eq u v (fun e => ?_) (fun e => br_c (fun t => ?_) (fun t => ?_))
  · subst e
    exact qz_329A hp hu h
  · refine qz_329B hp hv hu e ?_ h
    unfold qz_v
    rw [if_pos ⟨(qz_m8 u hu).mp t, rfl⟩]
  · refine qz_329B hp hv hu e ?_ h
    unfold qz_v
    rw [if_neg (fun z => t ((qz_m8 u hu).mpr z.1)), if_neg (by omega)]
theorem qz_257 (hp : p < 2) (hv : v < 16) (hu : u < 16) (h : post 1 ()) : wL_lawOf_257 post mc ms x (nI p) (nI (1 - p)) (nI v) (nI u) 1 kc ks (nI 16) (upd (qz_w x 16) (v * 4 + 0) x) (qz_U1 v) (qz_B1 p v) qz_z (qz_ng 8) (qz_h p 16) s c := by
  unfold wL_lawOf_257
  refine br_f (by decide) (qz_um (f := v) (y := 0) (by omega) hv hv (qz_n8 _ (by omega)) (qz_j3 p hp v hv) (qz_j2 v hv).2.2 (fun Q hQ => qz_re0 (qz_j4 p hp v hv) hQ) (br_t rfl (qz_iu (br_t ?_ (qz_rd0 (w := 0) (by omega) hv (by omega) (qz_n8' _ (by omega)) (qz_j6 p hp v hv).1 (br_t rfl (qz_301 hp hv hu h)))))))
  show nI (qz_cnt (qz_U0 v) 16) = 15
  rw [(qz_j5 v hv).1]
  rfl
theorem qz_199 (hp : p < 2) (hv : v < 16) (hu : u < 16) (h : post 1 ()) : wL_lawOf_199 post mc ms x (nI p) (nI (1 - p)) (nI v) (nI u) 1 kc ks (nI 16) (qz_w x 16) qz_U qz_B qz_z (qz_ng 8) (qz_h p 16) s c := by
  unfold wL_lawOf_199
  refine br_f (by decide) (qz_um (f := v) (y := 1) hp hv hv (qz_n8 _ (by omega)) (qz_i2 p hp v hv) (qz_i3 v hv).2 (fun Q hQ => qz_re1 (r := (p * 16 + v) / 4) (g := v / 4) (by omega) (by omega) (qz_j1 p hp v hv).1 (qz_n8' _ (by omega)) (qz_j1 p hp v hv).2 hQ) (br_t rfl (qz_iu (br_t ?_
    (qz_wr (f := v) (w := 0) (by omega) hv (by omega) hv (fun Q hQ => qz_op2 (f := v) (by omega) hv (qz_n8' _ (by omega)) (qz_j3 p hp v hv) rfl (qz_j2 v hv).2.1 hQ) (fun Q hQ => ?_) (br_t rfl (qz_rd (f := v) (w := 0) (by omega) hv (by omega) hv (qz_n8' _ (by omega)) (qz_j3 p hp v hv) (br_t ?_ (qz_257 hp hv hu h)))))))))
  · show nI (qz_cnt (qz_U1 v) 16) = 16
    rw [(qz_j2 v hv).1]
    rfl
  · refine qz_fo (by omega) (qz_n8' _ (by omega)) ?_
    show Q (qz_B1 p v ((1 - p) * 16 + v))
    rw [qz_j3 p hp v hv]
    exact hQ
  · rw [pk_us]
theorem qz_132 (hp : p < 2) (hv : v < 16) (hu : u < 16) (h : post 1 ()) : wL_lawOf_132 post mc ms x (nI p) (nI (1 - p)) (nI v) (nI u) 1 kc ks (nI 16) (qz_w x 16) qz_U qz_B qz_z (qz_ng 8) (qz_h p 16) s c := by
  unfold wL_lawOf_132
  have hq : ∀ j, j < 16 → qz_B ((1 - p) * 16 + j) = nI j := qz_i2 (1 - p) (by omega)
  exact qz_rd (f := v) (w := 0) hp hv (by omega) hv (qz_n8' _ (by omega)) (qz_i2 p hp v hv) (br_f (by decide) (qz_wr2 (w := 0) (by omega) hv (by omega) (fun Q hQ => qz_op3 (f := v) (by omega) hv (qz_n8' _ (by omega)) (hq v hv) rfl (qz_i3 v hv).1 qz_i1 hQ)
    (br_t rfl (qz_rd (f := v) (w := 0) (by omega) hv (by omega) hv (qz_n8' _ (by omega)) (hq v hv) (br_t rfl (qz_cy (f := v) (by omega) hv hu hv (qz_n8' _ (by omega)) (hq v hv) (fun c Q hQ => qz_op3 (f := u) (by omega) hu (qz_n8' _ (by omega)) (hq u hu) rfl (qz_i3 u hu).1 qz_i1 hQ) (fun c => br_t rfl (qz_199 hp hv hu h))))))))
theorem qz_36e {n : Nat} (hp : p < 2) (hv : v < 16) (hu : u < 16) (h : post 1 ()) : wL_lawOf_36 post mc ms x (nI p) (nI (1 - p)) (nI v) (nI u) kc ks (n + 1) (nI 8) (nI 16) (qz_w x 16) (qz_u 16) (qz_b p 16) qz_z (qz_l p 16) (qz_h p 16) s qz_z := by
  refine pk_le 8 8 (fun _ => qz_iu (br_t ?_ (qz_to (by omega) hv (qz_g1 p hp v hv).1 (qz_g1 p hp v hv).2 (qz_f2 16 (by omega)) (br_t rfl (qz_sp hp rfl (fun j hj => (qz_g1 p hp j hj).1) (fun j hj => (qz_g1 p hp j hj).2) (qz_g2 p hp) (qz_g3 p hp) (br_t rfl (qz_iu (br_t ?_ ?_)))))))) (fun z => absurd z (by omega))
  · rw [qz_f2 16 (by omega)]
    rfl
  · rw [qz_U_e, qz_i1]
    rfl
  · rw [qz_U_e, qz_B_e hp, qz_L_e hp]
    exact qz_132 hp hv hu h
theorem qz_fw0 {Q : Int32 → St2 → Prop} {i : Nat} (hp : p < 2) (hi : i < 8) (h : ∀ s', Q 0 (nI (2 * i + 1), qz_w x (2 * i + 1), qz_u (2 * i + 1), qz_b p (2 * i + 1), qz_z, qz_l p (2 * i + 1), qz_h p (2 * i + 1), s', qz_z)) :
    wpX_write Q (nI (2 * i), qz_w x (2 * i), qz_u (2 * i), qz_b p (2 * i), qz_z, qz_l p (2 * i), qz_h p (2 * i), s, qz_z) (nI p) (2 * nI i) 0 (x + 2 * nI i) := by
  have e : (2 : Int32) * nI i = nI (2 * i) := pk_mul 2 i
  have e0 : qz_wi (2 * i) = 0 := if_pos (by omega)
  have v0 : qz_wv x (2 * i) = x + nI (2 * i) := if_pos (by omega)
  have f := qz_fw (s := s) hp (show 2 * i < 16 by omega) h
  rw [e0, v0, nI_0] at f
  rw [e]
  exact f
theorem qz_fw1 {Q : Int32 → St2 → Prop} {i : Nat} (hp : p < 2) (hi : i < 8) (h : ∀ s', Q 0 (nI (2 * i + 1 + 1), qz_w x (2 * i + 1 + 1), qz_u (2 * i + 1 + 1), qz_b p (2 * i + 1 + 1), qz_z, qz_l p (2 * i + 1 + 1), qz_h p (2 * i + 1 + 1), s', qz_z)) :
    wpX_write Q (nI (2 * i + 1), qz_w x (2 * i + 1), qz_u (2 * i + 1), qz_b p (2 * i + 1), qz_z, qz_l p (2 * i + 1), qz_h p (2 * i + 1), s, qz_z) (nI p) (2 * nI i + 1) 3 (x - nI i) := by
  have e : (2 : Int32) * nI i = nI (2 * i) := pk_mul 2 i
  have e0 : qz_wi (2 * i + 1) = 3 := if_neg (by omega)
  have v0 : qz_wv x (2 * i + 1) = x - nI i := by
    unfold qz_wv
    rw [if_neg (by omega), show (2 * i + 1) / 2 = i by omega]
  have f := qz_fw (s := s) hp (show 2 * i + 1 < 16 by omega) h
  rw [e0, v0] at f
  rw [e, nI_1]
  exact f
theorem qz_36 (hp : p < 2) (hv : v < 16) (hu : u < 16) (h : post 1 ()) : ∃ n, wL_lawOf_36 post mc ms x (nI p) (nI (1 - p)) (nI v) (nI u) kc ks n 0 0 qz_z qz_z (qz_ng 32) qz_z (qz_ng 8) (qz_ng 4) qz_z qz_z := by
  have key : ∃ n, wL_lawOf_36 post mc ms x (nI p) (nI (1 - p)) (nI v) (nI u) kc ks n (nI 0) (nI (2 * 0)) (qz_w x (2 * 0)) (qz_u (2 * 0)) (qz_b p (2 * 0)) qz_z (qz_l p (2 * 0)) (qz_h p (2 * 0)) qz_z qz_z := by
    refine pk_loop (fun n i (s : Nat → Int32) => wL_lawOf_36 post mc ms x (nI p) (nI (1 - p)) (nI v) (nI u) kc ks n (nI i) (nI (2 * i)) (qz_w x (2 * i)) (qz_u (2 * i)) (qz_b p (2 * i)) qz_z (qz_l p (2 * i)) (qz_h p (2 * i)) s qz_z) (fun _ _ => True) 8 0 qz_z (by omega) trivial
      (fun n s _ => qz_36e hp hv hu h)
      (fun n i s hi _ hw => pk_le 8 i (fun z => absurd z (by omega)) (fun _ => qz_fw0 hp hi (fun s1 => qz_fw1 hp hi (fun s2 => nm_r (nI_1 i) ?_))))
    exact hw s2 trivial
  rw [Nat.mul_zero, qz_w0, qz_u0, qz_b0, qz_l0, qz_h0, nI_0] at key
  exact key
theorem qz_lo {p0 p1 p2 : Int32} (h : post 1 ()) : wpL_lawOf post 92 1472 () p0 p1 p2 := by
  obtain ⟨p, hp, ep⟩ := pk_andE p0 (m := 1) 1 (by decide)
  obtain ⟨v, hv, ev⟩ := pk_andE p1 (m := 15) 4 (by decide)
  obtain ⟨u, hu, eu⟩ := pk_andE (p1 >>> ((4 : Int32) &&& 31)) (m := 15) 4 (by decide)
  have eq : (1 : Int32) - nI p = nI (1 - p) := pk_sub (a := 1) (by omega)
  unfold wpL_lawOf
  exact ⟨by omega, by omega, 8, 164, by omega, by omega, qz_in (by omega) (by omega) (nm_r ep (nm_r eq (nm_r ev (nm_r eu (qz_36 hp hv hu h)))))⟩
theorem qz_ca {Q : Int32 → Prop} {L k : Nat} {xs : Nat → Int32} (hL : L ≤ 3) (hk : k < 3) (h : ∀ r, Q r) : wpL_cellAt Q L xs () (nI k) :=
  pk_le L k (fun _ => h _) (fun z => ⟨pk_in k L z, h _⟩)
end
end
section
theorem i_vc (xs : Nat → Int32) (L : Nat) (hL : L ≤ 3) : wpL_law (fun r => r = 1) L xs := by
  unfold wpL_law
  exact qz_ca (k := 0) hL (by omega) (fun _ => qz_ca (k := 1) hL (by omega) (fun _ => qz_ca (k := 2) hL (by omega) (fun _ => ⟨92, 1472, by omega, by omega, qz_lo rfl⟩)))
end
