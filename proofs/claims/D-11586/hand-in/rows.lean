section
/-! ===== the heap as a list of 8 numbers (all marks equal: the smaller number is sooner) ===== -/
def ps_hp (l : List Nat) : Nat → Int32 := fun j => nI (l.getD j 0)
def ps_ch (q i : Nat) (l : List Nat) : Nat := if 2 * i + 2 < q ∧ l.getD (2 * i + 2) 0 < l.getD (2 * i + 1) 0 then 2 * i + 2 else 2 * i + 1
def ps_sk (q job : Nat) : Nat → Nat → List Nat → List Nat
  | 0, i, l => l.set i job
  | r + 1, i, l => if ps_ch q i l < q ∧ l.getD (ps_ch q i l) 0 < job then ps_sk q job r (ps_ch q i l) (l.set i (l.getD (ps_ch q i l) 0)) else ps_sk q job r i l
/-- the heap after n jobs were taken off its top -/
def ps_HT : Nat → List Nat
  | 0 => [0, 1, 2, 3, 4, 5, 6, 7]
  | n + 1 => if n < 7 then ps_sk (7 - n) ((ps_HT n).getD (7 - n) 0) 8 0 (ps_HT n) else ps_HT n
theorem ps_HTf : ∀ n, n < 8 → (ps_HT n).getD 0 0 = n ∧ (ps_HT n).length = 8 ∧ (∀ x ∈ ps_HT n, x < 8) := by decide +kernel
theorem ps_HTs {n : Nat} (h : n < 7) : ps_HT (n + 1) = ps_sk (7 - n) ((ps_HT n).getD (7 - n) 0) 8 0 (ps_HT n) := if_pos h
theorem ps_HT8 : ps_HT 8 = ps_HT 7 := if_neg (by decide)
theorem ps_hpU {l : List Nat} {i v : Nat} (h : i < l.length) : upd (ps_hp l) i (nI v) = ps_hp (l.set i v) := by
  funext j
  by_cases e : j = i
  · subst e
    rw [pk_us]
    unfold ps_hp
    simp [h]
  · rw [pk_un e]
    unfold ps_hp
    have e' : ¬ i = j := fun z => e z.symm
    simp [List.getElem?_set, e']
theorem ps_get {l : List Nat} (h : ∀ x ∈ l, x < 8) (j : Nat) : l.getD j 0 < 8 := by
  by_cases e : j < l.length
  · have : l.getD j 0 = l[j] := by simp [e]
    rw [this]
    exact h _ (List.getElem_mem e)
  · have : l.getD j 0 = 0 := by simp [e]
    omega
theorem ps_set {l : List Nat} {i v : Nat} (h : ∀ x ∈ l, x < 8) (hv : v < 8) : ∀ x ∈ l.set i v, x < 8 := by
  intro x hx
  rcases List.mem_or_eq_of_mem_set hx with z | z
  · exact h x z
  · omega
/-! ===== the arrays of a state ===== -/
/-- every place below n holds x, from there to m holds y, then 0 -/
def ps_c3 (n m : Nat) (x y : Int32) : Nat → Int32 := fun j => if j < n then x else if j < m then y else 0
/-- every place below n its own number, then 0 -/
def ps_Id (n : Nat) : Nat → Int32 := fun j => if j < n then nI j else 0
/-- the sizes -/
def ps_A1 (s t n : Nat) : Nat → Int32 := fun j => if j < n then (if j < 8 then nI s else nI t) else 0
/-- the states while jobs are done: 3 below n, 2 below 8, 1 at 8 -/
def ps_D3 (n : Nat) : Nat → Int32 := fun j => if j < n then 3 else if j < 8 then 2 else if j < 9 then 1 else 0
/-- the marks -/
def ps_Mk (s n : Nat) : Nat → Int64 := fun j => if j < n then lN s else 0
def ps_Z : Nat → Int32 := fun _ => 0
theorem ps_c3U (n m : Nat) (x y : Int32) (h : n < m) : upd (ps_c3 n m x y) n x = ps_c3 (n + 1) m x y := by
  funext j
  unfold upd ps_c3
  by_cases e : j = n
  · rw [if_pos e, if_pos (by omega)]
  · rw [if_neg e]
    by_cases e2 : j < n
    · rw [if_pos e2, if_pos (by omega)]
    · rw [if_neg e2, if_neg (show ¬ j < n + 1 by omega)]
theorem ps_c3V (n : Nat) (x : Int32) : upd (ps_c3 n n x x) n x = ps_c3 (n + 1) (n + 1) x x := by
  funext j
  unfold upd ps_c3
  by_cases e : j = n
  · rw [if_pos e, if_pos (by omega)]
  · rw [if_neg e]
    by_cases e2 : j < n
    · rw [if_pos e2, if_pos (by omega)]
    · rw [if_neg e2, if_neg (by omega), if_neg (by omega), if_neg (by omega)]
theorem ps_c30 (x : Int32) : ps_c3 0 0 x x = ps_Z := by
  funext j
  unfold ps_c3 ps_Z
  rw [if_neg (by omega), if_neg (by omega)]
theorem ps_c3e (m : Nat) (x y : Int32) : ps_c3 m m y y = ps_c3 0 m x y := by
  funext j
  unfold ps_c3
  rw [if_neg (show ¬ j < 0 by omega)]
  by_cases e : j < m
  · rw [if_pos e, if_pos e]
  · rw [if_neg e, if_neg e]
theorem ps_IdU (n : Nat) : upd (ps_Id n) n (nI n) = ps_Id (n + 1) := by
  funext j
  unfold upd ps_Id
  by_cases e : j = n
  · rw [if_pos e, if_pos (by omega), e]
  · rw [if_neg e]
    by_cases e2 : j < n
    · rw [if_pos e2, if_pos (by omega)]
    · rw [if_neg e2, if_neg (by omega)]
theorem ps_Id0 : ps_Id 0 = ps_Z := by
  funext j
  unfold ps_Id ps_Z
  rw [if_neg (by omega)]
theorem ps_IdA {n i : Nat} (h : i < n) (hn : n < 2 ^ 31) : ps_Id n (nI i).toNatClampNeg = nI i := by
  rw [nI_clamp (by omega)]
  exact if_pos h
theorem ps_A1U (s t n : Nat) (h : n < 8) : upd (ps_A1 s t n) n (nI s) = ps_A1 s t (n + 1) := by
  funext j
  unfold upd ps_A1
  by_cases e : j = n
  · rw [if_pos e, if_pos (by omega), if_pos (by omega)]
  · rw [if_neg e]
    by_cases e2 : j < n
    · rw [if_pos e2, if_pos (show j < n + 1 by omega)]
    · rw [if_neg e2, if_neg (show ¬ j < n + 1 by omega)]
theorem ps_A1V (s t : Nat) : upd (ps_A1 s t 8) 8 (nI t) = ps_A1 s t 9 := by
  funext j
  unfold upd ps_A1
  by_cases e : j = 8
  · rw [if_pos e, if_pos (by omega), if_neg (by omega)]
  · rw [if_neg e]
    by_cases e2 : j < 8
    · rw [if_pos e2, if_pos (show j < 9 by omega)]
    · rw [if_neg e2, if_neg (show ¬ j < 9 by omega)]
theorem ps_A10 (s t : Nat) : ps_A1 s t 0 = ps_Z := by
  funext j
  unfold ps_A1 ps_Z
  rw [if_neg (by omega)]
theorem ps_A1a {s t j : Nat} (h : j < 8) : ps_A1 s t 9 j = nI s := by
  unfold ps_A1
  rw [if_pos (by omega), if_pos h]
theorem ps_A1b {s t : Nat} : ps_A1 s t 9 8 = nI t := rfl
theorem ps_D30 : ps_c3 8 9 2 1 = ps_D3 0 := by
  funext j
  unfold ps_c3 ps_D3
  rw [if_neg (show ¬ j < 0 by omega)]
theorem ps_D3U (n : Nat) (h : n < 8) : upd (ps_D3 n) n 3 = ps_D3 (n + 1) := by
  funext j
  unfold upd ps_D3
  by_cases e : j = n
  · rw [if_pos e, if_pos (by omega)]
  · rw [if_neg e]
    by_cases e2 : j < n
    · rw [if_pos e2, if_pos (by omega)]
    · rw [if_neg e2, if_neg (show ¬ j < n + 1 by omega)]
theorem ps_MkU (s n : Nat) : vp_updL (ps_Mk s n) n (lN s) = ps_Mk s (n + 1) := by
  funext j
  unfold vp_updL ps_Mk
  by_cases e : j = n
  · rw [if_pos e, if_pos (by omega)]
  · rw [if_neg e]
    by_cases e2 : j < n
    · rw [if_pos e2, if_pos (by omega)]
    · rw [if_neg e2, if_neg (by omega)]
theorem ps_Mk0 (s : Nat) : ps_Mk s 0 = (fun _ => 0) := by
  funext j
  unfold ps_Mk
  rw [if_neg (by omega)]
theorem ps_MkA {s n j : Nat} (h : j < n) : ps_Mk s n j = lN s := if_pos h
theorem ps_ZU (k : Nat) : upd ps_Z k 0 = ps_Z := by
  funext j
  unfold upd ps_Z
  by_cases e : j = k
  · rw [if_pos e]
  · rw [if_neg e]
theorem ps_Hp0 : ps_Id 8 = ps_hp (ps_HT 0) := by
  funext j
  unfold ps_Id ps_hp
  by_cases e : j < 8
  · rw [if_pos e]
    have : ∀ j, j < 8 → (ps_HT 0).getD j 0 = j := by decide
    rw [this j e]
  · rw [if_neg e]
    have : (ps_HT 0).getD j 0 = 0 := by
      rw [List.getD_eq_getElem?_getD, List.getElem?_eq_none (show (ps_HT 0).length ≤ j from Nat.le_of_not_lt e)]
      rfl
    rw [this]
    rfl
end
section
/-! ===== the methods ===== -/
section
variable {tk J : Int32} {C : Int64} {H cm L : Int32} {a1 a2 a3 a4 a5 a6 : Nat → Int32} {a7 : Nat → Int64} {a8 a9 a10 : Nat → Int32}
theorem ps_soon {post : Int32 → Prop} {p q : Nat} (hp : p < 24) (hq : q < 24) (e : a7 p = a7 q) (h1 : p < q → post 1) (h0 : q ≤ p → post 0) : wpX_sooner post (tk, J, C, H, cm, L, a1, a2, a3, a4, a5, a6, a7, a8, a9, a10) (nI p) (nI q) := by
  have ep : (nI p).toNatClampNeg = p := nI_clamp (by omega)
  have eq : (nI q).toNatClampNeg = q := nI_clamp (by omega)
  unfold wpX_sooner
  dsimp only
  rw [ep, eq, e]
  exact ⟨pk_in p 24 hp, pk_in q 24 hq, br_f Int64.lt_irrefl ⟨pk_in p 24 hp, pk_in q 24 hq, br_t rfl (pk_le q p h0 h1)⟩⟩
/-- submit: no earlier job arrives later -/
theorem ps_submit {post : Int32 → St2 → Prop} {n z : Nat} (hn : n < 24) (h1 : 1 ≤ z) (h2 : z ≤ 100000)
    (hp : post (nI n) (0, nI (n + 1), C, H, nI (n + 1), L, upd a1 n (nI z), ps_Z, ps_Z, ps_c3 (n + 1) (n + 1) (-5) (-5), ps_c3 (n + 1) (n + 1) (-5) (-5), ps_Z, a7, a8, ps_Id (n + 1), a10)) :
    wpX_submit post (0, nI n, C, H, nI n, L, a1, ps_Z, ps_Z, ps_c3 n n (-5) (-5), ps_c3 n n (-5) (-5), ps_Z, a7, a8, ps_Id n, a10) (nI z) 0 := by
  have en : (nI n).toNatClampNeg = n := nI_clamp (by omega)
  have key : wX_submit_159 post (nI n) (nI n) 0 (nI (n + 1)) C H (nI n) L (upd a1 n (nI z)) ps_Z ps_Z (ps_c3 (n + 1) (n + 1) (-5) (-5)) (ps_c3 (n + 1) (n + 1) (-5) (-5)) ps_Z a7 a8 (ps_Id n) a10 := by
    unfold wX_submit_159
    exact ⟨pk_in n 24 hn, nm_r (by rw [en]; exact ps_IdU n) (nm_r (nI_1 n) hp)⟩
  have hi : vp_in (nI n) 24 := pk_in n 24 hn
  unfold wpX_submit
  dsimp only
  refine pk_lt z 1 (fun h => absurd h (by omega)) (fun _ => pk_le z 100000 (fun _ => br_f (by decide) (br_t (by decide) (pk_lt n 24 (fun _ => nm_r (nI_1 n) ⟨hi, nm_r (e' := upd a1 n (nI z)) (by rw [en]) ⟨hi, nm_r (e' := ps_Z) (by rw [en]; exact ps_ZU n) ⟨hi, nm_r (e' := ps_Z) (by rw [en]; exact ps_ZU n) ⟨hi, nm_r (e' := ps_c3 (n + 1) (n + 1) (-5) (-5)) (by rw [en]; exact ps_c3V n (-5)) ⟨hi, nm_r (e' := ps_c3 (n + 1) (n + 1) (-5) (-5)) (by rw [en]; exact ps_c3V n (-5)) ⟨hi, nm_r (e' := ps_Z) (by rw [en]; exact ps_ZU n) ⟨1, ?_⟩⟩⟩⟩⟩⟩⟩) (fun h => absurd h (by omega))))) (fun h => absurd h (by omega)))
  refine pk_le n 0 (fun _ => key) (fun h => ?_)
  have em : nI n - 1 = nI (n - 1) := pk_sub (b := 1) (by omega)
  rw [em]
  have ei : ps_Id n (nI (n - 1)).toNatClampNeg = nI (n - 1) := ps_IdA (by omega) (by omega)
  rw [ei]
  exact ⟨pk_in (n - 1) 24 (by omega), pk_in (n - 1) 24 (by omega), hi, br_t (Int32.le_refl 0) key⟩
/-- arrive, none to come -/
theorem ps_arr0 {post : St2 → Prop} (hp : post (tk, J, C, H, 0, L, a1, a2, a3, a4, a5, a6, a7, a8, a9, a10)) : wpX_arrive post (tk, J, C, H, 0, L, a1, a2, a3, a4, a5, a6, a7, a8, a9, a10) :=
  ⟨1, br_t (Int32.le_refl 0) (nm_r (e' := 0) (by rfl) ⟨1, br_t (Int32.le_refl 0) hp⟩)⟩
/-- arrive, all nine at the first tick -/
theorem ps_arr9 {post : St2 → Prop} (hp : post (0, J, C, H, 0, 9, a1, ps_Z, ps_c3 9 9 1 1, a4, a5, a6, a7, a8, ps_Id 9, ps_Id 9)) : wpX_arrive post (0, J, C, H, 9, 0, a1, ps_Z, ps_c3 0 0 1 1, a4, a5, a6, a7, a8, ps_Id 9, ps_Id 0) := by
  refine pk_loop (σ := Unit) (fun f i _ => wX_arrive_2 post 0 J C H 9 f (nI i) (nI i) a1 ps_Z (ps_c3 i i 1 1) a4 a5 a6 a7 a8 (ps_Id 9) (ps_Id i)) (fun _ _ => True) 9 0 () (by omega) trivial ?_ ?_
  · intro n _ _
    exact pk_le 9 9 (fun _ => nm_r (e' := 0) (by rfl) ⟨1, br_t (Int32.le_refl 0) hp⟩) (fun h => absurd h (by omega))
  · intro n i _ hi _ hw
    have hw' := hw () trivial
    have ei : ps_Id 9 (nI i).toNatClampNeg = nI i := ps_IdA hi (by omega)
    have en : (nI i).toNatClampNeg = i := nI_clamp (by omega)
    have hv : vp_in (nI i) 24 := pk_in i 24 (by omega)
    refine pk_le 9 i (fun h => absurd h (by omega)) (fun _ => ?_)
    rw [ei]
    exact ⟨hv, hv, br_f Int32.lt_irrefl ⟨hv, hv, nm_r (e' := ps_c3 (i + 1) (i + 1) 1 1) (by rw [en]; exact ps_c3V i 1) ⟨hv, hv, nm_r (e' := ps_Id (i + 1)) (by rw [en]; exact ps_IdU i) (nm_r (nI_1 i) (nm_r (nI_1 i) hw'))⟩⟩⟩
/-- push onto a heap whose new job isn't sooner than its parent -/
theorem ps_push {post : St2 → Prop} {n k q : Nat} (hn : n < 8) (hk : k < 24) (hq : n ≠ 0 → q ≤ k ∧ a8 ((n - 1) / 2) = nI q ∧ a7 k = a7 q) (hp : post (tk, J, C, nI (n + 1), cm, L, a1, a2, a3, a4, a5, a6, a7, upd a8 n (nI k), a9, a10)) : wpX_push post (tk, J, C, nI n, cm, L, a1, a2, a3, a4, a5, a6, a7, a8, a9, a10) (nI k) := by
  have en : (nI n).toNatClampNeg = n := nI_clamp (by omega)
  have hv : vp_in (nI n) 8 := pk_in n 8 hn
  unfold wpX_push
  dsimp only
  refine nm_r (nI_1 n) ⟨1, pk_le n 0 (fun _ => ⟨hv, nm_r (e' := upd a8 n (nI k)) (by rw [en]) hp⟩) (fun h => ?_)⟩
  obtain ⟨q1, q2, q3⟩ := hq (by omega)
  have em : (nI n - 1) / 2 = nI ((n - 1) / 2) := by
    rw [show nI n - 1 = nI (n - 1) from pk_sub (b := 1) (by omega)]
    exact pk_div (d := 2) (by omega) (by omega) (by omega)
  have ep : a8 (nI ((n - 1) / 2)).toNatClampNeg = nI q := by
    rw [nI_clamp (by omega)]
    exact q2
  rw [em, ep]
  exact ⟨by decide, pk_in ((n - 1) / 2) 8 (by omega), ps_soon hk (by omega) q3 (fun z => absurd z (by omega)) (fun _ => br_t rfl ⟨hv, nm_r (e' := upd a8 n (nI k)) (by rw [en]) hp⟩)⟩
/-- going in, nobody in line -/
theorem ps_adm0 {post : St2 → Prop} (hp : post (tk, J, C, H, cm, 0, a1, a2, a3, a4, a5, a6, a7, a8, a9, a10)) : wpX_admit post (tk, J, C, H, cm, 0, a1, a2, a3, a4, a5, a6, a7, a8, a9, a10) :=
  ⟨1, br_t (Int32.le_refl 0) (nm_r (e' := 0) (by rfl) ⟨1, br_t (Int32.le_refl 0) hp⟩)⟩
/-- going in, one in line (job 8), nobody served -/
theorem ps_adm1 {post : St2 → Prop} {t : Nat} (ht : t < 2 ^ 31) (h10 : a10 0 = nI 8) (h1 : a1 8 = nI t) (hp : post (tk, J, C, 1, cm, 0, a1, a2, upd a3 8 2, upd a4 8 tk, a5, a6, vp_updL a7 8 (C + lN t), upd a8 0 (nI 8), a9, a10)) : wpX_admit post (tk, J, C, 0, cm, 1, a1, a2, a3, a4, a5, a6, a7, a8, a9, a10) := by
  refine ⟨2, br_f (by decide) (br_f (by decide) ⟨pk_in 0 24 (by omega), nm_r (e' := nI 8) h10 ⟨pk_in 8 24 (by omega), nm_r (e' := upd a3 8 2) (by rfl) ⟨pk_in 8 24 (by omega), nm_r (e' := upd a4 8 tk) (by rfl) ⟨pk_in 8 24 (by omega), pk_in 8 24 (by omega), nm_r (e' := vp_updL a7 8 (C + lN t)) ?_ ?_⟩⟩⟩⟩)⟩
  · rw [show (nI 8).toNatClampNeg = 8 from rfl, h1, nI_l ht]
  · exact ps_push (n := 0) (k := 8) (q := 0) (by omega) (by omega) (fun h => absurd rfl h) (nm_r (e' := 1) (by rfl) (br_t (Int32.le_refl 1) (nm_r (e' := 0) (by rfl) ⟨1, br_t (Int32.le_refl 0) hp⟩)))
/-- going in, nine in line, eight of them go in -/
theorem ps_adm9 {post : St2 → Prop} {s t : Nat} (hs : s < 2 ^ 31) (hp : post (tk, J, 0, 8, cm, 1, ps_A1 s t 9, a2, ps_c3 8 9 2 1, ps_c3 8 9 tk (-5), a5, a6, ps_Mk s 8, ps_Id 8, a9, upd (ps_Id 9) 0 (nI 8))) : wpX_admit post (tk, J, 0, 0, cm, 9, ps_A1 s t 9, a2, ps_c3 0 9 2 1, ps_c3 0 9 tk (-5), a5, a6, ps_Mk s 0, ps_Id 0, a9, ps_Id 9) := by
  refine pk_loop (σ := Unit) (fun f i _ => wX_admit_2 post f (nI i) tk J 0 (nI i) cm 9 (ps_A1 s t 9) a2 (ps_c3 i 9 2 1) (ps_c3 i 9 tk (-5)) a5 a6 (ps_Mk s i) (ps_Id i) a9 (ps_Id 9)) (fun _ _ => True) 8 0 () (by omega) trivial ?_ ?_
  · intro n _ _
    refine pk_le 9 8 (fun h => absurd h (by omega)) (fun _ => pk_le 8 8 (fun _ => nm_r (e' := 1) (by rfl) ⟨2, br_f (by decide) ⟨pk_in 8 24 (by omega), pk_in 0 24 (by omega), nm_r (e' := upd (ps_Id 9) 0 (nI 8)) (by rfl) (nm_r (e' := 1) (by rfl) (br_t (Int32.le_refl 1) hp))⟩⟩) (fun h => absurd h (by omega)))
  · intro n i _ hi _ hw
    have hw' := hw () trivial
    have ei : ps_Id 9 (nI i).toNatClampNeg = nI i := ps_IdA (by omega) (by omega)
    have en : (nI i).toNatClampNeg = i := nI_clamp (by omega)
    have hv : vp_in (nI i) 24 := pk_in i 24 (by omega)
    have e7 : (0 : Int64) + (ps_A1 s t 9 i).toInt64 = lN s := by
      rw [ps_A1a hi, nI_l hs]
      exact (lN_add 0 s).trans (by rw [Nat.zero_add])
    refine pk_le 9 i (fun h => absurd h (by omega)) (fun _ => pk_le 8 i (fun h => absurd h (by omega)) (fun _ => ⟨hv, nm_r ei ⟨hv, nm_r (e' := ps_c3 (i + 1) 9 2 1) (by rw [en]; exact ps_c3U i 9 2 1 (by omega)) ⟨hv, nm_r (e' := ps_c3 (i + 1) 9 tk (-5)) (by rw [en]; exact ps_c3U i 9 tk (-5) (by omega)) ⟨hv, hv, nm_r (e' := ps_Mk s (i + 1)) (by rw [en, e7]; exact ps_MkU s i) ?_⟩⟩⟩⟩))
    refine ps_push (n := i) (k := i) (q := (i - 1) / 2) hi (by omega) (fun h => ⟨by omega, if_pos (by omega), by rw [ps_MkA (by omega), ps_MkA (by omega)]⟩) (nm_r (nI_1 i) ?_)
    rw [ps_IdU i]
    exact hw'
end
end
section
section
variable {tk J : Int32} {C : Int64} {H cm L : Int32} {a1 a2 a3 a4 a5 a6 : Nat → Int32} {a7 : Nat → Int64} {a8 a9 a10 : Nat → Int32}
theorem ps_s56 {post : St2 → Prop} {J5 : Int32 → Int32 → (Nat → Int32) → (Nat → Int32) → (Nat → Int32) → (Nat → Int32) → (Nat → Int32) → (Nat → Int32) → (Nat → Int64) → (Nat → Int32) → (Nat → Int32) → (Nat → Int32) → Prop} {job i st c q : Nat} {l : List Nat}
    (hl : l.length = 8) (hx : ∀ x ∈ l, x < 8) (hj : job < 8) (hi : i < 8) (hq : q ≤ 8) (hc : c < 100) (h7 : ∀ x y, x < 8 → y < 8 → a7 x = a7 y)
    (k0 : ¬ (c < q ∧ l.getD c 0 < job) → J5 (nI i) (nI (st + 1)) a1 a2 a3 a4 a5 a6 a7 (ps_hp l) a9 a10)
    (k1 : (c < q ∧ l.getD c 0 < job) → J5 (nI c) (nI (st + 1)) a1 a2 a3 a4 a5 a6 a7 (ps_hp (l.set i (l.getD c 0))) a9 a10) :
    wX_sink_56 post J5 (nI job) (nI i) (nI st) (nI c) tk J C (nI q) cm L a1 a2 a3 a4 a5 a6 a7 (ps_hp l) a9 a10 := by
  have ec : ps_hp l (nI c).toNatClampNeg = nI (l.getD c 0) := by
    rw [nI_clamp (by omega)]
    rfl
  have ei : (nI i).toNatClampNeg = i := nI_clamp (by omega)
  have hb : l.getD c 0 < 8 := ps_get hx c
  unfold wX_sink_56
  refine pk_le q c (fun z => nm_r (nI_1 st) (k0 (fun h => absurd h.1 (by omega)))) (fun z => ⟨pk_in c 8 (by omega), ?_⟩)
  rw [ec]
  exact ps_soon (by omega) (by omega) (h7 _ _ hb hj)
    (fun y => br_f (by decide) ⟨pk_in c 8 (by omega), pk_in i 8 hi, nm_r (e' := ps_hp (l.set i (l.getD c 0))) (by rw [ei]; exact ps_hpU (by omega)) (nm_r (nI_1 st) (k1 ⟨z, y⟩))⟩)
    (fun y => br_t rfl (nm_r (nI_1 st) (k0 (fun h => absurd h.2 (by omega)))))
theorem ps_sink5 {post : St2 → Prop} {job q : Nat} (hj : job < 8) (hq : q ≤ 8) (h7 : ∀ x y, x < 8 → y < 8 → a7 x = a7 y) :
    ∀ (r st i : Nat) (l : List Nat), r + st = 8 → l.length = 8 → (∀ x ∈ l, x < 8) → i < 8 → post (tk, J, C, nI q, cm, L, a1, a2, a3, a4, a5, a6, a7, ps_hp (ps_sk q job r i l), a9, a10) → wX_sink_5 post (nI job) tk J C (nI q) cm L (r + 1) (nI i) (nI st) a1 a2 a3 a4 a5 a6 a7 (ps_hp l) a9 a10
  | 0, st, i, l, hr, hl, hx, hi, hp => by
    have es : st = 8 := by omega
    subst es
    have ei : (nI i).toNatClampNeg = i := nI_clamp (by omega)
    exact pk_le 8 8 (fun _ => ⟨pk_in i 8 hi, nm_r (e' := ps_hp (l.set i job)) (by rw [ei]; exact ps_hpU (by omega)) hp⟩) (fun h => absurd h (by omega))
  | r + 1, st, i, l, hr, hl, hx, hi, hp => by
    have E1 : (2 : Int32) * nI i + 1 = nI (2 * i + 1) := by
      rw [show (2 : Int32) * nI i = nI (2 * i) from pk_mul 2 i, nI_1]
    have E2 : nI (2 * i + 1) + 1 = nI (2 * i + 2) := nI_1 _
    have X : ∀ c, c = ps_ch q i l → c < 100 → wX_sink_56 post (wX_sink_5 post (nI job) tk J C (nI q) cm L (r + 1)) (nI job) (nI i) (nI st) (nI c) tk J C (nI q) cm L a1 a2 a3 a4 a5 a6 a7 (ps_hp l) a9 a10 := by
      intro c hc hc'
      unfold ps_sk at hp
      rw [← hc] at hp
      refine ps_s56 hl hx hj hi hq hc' h7 (fun k => ?_) (fun k => ?_)
      · rw [if_neg k] at hp
        exact ps_sink5 hj hq h7 r (st + 1) i l (by omega) hl hx hi hp
      · rw [if_pos k] at hp
        exact ps_sink5 hj hq h7 r (st + 1) c _ (by omega) (by rw [List.length_set]; exact hl) (ps_set hx (ps_get hx c)) (by omega) hp
    have G1 : ps_hp l (nI (2 * i + 1)).toNatClampNeg = nI (l.getD (2 * i + 1) 0) := by
      rw [nI_clamp (by omega)]
      rfl
    have G2 : ps_hp l (nI (2 * i + 2)).toNatClampNeg = nI (l.getD (2 * i + 2) 0) := by
      rw [nI_clamp (by omega)]
      rfl
    have b1 := ps_get hx (2 * i + 1)
    have b2 := ps_get hx (2 * i + 2)
    refine pk_le 8 st (fun h => absurd h (by omega)) (fun _ => nm_r E1 ?_)
    rw [E2]
    refine pk_le q (2 * i + 2) (fun z => X (2 * i + 1) ?_ (by omega)) (fun z => ⟨pk_in (2 * i + 2) 8 (by omega), pk_in (2 * i + 1) 8 (by omega), ?_⟩)
    · unfold ps_ch
      rw [if_neg (fun h => absurd h.1 (by omega))]
    · rw [G1, G2]
      refine ps_soon (by omega) (by omega) (h7 _ _ b2 b1) (fun y => br_f (by decide) (nm_r rfl (X (2 * i + 2) ?_ (by omega)))) (fun y => br_t rfl (X (2 * i + 1) ?_ (by omega)))
      · unfold ps_ch
        rw [if_pos ⟨z, y⟩]
      · unfold ps_ch
        rw [if_neg (fun h => absurd h.2 (by omega))]
/-- takeOut(0), the heap holds one job -/
theorem ps_to1 {post : St2 → Prop} (hp : post (tk, J, C, 0, cm, L, a1, a2, a3, a4, a5, a6, a7, a8, a9, a10)) : wpX_takeOut post (tk, J, C, 1, cm, L, a1, a2, a3, a4, a5, a6, a7, a8, a9, a10) 0 :=
  nm_r (e' := 0) (by rfl) ⟨pk_in 0 8 (by omega), nm_e (br_t rfl hp)⟩
/-- takeOut(0), the heap holds q + 1 jobs -/
theorem ps_toN {post : St2 → Prop} {q : Nat} {l : List Nat} (h0 : 0 < q) (hq : q < 8) (hl : l.length = 8) (hx : ∀ x ∈ l, x < 8) (h7 : ∀ x y, x < 8 → y < 8 → a7 x = a7 y) (hp : post (tk, J, C, nI q, cm, L, a1, a2, a3, a4, a5, a6, a7, ps_hp (ps_sk q (l.getD q 0) 8 0 l), a9, a10)) : wpX_takeOut post (tk, J, C, nI (q + 1), cm, L, a1, a2, a3, a4, a5, a6, a7, ps_hp l, a9, a10) 0 := by
  have eq : ps_hp l (nI q).toNatClampNeg = nI (l.getD q 0) := by
    rw [nI_clamp (by omega)]
    rfl
  unfold wpX_takeOut
  dsimp only
  refine nm_r (nI_pred q) ⟨pk_in q 8 hq, nm_r eq (pk_eq 0 q (fun h => absurd h (by omega)) (fun _ => ⟨1, br_t (Int32.le_refl 0) ?_⟩))⟩
  exact ⟨9, ps_sink5 (ps_get hx q) (by omega) h7 8 0 0 l (by omega) hl hx (by omega) hp⟩
/-- complete, none served -/
theorem ps_cmp0 {post : Int32 → St2 → Prop} (hp : post 0 (tk, J, C, 0, cm, L, a1, a2, a3, a4, a5, a6, a7, a8, a9, a10)) : wpX_complete post (tk, J, C, 0, cm, L, a1, a2, a3, a4, a5, a6, a7, a8, a9, a10) :=
  ⟨1, br_f (by decide) (br_t (Int32.le_refl 0) hp)⟩
/-- complete, the first one isn't done -/
theorem ps_cmpN {post : Int32 → St2 → Prop} {h q c m : Nat} (h0 : 0 < h) (hh : h < 2 ^ 31) (hq : q < 24) (h8 : a8 0 = nI q) (h7 : a7 q = lN m) (hc : c < m) (hm : m < 2 ^ 63) (hp : post 0 (tk, J, lN c, nI h, cm, L, a1, a2, a3, a4, a5, a6, a7, a8, a9, a10)) : wpX_complete post (tk, J, lN c, nI h, cm, L, a1, a2, a3, a4, a5, a6, a7, a8, a9, a10) := by
  refine ⟨1, br_f (by decide) (br_f (nI_nle h0 hh) ?_)⟩
  rw [h8, nI_clamp (show q < 2 ^ 31 by omega), h7]
  exact ⟨pk_in q 24 hq, br_t ((pk_lLT (by omega) hm).mpr hc) hp⟩
/-- complete, the only one (job 8) is done -/
theorem ps_cmp1 {post : Int32 → St2 → Prop} {c m : Nat} (h8 : a8 0 = nI 8) (h7 : a7 8 = lN m) (hc : m ≤ c) (hm : c < 2 ^ 63) (hp : post 1 (tk, J, lN c, 0, cm, L, a1, a2, upd a3 8 3, a4, upd a5 8 (tk - 1), upd a6 8 (a1 8), a7, a8, a9, a10)) : wpX_complete post (tk, J, lN c, 1, cm, L, a1, a2, a3, a4, a5, a6, a7, a8, a9, a10) := by
  have nl : ¬ lN c < lN m := fun h => absurd ((pk_lLT hm (by omega)).mp h) (by omega)
  refine ⟨2, br_f (by decide) (br_f (by decide) ?_)⟩
  rw [h8, show (nI 8).toNatClampNeg = 8 from rfl, h7]
  have hv : vp_in (nI 8) 24 := pk_in 8 24 (by omega)
  exact ⟨hv, br_f nl (nm_r (e' := nI 8) rfl ⟨hv, nm_r (e' := upd a3 8 3) (by rfl) ⟨hv, nm_r (e' := upd a5 8 (tk - 1)) (by rfl) ⟨hv, hv, nm_r (e' := upd a6 8 (a1 8)) (by rfl) (ps_to1 (nm_r (e' := 1) (by rfl) (br_f (by decide) (br_t (Int32.le_refl 0) hp))))⟩⟩⟩)⟩
/-- complete, all eight are done -/
theorem ps_cmp8 {post : Int32 → St2 → Prop} {s t c : Nat} (hc : s ≤ c) (hm : c < 2 ^ 63)
    (hp : post 8 (tk, J, lN c, 0, cm, L, ps_A1 s t 9, a2, ps_D3 8, a4, ps_c3 8 9 (tk - 1) (-5), ps_c3 8 8 (nI s) (nI s), ps_Mk s 8, ps_hp (ps_HT 8), a9, a10)) :
    wpX_complete post (tk, J, lN c, 8, cm, L, ps_A1 s t 9, a2, ps_D3 0, a4, ps_c3 0 9 (tk - 1) (-5), ps_c3 0 0 (nI s) (nI s), ps_Mk s 8, ps_hp (ps_HT 0), a9, a10) := by
  have nl : ¬ lN c < lN s := fun h => absurd ((pk_lLT hm (by omega)).mp h) (by omega)
  refine pk_loop (σ := Unit) (fun f i _ => wX_complete_2 post f (nI i) tk J (lN c) (nI (8 - i)) cm L (ps_A1 s t 9) a2 (ps_D3 i) a4 (ps_c3 i 9 (tk - 1) (-5)) (ps_c3 i i (nI s) (nI s)) (ps_Mk s 8) (ps_hp (ps_HT i)) a9 a10) (fun _ _ => True) 8 0 () (by omega) trivial ?_ ?_
  · intro n _ _
    exact pk_le 8 8 (fun _ => hp) (fun h => absurd h (by omega))
  · intro n i _ hi _ hw
    have hw' := hw () trivial
    obtain ⟨f1, f2, f3⟩ := ps_HTf i hi
    have e0 : ps_hp (ps_HT i) 0 = nI i := by
      unfold ps_hp
      rw [f1]
    have en : (nI i).toNatClampNeg = i := nI_clamp (by omega)
    have em : ps_Mk s 8 i = lN s := ps_MkA hi
    have hv : vp_in (nI i) 24 := pk_in i 24 (by omega)
    have e3 : upd (ps_D3 i) (nI i).toNatClampNeg 3 = ps_D3 (i + 1) := by
      rw [en]
      exact ps_D3U i hi
    have e5 : upd (ps_c3 i 9 (tk - 1) (-5)) (nI i).toNatClampNeg (tk - 1) = ps_c3 (i + 1) 9 (tk - 1) (-5) := by
      rw [en]
      exact ps_c3U i 9 (tk - 1) (-5) (by omega)
    have e6 : upd (ps_c3 i i (nI s) (nI s)) (nI i).toNatClampNeg (ps_A1 s t 9 (nI i).toNatClampNeg) = ps_c3 (i + 1) (i + 1) (nI s) (nI s) := by
      rw [en, ps_A1a hi]
      exact ps_c3V i (nI s)
    refine pk_le 8 i (fun h => absurd h (by omega)) (fun _ => br_f (nI_nle (by omega) (by omega)) ?_)
    rw [e0]
    refine ⟨hv, br_f (by rw [en, em]; exact nl) (nm_r (e' := nI i) rfl ⟨hv, nm_r e3 ⟨hv, nm_r e5 ⟨hv, hv, nm_r e6 ?_⟩⟩⟩)⟩
    by_cases h : i = 7
    · subst h
      rw [ps_HT8] at hw'
      exact ps_to1 (nm_r (nI_1 7) hw')
    · have eh : 8 - i = (7 - i) + 1 := by omega
      rw [eh]
      rw [ps_HTs (by omega), show 8 - (i + 1) = 7 - i by omega] at hw'
      exact ps_toN (by omega) (by omega) f2 f3 (fun x y x8 y8 => by rw [ps_MkA x8, ps_MkA y8]) (nm_r (nI_1 i) hw')
/-- stretch, none to come, none served -/
theorem ps_str0 {post : Int32 → Prop} {l : Nat} (h1 : 1 ≤ l) (h2 : l < 2 ^ 31) (hp : post (nI l)) : wpX_stretch post (tk, J, C, 0, 0, L, a1, a2, a3, a4, a5, a6, a7, a8, a9, a10) (nI l) :=
  br_t (Int32.le_refl 0) (br_t (Int32.le_refl 0) (pk_le 1 l (fun _ => hp) (fun h => absurd h (by omega))))
/-- stretch, none to come, h served, the first of them job q -/
theorem ps_strN {post : Int32 → Prop} {l h q c m r d : Nat} (h1 : 1 ≤ l) (h2 : l < 2 ^ 31) (hh : 0 < h) (hh2 : h < 2 ^ 31) (hr : 840 / h = r) (hr0 : 0 < r) (hq : q < 24) (h8 : a8 0 = nI q) (h7 : a7 q = lN m) (hc : c < m) (hm : m < 2 ^ 31) (hd : (m - c + r - 1) / r = d) (k1 : l ≤ d → post (nI l)) (k2 : d < l → post (nI d)) : wpX_stretch post (tk, J, lN c, nI h, 0, L, a1, a2, a3, a4, a5, a6, a7, a8, a9, a10) (nI l) := by
  have hr1 : r ≤ 840 := by rw [← hr]; exact Nat.div_le_self 840 h
  have d1 : 1 ≤ d := by
    rw [← hd]
    exact (Nat.le_div_iff_mul_le hr0).mpr (by omega)
  have d2 : d < 2 ^ 32 := by
    rw [← hd]
    exact Nat.lt_of_le_of_lt (Nat.div_le_self _ _) (by omega)
  have er : (840 : Int32) / nI h = nI r := by
    rw [← hr]
    exact pk_div (a := 840) (by omega) hh hh2
  have ed : (lN (m - c) + (nI r).toInt64 - 1) / (nI r).toInt64 = lN d := by
    rw [nI_l (by omega), lN_add, show lN (m - c + r) - 1 = lN (m - c + r - 1) from lN_sub (b := 1) (by omega), pk_lDiv (by omega) hr0 (by omega), hd]
  refine br_t (Int32.le_refl 0) (br_f (nI_nle hh hh2) ⟨nI_ne0 hh hh2, nm_r er ⟨by rw [h8]; exact pk_in q 24 hq, nm_r (e' := lN (m - c)) ?_ ⟨?_, nm_r ed ?_⟩⟩⟩)
  · rw [h8, nI_clamp (by omega), h7]
    exact lN_sub (by omega)
  · rw [nI_l (by omega)]
    exact fun h => absurd ((pk_lEQ (b := 0) (by omega) (by omega)).mp h) (by omega)
  · rw [nI_l h2]
    refine br_c (fun z => ?_) (fun z => ?_)
    · exact pk_le 1 l (fun _ => k1 ((pk_lLE (by omega) (by omega)).mp z)) (fun h => absurd h (by omega))
    · have : d < l := by
        rcases Nat.lt_or_ge d l with y | y
        · exact y
        · exact absurd ((pk_lLE (by omega) (by omega)).mpr y) z
      rw [lN_i]
      exact pk_le 1 d (fun _ => k2 this) (fun h => absurd h (by omega))
end
end
section
/-! ===== run ===== -/
section
variable {tk J : Int32} {C : Int64} {H cm L : Int32} {a1 a2 a3 a4 a5 a6 : Nat → Int32} {a7 : Nat → Int64} {a8 a9 a10 : Nat → Int32}
theorem ps_arr9' {post : St2 → Prop} (hp : post (0, J, C, H, 0, 9, a1, ps_Z, ps_c3 9 9 1 1, a4, a5, a6, a7, a8, ps_Id 9, ps_Id 9)) : wpX_arrive post (0, J, C, H, 9, 0, a1, ps_Z, ps_Z, a4, a5, a6, a7, a8, ps_Id 9, ps_Z) := by
  have h := ps_arr9 hp
  rw [ps_c30 1, ps_Id0] at h
  exact h
theorem ps_adm9' {post : St2 → Prop} {s t : Nat} (hs : s < 2 ^ 31) (hp : post (tk, J, 0, 8, cm, 1, ps_A1 s t 9, a2, ps_c3 8 9 2 1, ps_c3 8 9 tk (-5), a5, a6, ps_Mk s 8, ps_Id 8, a9, upd (ps_Id 9) 0 (nI 8))) : wpX_admit post (tk, J, 0, 0, cm, 9, ps_A1 s t 9, a2, ps_c3 9 9 1 1, ps_c3 9 9 (-5) (-5), a5, a6, (fun _ => 0), ps_Z, a9, ps_Id 9) := by
  have h := ps_adm9 hs hp
  rw [← ps_c3e 9 2 1, ← ps_c3e 9 tk (-5), ps_Mk0, ps_Id0] at h
  exact h
theorem ps_cmp8' {post : Int32 → St2 → Prop} {s t c : Nat} (hc : s ≤ c) (hm : c < 2 ^ 63)
    (hp : post 8 (tk, J, lN c, 0, cm, L, ps_A1 s t 9, a2, ps_D3 8, a4, ps_c3 8 9 (tk - 1) (-5), ps_c3 8 8 (nI s) (nI s), ps_Mk s 8, ps_hp (ps_HT 8), a9, a10)) :
    wpX_complete post (tk, J, lN c, 8, cm, L, ps_A1 s t 9, a2, ps_c3 8 9 2 1, a4, ps_c3 9 9 (-5) (-5), ps_Z, ps_Mk s 8, ps_Id 8, a9, a10) := by
  have h := ps_cmp8 hc hm hp
  rw [← ps_D30, ← ps_c3e 9 (tk - 1) (-5), ps_c30, ← ps_Hp0] at h
  exact h
/-- the first turn: nine arrive, eight go in -/
theorem ps_it1 {post : Int32 → St2 → Prop} {n l s t E : Nat} (hl : 1 ≤ l) (hl2 : l < 512) (hs : s ≤ 16384) (E1 : 105 * E < s) (E2 : s ≤ 105 * E + 105)
    (k1 : l ≤ E → wX_run_21 post n 0 0 (nI l) 9 (lN (105 * l)) 8 0 1 (ps_A1 s t 9) ps_Z (ps_c3 8 9 2 1) (ps_c3 8 9 0 (-5)) (ps_c3 9 9 (-5) (-5)) ps_Z (ps_Mk s 8) (ps_Id 8) (ps_Id 9) (upd (ps_Id 9) 0 (nI 8)))
    (k2 : E < l → wX_run_21 post n (nI (l - (E + 1))) 8 (nI (E + 1)) 9 (lN (105 * (E + 1))) 0 0 1 (ps_A1 s t 9) ps_Z (ps_D3 8) (ps_c3 8 9 0 (-5)) (ps_c3 8 9 (nI E) (-5)) (ps_c3 8 8 (nI s) (nI s)) (ps_Mk s 8) (ps_hp (ps_HT 8)) (ps_Id 9) (upd (ps_Id 9) 0 (nI 8))) :
    wX_run_21 post (n + 1) (nI l) 0 0 9 0 0 9 0 (ps_A1 s t 9) ps_Z ps_Z (ps_c3 9 9 (-5) (-5)) (ps_c3 9 9 (-5) (-5)) ps_Z (fun _ => 0) ps_Z (ps_Id 9) ps_Z := by
  have cnt : ∀ k, k < 512 → (0 : Int64) + ((840 / 8 : Int32).toInt64) * (nI k).toInt64 = lN (105 * k) := by
    intro k hk
    rw [nI_l (by omega), show ((840 / 8 : Int32).toInt64) = lN 105 from by decide, lN_mul]
    exact (lN_add 0 _).trans (by rw [Nat.zero_add])
  have tck : ∀ k, (0 : Int32) + nI k = nI k := fun k => (nI_add 0 k).trans (by rw [Nat.zero_add])
  refine br_f (nI_nle hl (by omega)) (ps_arr9' (ps_adm9' (by omega) ?_))
  refine ps_strN (h := 8) (r := 105) (d := E + 1) (q := 0) (c := 0) (m := s) hl (by omega) (by omega) (by omega) (by omega) (by omega) (by omega) rfl (ps_MkA (by omega)) (by omega) (by omega) (by omega) (fun z => ?_) (fun z => ?_)
  · refine br_f (by decide) ⟨by decide, nm_r (cnt l hl2) (nm_r (tck l) (nm_r (e' := 0) (Int32.sub_self _) ?_))⟩
    by_cases g : l ≤ E
    · exact ps_cmpN (h := 8) (q := 0) (c := 105 * l) (m := s) (by omega) (by omega) (by omega) rfl (ps_MkA (by omega)) (by omega) (by omega) (nm_r (e' := 0) (by rfl) (k1 g))
    · have t := k2 (by omega)
      have el : l = E + 1 := by omega
      subst el
      rw [Nat.sub_self] at t
      rw [← nI_pred E] at t
      exact ps_cmp8' (c := 105 * (E + 1)) (by omega) (by omega) (nm_r (e' := 8) (by rfl) t)
  · refine br_f (by decide) ⟨by decide, nm_r (cnt (E + 1) (by omega)) (nm_r (tck (E + 1)) (nm_r (pk_sub (by omega)) ?_))⟩
    have t := k2 (by omega)
    rw [← nI_pred E] at t
    exact ps_cmp8' (c := 105 * (E + 1)) (by omega) (by omega) (nm_r (e' := 8) (by rfl) t)
/-- the second turn: job 8 goes in -/
theorem ps_it2 {post : Int32 → St2 → Prop} {n l e c t B : Nat} (hl : 1 ≤ l) (hl2 : l < 512) (hc : c < 2 ^ 20) (ht : t ≤ 16384) (B1 : 840 * B < t) (B2 : t ≤ 840 * B + 840) (h10 : a10 0 = nI 8) (h1 : a1 8 = nI t)
    (k1 : l ≤ B → wX_run_21 post n 0 8 (nI (e + l)) J (lN (c + 840 * l)) 1 0 0 a1 a2 (upd a3 8 2) (upd a4 8 (nI e)) a5 a6 (vp_updL a7 8 (lN c + lN t)) (upd a8 0 (nI 8)) a9 a10)
    (k2 : B < l → wX_run_21 post n (nI (l - (B + 1))) 9 (nI (e + (B + 1))) J (lN (c + 840 * (B + 1))) 0 0 0 a1 a2 (upd (upd a3 8 2) 8 3) (upd a4 8 (nI e)) (upd a5 8 (nI (e + B))) (upd a6 8 (nI t)) (vp_updL a7 8 (lN c + lN t)) (upd a8 0 (nI 8)) a9 a10) :
    wX_run_21 post (n + 1) (nI l) 8 (nI e) J (lN c) 0 0 1 a1 a2 a3 a4 a5 a6 a7 a8 a9 a10 := by
  have cnt : ∀ k, k < 512 → lN c + ((840 / 1 : Int32).toInt64) * (nI k).toInt64 = lN (c + 840 * k) := by
    intro k hk
    rw [nI_l (by omega), show ((840 / 1 : Int32).toInt64) = lN 840 from by decide, lN_mul, lN_add]
  have e8 : vp_updL a7 8 (lN c + lN t) 8 = lN (c + t) := by rw [pk_uLs, lN_add]
  have nx : B < l → wX_run_21 post n (nI (l - (B + 1))) 9 (nI (e + (B + 1))) J (lN (c + 840 * (B + 1))) 0 0 0 a1 a2 (upd (upd a3 8 2) 8 3) (upd a4 8 (nI e)) (upd a5 8 (nI (e + (B + 1)) - 1)) (upd a6 8 (a1 8)) (vp_updL a7 8 (lN c + lN t)) (upd a8 0 (nI 8)) a9 a10 := by
    intro z
    rw [show nI (e + (B + 1)) - 1 = nI (e + B) from nI_pred (e + B), h1]
    exact k2 z
  refine br_f (nI_nle hl (by omega)) (ps_arr0 (ps_adm1 (by omega) h10 h1 ?_))
  refine ps_strN (h := 1) (r := 840) (d := B + 1) (q := 8) (c := c) (m := c + t) hl (by omega) (by omega) (by omega) (by omega) (by omega) (by omega) rfl e8 (by omega) (by omega) (by omega) (fun z => ?_) (fun z => ?_)
  · refine br_f (by decide) ⟨by decide, nm_r (cnt l hl2) (nm_r (nI_add e l) (nm_r (e' := 0) (Int32.sub_self _) ?_))⟩
    by_cases g : l ≤ B
    · exact ps_cmpN (h := 1) (q := 8) (c := c + 840 * l) (m := c + t) (by omega) (by omega) (by omega) rfl e8 (by omega) (by omega) (nm_r (e' := 8) (by rfl) (k1 g))
    · have t := nx (by omega)
      have el : l = B + 1 := by omega
      subst el
      rw [Nat.sub_self] at t
      exact ps_cmp1 (c := c + 840 * (B + 1)) rfl e8 (by omega) (by omega) (nm_r (e' := 9) (by rfl) t)
  · refine br_f (by decide) ⟨by decide, nm_r (cnt (B + 1) (by omega)) (nm_r (nI_add e (B + 1)) (nm_r (pk_sub (by omega)) ?_))⟩
    exact ps_cmp1 (c := c + 840 * (B + 1)) rfl e8 (by omega) (by omega) (nm_r (e' := 9) (by rfl) (nx (by omega)))
/-- a turn with nobody there -/
theorem ps_it3 {post : Int32 → St2 → Prop} {n l : Nat} (hl : 1 ≤ l) (hl2 : l < 512) (k : wX_run_21 post n 0 9 (tk + nI l) J C 0 0 0 a1 a2 a3 a4 a5 a6 a7 a8 a9 a10) : wX_run_21 post (n + 1) (nI l) 9 tk J C 0 0 0 a1 a2 a3 a4 a5 a6 a7 a8 a9 a10 :=
  br_f (nI_nle hl (by omega)) (ps_arr0 (ps_adm0 (ps_str0 hl (by omega) (br_t (Int32.le_refl 0) (nm_e (nm_r (e' := 0) (Int32.sub_self _) (ps_cmp0 (nm_r (e' := 9) (by rfl) k))))))))
theorem ps_it0 {post : Int32 → St2 → Prop} {n : Nat} {x3 : Int32} (hp : post x3 (tk, J, C, H, cm, L, a1, a2, a3, a4, a5, a6, a7, a8, a9, a10)) : wX_run_21 post (n + 1) 0 x3 tk J C H cm L a1 a2 a3 a4 a5 a6 a7 a8 a9 a10 := br_t (Int32.le_refl 0) hp
end
/-- the whole run -/
theorem ps_run {post : Int32 → St2 → Prop} {T s t E B : Nat} (hT : T < 512) (hs : s ≤ 16384) (ht : t ≤ 16384) (E1 : 105 * E < s) (E2 : s ≤ 105 * E + 105) (B1 : 840 * B < t) (B2 : t ≤ 840 * B + 840)
    (c0 : T = 0 → post 0 (0, 9, 0, 0, 9, 0, ps_A1 s t 9, ps_Z, ps_Z, ps_c3 9 9 (-5) (-5), ps_c3 9 9 (-5) (-5), ps_Z, (fun _ => 0), ps_Z, ps_Id 9, ps_Z))
    (c1 : 0 < T → T ≤ E → post 0 (nI T, 9, lN (105 * T), 8, 0, 1, ps_A1 s t 9, ps_Z, ps_c3 8 9 2 1, ps_c3 8 9 0 (-5), ps_c3 9 9 (-5) (-5), ps_Z, ps_Mk s 8, ps_Id 8, ps_Id 9, upd (ps_Id 9) 0 (nI 8)))
    (c2 : T = E + 1 → post 8 (nI (E + 1), 9, lN (105 * (E + 1)), 0, 0, 1, ps_A1 s t 9, ps_Z, ps_D3 8, ps_c3 8 9 0 (-5), ps_c3 8 9 (nI E) (-5), ps_c3 8 8 (nI s) (nI s), ps_Mk s 8, ps_hp (ps_HT 8), ps_Id 9, upd (ps_Id 9) 0 (nI 8)))
    (c3 : E + 1 < T → T ≤ E + 1 + B → ∀ tk, post 8 (tk, 9, lN (105 * (E + 1) + 840 * (T - (E + 1))), 1, 0, 0, ps_A1 s t 9, ps_Z, upd (ps_D3 8) 8 2, upd (ps_c3 8 9 0 (-5)) 8 (nI (E + 1)), ps_c3 8 9 (nI E) (-5), ps_c3 8 8 (nI s) (nI s), vp_updL (ps_Mk s 8) 8 (lN (105 * (E + 1)) + lN t), upd (ps_hp (ps_HT 8)) 0 (nI 8), ps_Id 9, upd (ps_Id 9) 0 (nI 8)))
    (c4 : E + 1 + B < T → ∀ tk C, post 9 (tk, 9, C, 0, 0, 0, ps_A1 s t 9, ps_Z, upd (upd (ps_D3 8) 8 2) 8 3, upd (ps_c3 8 9 0 (-5)) 8 (nI (E + 1)), upd (ps_c3 8 9 (nI E) (-5)) 8 (nI (E + 1 + B)), upd (ps_c3 8 8 (nI s) (nI s)) 8 (nI t), vp_updL (ps_Mk s 8) 8 (lN (105 * (E + 1)) + lN t), upd (ps_hp (ps_HT 8)) 0 (nI 8), ps_Id 9, upd (ps_Id 9) 0 (nI 8))) :
    wpX_run post (0, 9, 0, 0, 9, 0, ps_A1 s t 9, ps_Z, ps_Z, ps_c3 9 9 (-5) (-5), ps_c3 9 9 (-5) (-5), ps_Z, (fun _ => 0), ps_Z, ps_Id 9, ps_Z) (nI T) := by
  refine br_t (nI_pos' (by omega)) (pk_le T 5000 (fun _ => ⟨4, ?_⟩) (fun h => absurd h (by omega)))
  by_cases h0 : T = 0
  · have c := c0 h0
    subst h0
    exact ps_it0 (n := 3) c
  · refine ps_it1 (n := 3) (E := E) (by omega) hT hs E1 E2 (fun z => ps_it0 (n := 2) (c1 (by omega) z)) (fun z => ?_)
    by_cases h1 : T = E + 1
    · have c := c2 h1
      subst h1
      rw [Nat.sub_self]
      exact ps_it0 (n := 2) c
    · refine ps_it2 (n := 2) (B := B) (by omega) (by omega) (by omega) ht B1 B2 rfl rfl (fun y => ps_it0 (n := 1) (c3 (by omega) (by omega) _)) (fun y => ?_)
      by_cases h2 : T - (E + 1) = B + 1
      · rw [h2, Nat.sub_self]
        exact ps_it0 (n := 1) (c4 (by omega) _ _)
      · exact ps_it3 (n := 1) (by omega) (by omega) (ps_it0 (n := 0) (c4 (by omega) _ _))
end
section
/-! ===== the questions ===== -/
section
variable {tk J : Int32} {C : Int64} {H cm L : Int32} {a1 a2 a3 a4 a5 a6 : Nat → Int32} {a7 : Nat → Int64} {a8 a9 a10 : Nat → Int32}
def ps_hv (C : Int64) (a1 a3 a6 : Nat → Int32) (a7 : Nat → Int64) (k : Nat) : Int32 := if a3 k = 2 then ((a1 k).toInt64 - (a7 k - C)).toInt32 else a6 k
theorem ps_noJob {post : Int32 → Prop} {k : Nat} (hk : k < 9) (hp : post 0) : wpX_noJob post (tk, 9, C, H, cm, L, a1, a2, a3, a4, a5, a6, a7, a8, a9, a10) (nI k) :=
  br_f (nI_pos (by omega)) (pk_lt k 9 (fun _ => hp) (fun h => absurd h (by omega)))
theorem ps_state {post : Int32 → Prop} {k : Nat} (hk : k < 9) (hp : post (a3 k)) : wpX_state post (tk, 9, C, H, cm, L, a1, a2, a3, a4, a5, a6, a7, a8, a9, a10) (nI k) := by
  have en : (nI k).toNatClampNeg = k := nI_clamp (by omega)
  unfold wpX_state
  dsimp only
  rw [en]
  exact ps_noJob hk (br_t rfl ⟨pk_in k 24 (by omega), hp⟩)
theorem ps_admitted {post : Int32 → Prop} {k : Nat} (hk : k < 9) (hp : post (a4 k)) : wpX_admitted post (tk, 9, C, H, cm, L, a1, a2, a3, a4, a5, a6, a7, a8, a9, a10) (nI k) := by
  have en : (nI k).toNatClampNeg = k := nI_clamp (by omega)
  unfold wpX_admitted
  dsimp only
  rw [en]
  exact ps_noJob hk (br_t rfl ⟨pk_in k 24 (by omega), hp⟩)
theorem ps_finished {post : Int32 → Prop} {k : Nat} (hk : k < 9) (hp : post (a5 k)) : wpX_finished post (tk, 9, C, H, cm, L, a1, a2, a3, a4, a5, a6, a7, a8, a9, a10) (nI k) := by
  have en : (nI k).toNatClampNeg = k := nI_clamp (by omega)
  unfold wpX_finished
  dsimp only
  rw [en]
  exact ps_noJob hk (br_t rfl ⟨pk_in k 24 (by omega), hp⟩)
theorem ps_had {post : Int32 → Prop} {k : Nat} (hk : k < 9) (hp : post (ps_hv C a1 a3 a6 a7 k)) : wpX_had post (tk, 9, C, H, cm, L, a1, a2, a3, a4, a5, a6, a7, a8, a9, a10) (nI k) := by
  have en : (nI k).toNatClampNeg = k := nI_clamp (by omega)
  have hv : vp_in (nI k) 24 := pk_in k 24 (by omega)
  unfold wpX_had
  dsimp only
  rw [en]
  unfold ps_hv at hp
  refine ps_noJob hk (br_t rfl ⟨hv, br_c (fun h => ⟨hv, hv, ?_⟩) (fun h => ⟨hv, ?_⟩)⟩)
  · rw [if_pos h] at hp
    exact hp
  · rw [if_neg h] at hp
    exact hp
/-! ===== the law behind the run ===== -/
variable {post : Int32 → St0 → Prop} {mc ms kc ks : Nat} {x4 x5 x6 x7 x8 x9 x10 x11 z0 z1 : Int32}
theorem ps_420 (he : z1 = z0) (hw : L = if x8 ≤ 0 then 0 else if x11 = 0 then 1 else 0) (hp : post 1 ()) : wL_lawOf_420 post mc ms x8 x11 z0 z1 kc ks tk J C H cm L a1 a2 a3 a4 a5 a6 a7 a8 a9 a10 := by
  unfold wL_lawOf_420
  refine br_t he ?_
  unfold wpX_waiting
  dsimp only
  refine br_c (fun h1 => br_t ?_ hp) (fun h1 => br_c (fun h2 => br_t ?_ hp) (fun h2 => br_t ?_ hp))
  · rw [hw, if_pos h1]
  · rw [hw, if_neg h1, if_pos h2]
  · rw [hw, if_neg h1, if_neg h2]
theorem ps_373 (he : z1 = z0) (hs : H = if x10 = 0 then (if x11 = 0 then (if x9 = 0 then (if x8 ≤ 0 then 0 else 8) else 0) else 1) else 0)
    (K : ∀ w0 w1 : Int32, w1 = w0 → wL_lawOf_420 post mc ms x8 x11 w0 w1 kc ks tk J C H cm L a1 a2 a3 a4 a5 a6 a7 a8 a9 a10) : wL_lawOf_373 post mc ms x8 x9 x10 x11 z0 z1 kc ks tk J C H cm L a1 a2 a3 a4 a5 a6 a7 a8 a9 a10 := by
  unfold wL_lawOf_373
  refine br_t he ?_
  unfold wpX_served
  dsimp only
  refine br_c (fun h1 => br_c (fun h2 => br_c (fun h3 => br_c (fun h4 => K _ _ ?_) (fun h4 => K _ _ ?_)) (fun h3 => K _ _ ?_)) (fun h2 => K _ _ ?_)) (fun h1 => K _ _ ?_)
  · rw [hs, if_pos h1, if_pos h2, if_pos h3, if_pos h4]
  · rw [hs, if_pos h1, if_pos h2, if_pos h3, if_neg h4]
  · rw [hs, if_pos h1, if_pos h2, if_neg h3]
  · rw [hs, if_pos h1, if_neg h2]
  · rw [hs, if_neg h1]
theorem ps_350 (he : z1 = z0) (hf : a5 8 = if x10 = 0 then -5 else x7)
    (K : ∀ w0 w1 : Int32, w1 = w0 → wL_lawOf_373 post mc ms x8 x9 x10 x11 w0 w1 kc ks tk 9 C H cm L a1 a2 a3 a4 a5 a6 a7 a8 a9 a10) : wL_lawOf_350 post mc ms x7 x8 x9 x10 x11 z0 z1 kc ks tk 9 C H cm L a1 a2 a3 a4 a5 a6 a7 a8 a9 a10 := by
  unfold wL_lawOf_350
  refine br_t he (ps_finished (k := 8) (by omega) (br_c (fun h1 => K _ _ ?_) (fun h1 => K _ _ ?_)))
  · rw [hf, if_pos h1]
  · rw [hf, if_neg h1]
theorem ps_325 (he : z1 = z0) (ha : a4 8 = if x11 = 0 then -5 else x6 + 1)
    (K : ∀ w0 w1 : Int32, w1 = w0 → wL_lawOf_350 post mc ms x7 x8 x9 x10 x11 w0 w1 kc ks tk 9 C H cm L a1 a2 a3 a4 a5 a6 a7 a8 a9 a10) : wL_lawOf_325 post mc ms x6 x7 x8 x9 x10 x11 z0 z1 kc ks tk 9 C H cm L a1 a2 a3 a4 a5 a6 a7 a8 a9 a10 := by
  unfold wL_lawOf_325
  refine br_t he (ps_admitted (k := 8) (by omega) (br_c (fun h1 => K _ _ ?_) (fun h1 => K _ _ ?_)))
  · rw [ha, if_pos h1]
  · rw [ha, if_neg h1]
theorem ps_284 (he : z1 = z0) (hh : ps_hv C a1 a3 a6 a7 8 = if x10 = 0 then (if x11 = 0 then 0 else 840 * ((x8 - x6) - 1)) else x5)
    (K : ∀ w0 w1 : Int32, w1 = w0 → wL_lawOf_325 post mc ms x6 x7 x8 x9 x10 x11 w0 w1 kc ks tk 9 C H cm L a1 a2 a3 a4 a5 a6 a7 a8 a9 a10) : wL_lawOf_284 post mc ms x5 x6 x7 x8 x9 x10 x11 z0 z1 kc ks tk 9 C H cm L a1 a2 a3 a4 a5 a6 a7 a8 a9 a10 := by
  unfold wL_lawOf_284
  refine br_t he (ps_had (k := 8) (by omega) (br_c (fun h1 => br_c (fun h2 => K _ _ ?_) (fun h2 => K _ _ ?_)) (fun h1 => K _ _ ?_)))
  · rw [hh, if_pos h1, if_pos h2]
  · rw [hh, if_pos h1, if_neg h2]
  · rw [hh, if_neg h1]
theorem ps_248 (hs : a3 8 = if x10 = 0 then (if x11 = 0 then (if x8 ≤ 0 then 0 else 1) else 2) else 3)
    (K : ∀ w0 w1 : Int32, w1 = w0 → wL_lawOf_284 post mc ms x5 x6 x7 x8 x9 x10 x11 w0 w1 kc ks tk 9 C H cm L a1 a2 a3 a4 a5 a6 a7 a8 a9 a10) : wL_lawOf_248 post mc ms x5 x6 x7 x8 x9 x10 x11 kc ks tk 9 C H cm L a1 a2 a3 a4 a5 a6 a7 a8 a9 a10 := by
  unfold wL_lawOf_248
  refine ps_state (k := 8) (by omega) (br_c (fun h1 => br_c (fun h2 => br_c (fun h3 => K _ _ ?_) (fun h3 => K _ _ ?_)) (fun h2 => K _ _ ?_)) (fun h1 => K _ _ ?_))
  · rw [hs, if_pos h1, if_pos h2, if_pos h3]
  · rw [hs, if_pos h1, if_pos h2, if_neg h3]
  · rw [hs, if_pos h1, if_neg h2]
  · rw [hs, if_neg h1]
theorem ps_204 {J164 : Int32 → Prop} {x13 : Int32} (he : z1 = z0) (hf : x13 = if x9 = 0 then -5 else x6) (K : J164 (x11 + 1)) : wL_lawOf_204 post mc ms J164 x4 x5 x6 x7 x8 x9 x10 x11 x13 z0 z1 kc ks tk 9 C H cm L a1 a2 a3 a4 a5 a6 a7 a8 a9 a10 := by
  unfold wL_lawOf_204
  refine br_t he (br_c (fun h1 => br_t ?_ (nm_e K)) (fun h1 => br_t ?_ (nm_e K)))
  · rw [hf, if_pos h1]
  · rw [hf, if_neg h1]
theorem ps_164 (hh : ∀ k, k < 8 → ps_hv C a1 a3 a6 a7 k = if x9 = 0 then 105 * x8 else x4) (hf : ∀ k, k < 8 → a5 k = if x9 = 0 then -5 else x6)
    (K : wL_lawOf_248 post mc ms x5 x6 x7 x8 x9 x10 (if x8 ≤ x6 + 1 then 0 else 1) kc ks tk 9 C H cm L a1 a2 a3 a4 a5 a6 a7 a8 a9 a10) : ∃ fu, wL_lawOf_164 post mc ms x4 x5 x6 x7 x8 x9 x10 kc ks tk 9 C H cm L a1 a2 a3 a4 a5 a6 a7 a8 a9 a10 fu 0 := by
  refine pk_loop (σ := Unit) (fun f i _ => wL_lawOf_164 post mc ms x4 x5 x6 x7 x8 x9 x10 kc ks tk 9 C H cm L a1 a2 a3 a4 a5 a6 a7 a8 a9 a10 f (nI i)) (fun _ _ => True) 8 0 () (by omega) trivial ?_ ?_
  · intro n _ _
    refine pk_le 8 8 (fun _ => br_c (fun h => ?_) (fun h => ?_)) (fun h => absurd h (by omega))
    · rw [if_pos h] at K
      exact K
    · rw [if_neg h] at K
      exact K
  · intro n i _ hi _ hw
    have hw' := hw () trivial
    refine pk_le 8 i (fun h => absurd h (by omega)) (fun _ => ps_had (by omega) (ps_finished (by omega) (br_c (fun h => ps_204 ?_ (hf i hi) ?_) (fun h => ps_204 ?_ (hf i hi) ?_))))
    · rw [hh i hi, if_pos h]
    · rw [nI_1]
      exact hw'
    · rw [hh i hi, if_neg h]
    · rw [nI_1]
      exact hw'
/-- all that the law asks behind the run -/
theorem ps_tail (he : z1 = z0) (ez : x11 = if x8 ≤ x6 + 1 then 0 else 1)
    (hh : ∀ k, k < 8 → ps_hv C a1 a3 a6 a7 k = if x9 = 0 then 105 * x8 else x4) (hf : ∀ k, k < 8 → a5 k = if x9 = 0 then -5 else x6)
    (hs8 : a3 8 = if x10 = 0 then (if x11 = 0 then (if x8 ≤ 0 then 0 else 1) else 2) else 3)
    (hh8 : ps_hv C a1 a3 a6 a7 8 = if x10 = 0 then (if x11 = 0 then 0 else 840 * ((x8 - x6) - 1)) else x5)
    (ha8 : a4 8 = if x11 = 0 then -5 else x6 + 1)
    (hf8 : a5 8 = if x10 = 0 then -5 else x7)
    (hH : H = if x10 = 0 then (if x11 = 0 then (if x9 = 0 then (if x8 ≤ 0 then 0 else 8) else 0) else 1) else 0)
    (hL : L = if x8 ≤ 0 then 0 else if x11 = 0 then 1 else 0) (hp : post 1 ()) : wL_lawOf_156 post mc ms x4 x5 x6 x7 x8 x9 x10 z0 z1 kc ks tk 9 C H cm L a1 a2 a3 a4 a5 a6 a7 a8 a9 a10 := by
  unfold wL_lawOf_156
  refine br_t he (ps_164 hh hf ?_)
  rw [← ez]
  exact ps_248 hs8 (fun _ _ h1 => ps_284 h1 hh8 (fun _ _ h2 => ps_325 h2 ha8 (fun _ _ h3 => ps_350 h3 hf8 (fun _ _ h4 => ps_373 h4 hH (fun _ _ h5 => ps_420 h5 hL hp)))))
end
end
section
section
variable {tk J : Int32} {C : Int64} {H cm L : Int32} {a1 a2 a3 a4 a5 a6 : Nat → Int32} {a7 : Nat → Int64} {a8 a9 a10 : Nat → Int32}
theorem ps_hvN {k : Nat} {v : Int32} (h : ¬ a3 k = 2) (e : a6 k = v) : ps_hv C a1 a3 a6 a7 k = v := by
  unfold ps_hv
  rw [if_neg h, e]
theorem ps_hvS {k s m c d : Nat} (h : a3 k = 2) (h1 : a1 k = nI s) (h7 : a7 k = lN m) (hs : s < 2 ^ 31) (hc : c ≤ m) (hd : m - c ≤ s) (e : s - (m - c) = d) : ps_hv (lN c) a1 a3 a6 a7 k = nI d := by
  unfold ps_hv
  rw [if_pos h, h1, h7, nI_l hs, lN_sub hc, lN_sub hd, lN_i, e]
theorem ps_127 {post : Int32 → St0 → Prop} {mc ms kc ks : Nat} {T s t E B : Nat} {x9 z0 : Int32} (hT : T < 512) (hs : s ≤ 16384) (ht : t ≤ 16384) (E1 : 105 * E < s) (E2 : s ≤ 105 * E + 105) (B1 : 840 * B < t) (B2 : t ≤ 840 * B + 840)
    (h9 : x9 = if T ≤ E then 0 else 1) (h0 : z0 = if T ≤ E + 1 + B then 0 else 1) (hp : post 1 ()) :
    wL_lawOf_127 post mc ms (nI s) (nI t) (nI E) (nI (E + 1 + B)) (nI T) x9 z0 kc ks 0 9 0 0 9 0 (ps_A1 s t 9) ps_Z ps_Z (ps_c3 9 9 (-5) (-5)) (ps_c3 9 9 (-5) (-5)) ps_Z (fun _ => 0) ps_Z (ps_Id 9) ps_Z := by
  have n10 : ¬ (1 : Int32) = 0 := by decide
  have D38 : ∀ k, k < 8 → ps_D3 8 k = 3 := fun k hk => if_pos hk
  have S38 : ∀ k, k < 8 → ps_c3 8 8 (nI s) (nI s) k = nI s := fun k hk => if_pos hk
  have F38 : ∀ k, k < 8 → ps_c3 8 9 (nI E) (-5) k = nI E := fun k hk => if_pos hk
  unfold wL_lawOf_127
  refine ps_run hT hs ht E1 E2 B1 B2 (fun h => ?_) (fun h g => ?_) (fun h => ?_) (fun h g tk => ?_) (fun h tk C => ?_)
  · -- nothing has run
    have e9 : x9 = 0 := by rw [h9, if_pos (by omega)]
    have e0 : z0 = 0 := by rw [h0, if_pos (by omega)]
    subst e9 e0 h
    have le : nI 0 ≤ 0 := Int32.le_refl 0
    refine br_t rfl (br_t rfl (ps_tail (x11 := 0) rfl ?_ (fun k hk => ?_) (fun k hk => ?_) ?_ ?_ rfl rfl ?_ ?_ hp))
    · rw [nI_1, if_pos (nI_le (by omega) (by omega))]
    · rw [if_pos rfl]
      exact ps_hvN (show ¬ (0 : Int32) = 2 by decide) rfl
    · rw [if_pos rfl]
      exact if_pos (by omega)
    · rw [if_pos rfl, if_pos rfl, if_pos le]
      rfl
    · rw [if_pos rfl, if_pos rfl]
      exact ps_hvN (by decide) rfl
    · rw [if_pos rfl, if_pos rfl, if_pos rfl, if_pos le]
    · rw [if_pos le]
  · -- the eight are served
    have e9 : x9 = 0 := by rw [h9, if_pos (by omega)]
    have e0 : z0 = 0 := by rw [h0, if_pos (by omega)]
    subst e9 e0
    have nle : ¬ nI T ≤ 0 := nI_nle h (by omega)
    refine br_t rfl (br_t rfl (ps_tail (x11 := 0) rfl ?_ (fun k hk => ?_) (fun k hk => ?_) ?_ ?_ rfl rfl ?_ ?_ hp))
    · rw [nI_1, if_pos (nI_le (by omega) (by omega))]
    · rw [if_pos rfl, show (105 : Int32) * nI T = nI (105 * T) from pk_mul 105 T]
      exact ps_hvS (s := s) (m := s) (if_pos hk) (ps_A1a hk) (ps_MkA hk) (by omega) (by omega) (by omega) (by omega)
    · rw [if_pos rfl]
      exact if_pos (by omega)
    · rw [if_pos rfl, if_pos rfl, if_neg nle]
      rfl
    · rw [if_pos rfl, if_pos rfl]
      exact ps_hvN (by decide) rfl
    · rw [if_pos rfl, if_pos rfl, if_pos rfl, if_neg nle]
    · rw [if_neg nle, if_pos rfl]
  · -- the eight are done, job 8 waits
    have e9 : x9 = 1 := by rw [h9, if_neg (by omega)]
    have e0 : z0 = 0 := by rw [h0, if_pos (by omega)]
    subst e9 e0
    have nle : ¬ nI T ≤ 0 := nI_nle (by omega) (by omega)
    refine br_t rfl (br_f n10 (ps_tail (x11 := 0) rfl ?_ (fun k hk => ?_) (fun k hk => ?_) ?_ ?_ rfl rfl ?_ ?_ hp))
    · rw [nI_1, if_pos (nI_le (by omega) (by omega))]
    · rw [if_neg n10]
      exact ps_hvN (by rw [D38 k hk]; decide) (S38 k hk)
    · rw [if_neg n10]
      exact F38 k hk
    · rw [if_pos rfl, if_pos rfl, if_neg nle]
      rfl
    · rw [if_pos rfl, if_pos rfl]
      exact ps_hvN (by decide) rfl
    · rw [if_pos rfl, if_pos rfl, if_neg n10]
    · rw [if_neg nle, if_pos rfl]
  · -- job 8 is served
    have e9 : x9 = 1 := by rw [h9, if_neg (by omega)]
    have e0 : z0 = 0 := by rw [h0, if_pos (by omega)]
    subst e9 e0
    have nle : ¬ nI T ≤ 0 := nI_nle (by omega) (by omega)
    refine br_t rfl (br_f n10 (ps_tail (x11 := 1) rfl ?_ (fun k hk => ?_) (fun k hk => ?_) ?_ ?_ ?_ rfl ?_ ?_ hp))
    · rw [nI_1, if_neg (nI_ge (by omega) (by omega))]
    · rw [if_neg n10]
      exact ps_hvN (by rw [pk_un (by omega), D38 k hk]; decide) (S38 k hk)
    · rw [if_neg n10]
      exact F38 k hk
    · rw [if_pos rfl, if_neg n10]
      rfl
    · rw [if_pos rfl, if_neg n10, pk_sub (by omega), show nI (T - E) - 1 = nI (T - E - 1) from pk_sub (b := 1) (by omega), show (840 : Int32) * nI (T - E - 1) = nI (840 * (T - E - 1)) from pk_mul 840 _]
      exact ps_hvS (s := t) (m := 105 * (E + 1) + t) rfl rfl (by rw [pk_uLs, lN_add]) (by omega) (by omega) (by omega) (by omega)
    · rw [if_neg n10, nI_1]
      rfl
    · rw [if_pos rfl, if_neg n10]
    · rw [if_neg nle, if_neg n10]
  · -- all are done
    have e9 : x9 = 1 := by rw [h9, if_neg (by omega)]
    have e0 : z0 = 1 := by rw [h0, if_neg (by omega)]
    subst e9 e0
    have nle : ¬ nI T ≤ 0 := nI_nle (by omega) (by omega)
    refine br_f n10 (ps_tail (x11 := 1) rfl ?_ (fun k hk => ?_) (fun k hk => ?_) ?_ ?_ ?_ ?_ ?_ ?_ hp)
    · rw [nI_1, if_neg (nI_ge (by omega) (by omega))]
    · rw [if_neg n10]
      exact ps_hvN (by rw [pk_un (by omega), pk_un (by omega), D38 k hk]; decide) (by rw [pk_un (by omega)]; exact S38 k hk)
    · rw [if_neg n10, pk_un (by omega)]
      exact F38 k hk
    · rw [if_neg n10]
      rfl
    · rw [if_neg n10]
      exact ps_hvN (by decide) rfl
    · rw [if_neg n10, nI_1]
      rfl
    · rw [if_neg n10]
      rfl
    · rw [if_neg n10]
    · rw [if_neg nle, if_neg n10]
end
theorem ps_113 {post : Int32 → St0 → Prop} {mc ms kc ks : Nat} {T s t E B : Nat} {x9 : Int32} (hT : T < 512) (hs : s ≤ 16384) (ht : t ≤ 16384) (E1 : 105 * E < s) (E2 : s ≤ 105 * E + 105) (B1 : 840 * B < t) (B2 : t ≤ 840 * B + 840)
    (h9 : x9 = if T ≤ E then 0 else 1) (hp : post 1 ()) :
    wL_lawOf_113 post mc ms (nI s) (nI t) (nI E) (nI (E + 1 + B)) (nI T) x9 kc ks 0 9 0 0 9 0 (ps_A1 s t 9) ps_Z ps_Z (ps_c3 9 9 (-5) (-5)) (ps_c3 9 9 (-5) (-5)) ps_Z (fun _ => 0) ps_Z (ps_Id 9) ps_Z := by
  unfold wL_lawOf_113
  exact pk_le T (E + 1 + B) (fun z => ps_127 hT hs ht E1 E2 B1 B2 h9 (by rw [if_pos z]) hp) (fun z => ps_127 hT hs ht E1 E2 B1 B2 h9 (by rw [if_neg (by omega)]) hp)
/-- the submits -/
theorem ps_29 {post : Int32 → St0 → Prop} {mc ms kc ks : Nat} {x2 : Int32} {a b : Nat} (ha : a < 16384) (hb : b < 16384) (hp : post 1 ()) :
    ∃ fu, wL_lawOf_29 post mc ms x2 (nI (a + 1)) (nI (b + 1)) kc ks fu 0 0 0 0 0 0 0 ps_Z ps_Z ps_Z ps_Z ps_Z ps_Z (fun _ => 0) ps_Z ps_Z ps_Z := by
  obtain ⟨T, hT, eT⟩ := pk_andE x2 (m := 511) 9 (by decide)
  have main : ∃ fu, wL_lawOf_29 post mc ms x2 (nI (a + 1)) (nI (b + 1)) kc ks fu (nI 0) 0 (nI 0) 0 0 (nI 0) 0 (ps_A1 (a + 1) (b + 1) 0) ps_Z ps_Z (ps_c3 0 0 (-5) (-5)) (ps_c3 0 0 (-5) (-5)) ps_Z (fun _ => 0) ps_Z (ps_Id 0) ps_Z := by
    refine pk_loop (σ := Unit) (fun f i _ => wL_lawOf_29 post mc ms x2 (nI (a + 1)) (nI (b + 1)) kc ks f (nI i) 0 (nI i) 0 0 (nI i) 0 (ps_A1 (a + 1) (b + 1) i) ps_Z ps_Z (ps_c3 i i (-5) (-5)) (ps_c3 i i (-5) (-5)) ps_Z (fun _ => 0) ps_Z (ps_Id i) ps_Z) (fun _ _ => True) 8 0 () (by omega) trivial ?_ ?_
    · intro n _ _
      refine pk_le 8 8 (fun _ => ps_submit (n := 8) (by omega) (by omega) (by omega) ?_) (fun h => absurd h (by omega))
      rw [ps_A1V]
      have e6 : (nI (a + 1) - 1) / 105 = nI (a / 105) := by
        rw [nI_pred]
        exact pk_div (d := 105) (by omega) (by omega) (by omega)
      have e7 : nI (a / 105) + 1 + (nI (b + 1) - 1) / 840 = nI (a / 105 + 1 + b / 840) := by
        rw [nI_pred, nI_1, show nI b / 840 = nI (b / 840) from pk_div (d := 840) (by omega) (by omega) (by omega), nI_add]
      exact br_t rfl ⟨by decide, nm_r e6 ⟨by decide, nm_r e7 (nm_r eT (pk_le T (a / 105) (fun z => ps_113 hT (by omega) (by omega) (by omega) (by omega) (by omega) (by omega) (by rw [if_pos z]) hp) (fun z => ps_113 hT (by omega) (by omega) (by omega) (by omega) (by omega) (by omega) (by rw [if_neg (by omega)]) hp)))⟩⟩
    · intro n i _ hi _ hw
      have hw' := hw () trivial
      refine pk_le 8 i (fun h => absurd h (by omega)) (fun _ => ps_submit (n := i) (by omega) (by omega) (by omega) (br_t rfl (nm_r (nI_1 i) ?_)))
      rw [ps_A1U _ _ _ hi]
      exact hw'
  rw [ps_A10, ps_c30, ps_Id0] at main
  exact main
theorem ps_lawOf {post : Int32 → St0 → Prop} {p0 p1 p2 : Int32} (hp : post 1 ()) : wpL_lawOf post 11 240 () p0 p1 p2 := by
  obtain ⟨a, ha, ea⟩ := pk_andE p0 (m := 16383) 14 (by decide)
  obtain ⟨b, hb, eb⟩ := pk_andE p1 (m := 16383) 14 (by decide)
  have e1 : ∀ c, (1 : Int32) + nI c = nI (c + 1) := fun c => (nI_add 1 c).trans (by rw [Nat.add_comm])
  refine ⟨by omega, by omega, 10, 224, by omega, by omega, ?_⟩
  refine ⟨by omega, by omega, by omega, by omega, by omega, by omega, by omega, by omega, by omega, by omega, by omega, by omega, by omega, by omega, by omega, by omega, by omega, by omega, by omega, by omega, ?_⟩
  exact nm_r (e' := nI (a + 1)) (by rw [ea, e1]) (nm_r (e' := nI (b + 1)) (by rw [eb, e1]) (ps_29 ha hb hp))
theorem ps_cell {post : Int32 → Prop} {L k : Nat} {xs : Nat → Int32} (hL : L ≤ 3) (hk : k < 2 ^ 31) (hp : ∀ r, post r) : wpL_cellAt post L xs () (nI k) :=
  pk_le L k (fun _ => hp _) (fun h => ⟨pk_in k L h, hp _⟩)
theorem i_vc (xs : Nat → Int32) (L : Nat) (hL : L ≤ 3) : wpL_law (fun r => r = 1) L xs := by
  refine ps_cell (k := 0) hL (by omega) (fun r1 => ps_cell (k := 1) hL (by omega) (fun r2 => ps_cell (k := 2) hL (by omega) (fun r3 => ⟨11, 240, by omega, by omega, ps_lawOf rfl⟩)))
end
