section
section
def bg_nb (ts : List Nat) (k l : Nat) : Bool :=
  (List.range ts.length).all (fun m => m == k || m == l || !((ts.getD m 0 &&& (ts.getD k 0 &&& ts.getD l 0)) == (ts.getD k 0 &&& ts.getD l 0)))
/-- the tight bits behind one more choice o: ts the bits, ss the signs of the slacks (0: below, 1: zero, 2: above) -/
def bg_cs (o : Nat) (ts ss : List Nat) : List Nat :=
  ((ts.zip ss).filterMap (fun p => bif p.2 == 0 then none else some (bif p.2 == 1 then p.1 ||| 2 ^ (3 + o) else p.1))) ++
  (List.range ts.length).flatMap (fun k => (List.range ts.length).filterMap (fun l =>
    bif ss.getD k 1 == 2 && (ss.getD l 1 == 0 && bg_nb ts k l) then some ((ts.getD k 0 &&& ts.getD l 0) ||| 2 ^ (3 + o)) else none))
def bg_sigs (own : Nat) : List Nat → List (List Nat)
  | [] => [[]]
  | t :: ts => (bif t == own then [2] else [0, 1, 2]).flatMap (fun s => (bg_sigs own ts).map (fun r => s :: r))
def bg_chk (own : Nat) (P : List Nat → List Nat → Bool) : List Nat → List Nat → Bool
  | [], ts => P [] ts
  | o :: os, ts => P (o :: os) ts && (bg_sigs own ts).all (fun ss => bg_chk own P os (bg_cs o ts ss))
def bg_os (n : Nat) : List Nat := [0, 1, 2].filter (fun o => n.testBit o)
def bg_it (own start : Nat) : List Nat := (bg_os own).map (fun c => (own ^^^ 2 ^ c) ||| 2 ^ (3 + start)) ++ [own]
/-- all that a list of tight bits must be -/
def bg_ok (own : Nat) (ts : List Nat) : Bool :=
  Nat.ble ts.length 10 && Nat.ble (ts.filter (fun t => !(t == own))).length 9 &&
  (List.range 3).all (fun c => !(own.testBit c) || ts.any (fun t => (t &&& 7) == (own ^^^ 2 ^ c))) &&
  (List.range 6).all (fun i => Nat.ble (ts.filter (fun t => !(t == own) && t.testBit i)).length 7)
/-- the sets inside t, as a mask of 64 places -/
def bg_dn (t : Nat) : Nat := (List.range 6).foldl (fun d i => bif t.testBit i then d ||| (d <<< (2 ^ i)) else d) 1
def bg_D (own : Nat) (ts : List Nat) : Nat := ts.foldl (fun d t => bif t == own then d else d ||| bg_dn t) 0
def bg_tab11 : List Nat := [256]
def bg_tab13 : List Nat := [256, 65536]
def bg_tab17 : List Nat := [256, 65536, 4294967296]
def bg_tab31 : List Nat := [1536]
def bg_tab33 : List Nat := [1536, 393216, 16909312, 17039872]
def bg_tab37 : List Nat := [1536, 393216, 16909312, 17039872, 25769803776, 1108101563392, 1108118601728, 1116691497472, 1116708405248, 281483566907392, 281483583423488, 281492156710912, 281492173357568, 282574488470528, 282574488601088, 282600274919424]
def bg_tab71 : List Nat := [26624]
def bg_tab73 : List Nat := [26624, 6815744, 101212160, 106956800, 304105472, 306716672, 338182144, 339748864]
def bg_tab77 : List Nat := [26624, 6815744, 101212160, 106956800, 304105472, 306716672, 338182144, 339748864, 446676598784, 6631429529600, 6631536459776, 6631733608448, 6631769251840, 7009386629120, 7009487814656, 19928648271872, 19928749457408, 19928954961920, 19928987994112, 20100446953472, 20100751032320, 22162031263744, 22162370985984, 22265110472704, 22265211658240, 22265414551552, 22265448628224, 1688884226293760, 1688884320690176, 1688884526194688, 1688884557660160, 1689262177648640, 1689262277789696, 1695446930579456, 1695446936324096, 1695893707292672, 1708812968935424, 1708813174439936, 1708915948003328, 1710977532313600, 1711149431136256, 1711149668106240, 5066687024463872, 5066687124604928, 5066687321753600, 5066687355830272, 5066858820534272, 5066859120435200, 5073318554107904, 5073318751256576, 5073421530564608, 5086340792207360, 5086340794818560, 5086787768680448, 5088574175199232, 5088952432199680, 5088952466276352, 5629671337099264, 5629671668465664, 5629774414741504, 5629774514882560, 5629774714642432, 5629774747674624, 5636234047129600, 5636405944385536, 5636406177177600, 5649325107453952, 5649703362887680, 5649703395919872, 5651489769406464, 5651489770973184, 5651936778911744, 72622743082262528, 72622743088007168, 72622743285155840, 72622743287767040, 72623189724758016, 72624976431177728, 72624976470999040, 72624976668147712, 72625354388277248, 72625354422353920, 72638273649920000, 72638273683996672, 72638273889501184, 72638445448601600, 72638445685571584, 72644905079422976, 72645008192708608, 72645008395601920, 73185727367610368, 73185727394897920, 73185727600402432, 73186105318965248, 73186105351997440, 73187892025384960, 73187892031129600, 73187892262354944, 73187892263921664, 73188338734989312, 73201257996632064, 73201258202136576, 73201361042808832, 73201361075841024, 73201361279778816, 73207820673630208, 73207820912166912, 73207992505344000, 76563530165780480, 76563530198812672, 76563530395961344, 76563701961850880, 76563702194642944, 76565763581804544, 76565763778953216, 76565866625370112, 76565866659446784, 76565866858162176, 76578785887012864, 76578785889624064, 76578785921089536, 76578785922656256, 76579232796377088, 76585417316515840, 76585417352159232, 76585795506407424, 78252414385258496, 78252517495932928, 78252517695692800, 78254579048777728, 78254579280003072, 78254750878924800, 78267670109102080, 78267670140567552, 78268048297426944]
def bg_tab (own other : Nat) : List Nat :=
  bif own == 1 && other == 1 then bg_tab11 else
  bif own == 1 && other == 3 then bg_tab13 else
  bif own == 1 && other == 7 then bg_tab17 else
  bif own == 3 && other == 1 then bg_tab31 else
  bif own == 3 && other == 3 then bg_tab33 else
  bif own == 3 && other == 7 then bg_tab37 else
  bif own == 7 && other == 1 then bg_tab71 else
  bif own == 7 && other == 3 then bg_tab73 else
  bif own == 7 && other == 7 then bg_tab77 else
  []
def bg_tabW11 : List Nat := [256]
def bg_tabW13 : List Nat := [65792]
def bg_tabW17 : List Nat := [4295033088]
def bg_tabW31 : List Nat := [1024, 512]
def bg_tabW33 : List Nat := [263168, 131584, 16909312, 17039872]
def bg_tabW37 : List Nat := [17180132352, 8590066176, 282583078536192, 282591668339200, 281492173489152, 281483583685120, 1108118471680, 1116708536832]
def bg_tabW71 : List Nat := [16384, 8192, 2048]
def bg_tabW73 : List Nat := [4210688, 2105344, 270548992, 272637952, 526336, 67649536, 336076800, 71305216, 337643520, 34086912, 302530560, 35653632, 306186240, 102776832, 104865792, 369625088]
def bg_tabW77 : List Nat := [274882117632, 137441058816, 4521329256579072, 4521466693427200, 4503874775826432, 4503737338961920, 17729895546880, 17867336589312, 34360264704, 1130332317302784, 5651524128612352, 5633932211011584, 1147924771774464, 1130572831787008, 5651627206248448, 1126174852399104, 5647229226860544, 5629637309243392, 1143767306870784, 1125934337886208, 5629534231595008, 4432473899008, 22024928370688, 4672995723264, 4525727370184704, 4508272889432064, 22128009152512, 565183338520576, 5086375154040832, 5068783236423680, 582775793008640, 565286416156672, 5086615668525056, 1695584373194752, 1695721810042880, 6216673103710208, 6212275124322304, 6194683206705152, 1691186393778176, 569684529790976, 5090773267646464, 587173906614272, 563087426461696, 5084416678830080, 5066824761229312, 580679880949760, 562984348813312, 5066584246716416, 6214474114015232, 6196882196414464, 1693522820335616, 1689124840947712, 1688987404083200, 6192484216997888, 567382462447616, 5071222874834944, 585077994555392, 2233417080832, 19825871568896, 2336497862656, 4523665750231040, 4505936395765760, 20066393393152, 1132771888603136, 5653723185416192, 1150123828578304, 1128133394702336, 5631836366047232, 1145966363674624, 6734611496960, 6872052539392, 24223985174528, 73764173527400448, 73764310964248576, 73746719046647808, 73746581609783296, 78250077885827072, 77128576029179904, 72642568585748480, 72624976668147712, 77128816543664128, 72642671663384576, 77124418564276224, 72638273683996672, 72620681766379520, 77124178049763328, 72620578688731136, 78254475999461376, 73768571641006080, 73751117160253440, 77689326957240320, 73203319518019584, 73185727600402432, 77689430034876416, 73203560032503808, 76567928178229248, 76568065615077376, 72064328817197056, 72064466258239488, 72081817654003712, 72077419674615808, 72059827756998656, 76563530198812672, 72077660196440064, 72059930837780480, 77693828148510720, 73190366228520960, 73207717631625216, 77687231045181440, 73201361042808832, 73183769125208064, 77687127967533056, 73183528610695168, 72079618664308736, 72062026746707968, 76565866625370112, 72079721745090560, 72062267268532224, 76561468645982208, 76561331209117696, 72075323765702656, 72075461206745088, 72057628767291392, 77691526081167360, 73205518641930240, 73188167238813696, 78252276942643200, 73766510021052416, 73748780666587136, 77131015600480256, 72627278802599936, 72644767642552320, 77126377106579456, 72640369663164416, 72622880823183360]
def bg_tabW (own other : Nat) : List Nat :=
  bif own == 1 && other == 1 then bg_tabW11 else
  bif own == 1 && other == 3 then bg_tabW13 else
  bif own == 1 && other == 7 then bg_tabW17 else
  bif own == 3 && other == 1 then bg_tabW31 else
  bif own == 3 && other == 3 then bg_tabW33 else
  bif own == 3 && other == 7 then bg_tabW37 else
  bif own == 7 && other == 1 then bg_tabW71 else
  bif own == 7 && other == 3 then bg_tabW73 else
  bif own == 7 && other == 7 then bg_tabW77 else
  []

def bg_full (own other : Nat) : Bool := (own == 1 || own == 3 || own == 7) && (other == 1 || other == 3 || other == 7)
def bg_P (own other : Nat) (os ts : List Nat) : Bool :=
  bg_ok own ts && (bif bg_full own other && os.isEmpty then (bg_tab own other).any (fun F => (F &&& bg_D own ts) == F) else true)
theorem bg_run_all : (List.range 8).all (fun own => (List.range 8).all (fun other => own == 0 || other == 0 || bg_chk own (bg_P own other) (bg_os other).tail (bg_it own ((bg_os other).headD 0)))) = true := by
  decide +kernel
theorem bg_run {own other : Nat} (h1 : 0 < own) (h2 : own < 8) (h3 : 0 < other) (h4 : other < 8) :
    bg_chk own (bg_P own other) (bg_os other).tail (bg_it own ((bg_os other).headD 0)) = true := by
  have h := List.all_eq_true.mp (List.all_eq_true.mp bg_run_all own (List.mem_range.mpr h2)) other (List.mem_range.mpr h4)
  simp only [Bool.or_eq_true, beq_iff_eq] at h
  rcases h with (h | h) | h
  · omega
  · omega
  · exact h
end
end
section
section
def bg_fit (x y R C : Nat) : Bool := ((x ||| (y >>> 3)) &&& R) == R && ((y ||| (x >>> 3)) &&& C) == C
def bg_sw (U : Nat) : Nat := (U >>> 3) ||| ((U &&& 7) <<< 3)
def bg_cw (full G : Nat) : Nat := (List.range 64).foldl (fun r U => bif G.testBit U then r ||| 2 ^ (full ^^^ bg_sw U) else r) 0
theorem bg_pairs_all : [1, 3, 7].all (fun own => [1, 3, 7].all (fun other => (bg_tab own other).all (fun F => (bg_tabW own other).all (fun G => !((F &&& G) == 0))))) = true := by
  decide +kernel
theorem bg_tabW_all : [1, 3, 7].all (fun own => [1, 3, 7].all (fun other => bg_tabW own other == (bg_tab other own).map (bg_cw (own ||| (other <<< 3))))) = true := by
  decide +kernel
theorem bg_tabL_all : [1, 3, 7].all (fun own => [1, 3, 7].all (fun other => (bg_tab own other).all (fun F => Nat.ble F (2 ^ 64 - 1)))) = true := by
  decide +kernel
theorem bg_fitT_all : [1, 3, 7].all (fun own => [1, 3, 7].all (fun other => (List.range 64).all (fun U => bg_fit ((own ||| (other <<< 3)) ^^^ bg_sw U) U own other))) = true := by
  decide +kernel
theorem bg_dn_all : (List.range 64).all (fun t => (List.range 64).all (fun T => (bg_dn t).testBit T == ((T &&& t) == T))) = true := by
  decide +kernel
theorem bg_dn_bit {t T : Nat} (ht : t < 64) (hT : T < 64) (h : (bg_dn t).testBit T = true) : T &&& t = T := by
  have h1 := List.all_eq_true.mp (List.all_eq_true.mp bg_dn_all t (List.mem_range.mpr ht)) T (List.mem_range.mpr hT)
  rw [h] at h1
  simpa using h1
theorem bg_cw_fold {full G T : Nat} : ∀ (l : List Nat) (r : Nat), (l.foldl (fun r U => bif G.testBit U then r ||| 2 ^ (full ^^^ bg_sw U) else r) r).testBit T = true →
    r.testBit T = true ∨ ∃ U, U ∈ l ∧ G.testBit U = true ∧ T = full ^^^ bg_sw U := by
  intro l
  induction l with
  | nil => intro r h; exact Or.inl h
  | cons U l ih =>
    intro r h
    rw [List.foldl_cons] at h
    rcases ih _ h with h1 | ⟨V, hV, h2, h3⟩
    · cases hg : G.testBit U with
      | false => rw [hg] at h1; exact Or.inl h1
      | true =>
        rw [hg, cond_true, Nat.testBit_or, Bool.or_eq_true] at h1
        rcases h1 with h1 | h1
        · exact Or.inl h1
        · rw [Nat.testBit_two_pow] at h1
          have h1' := of_decide_eq_true h1
          exact Or.inr ⟨U, List.mem_cons_self, hg, h1'.symm⟩
    · exact Or.inr ⟨V, List.mem_cons_of_mem _ hV, h2, h3⟩
theorem bg_D_fold {own T : Nat} : ∀ (l : List Nat) (d : Nat), (l.foldl (fun d t => bif t == own then d else d ||| bg_dn t) d).testBit T = true →
    d.testBit T = true ∨ ∃ t, t ∈ l ∧ t ≠ own ∧ (bg_dn t).testBit T = true := by
  intro l
  induction l with
  | nil => intro r h; exact Or.inl h
  | cons U l ih =>
    intro r h
    rw [List.foldl_cons] at h
    rcases ih _ h with h1 | ⟨V, hV, h2, h3⟩
    · cases hg : U == own with
      | true => rw [hg] at h1; exact Or.inl h1
      | false =>
        rw [hg, cond_false, Nat.testBit_or, Bool.or_eq_true] at h1
        rcases h1 with h1 | h1
        · exact Or.inl h1
        · exact Or.inr ⟨U, List.mem_cons_self, by simpa using hg, h1⟩
    · exact Or.inr ⟨V, List.mem_cons_of_mem _ hV, h2, h3⟩
theorem bg_sub_bit {T t i : Nat} (h : T &&& t = T) (hi : T.testBit i = true) : t.testBit i = true := by
  rw [← h, Nat.testBit_and, Bool.and_eq_true] at hi
  exact hi.2
theorem bg_cov {a b R : Nat} (h : a &&& R = R) (hs : ∀ i, a.testBit i = true → b.testBit i = true) : b &&& R = R := by
  apply Nat.eq_of_testBit_eq
  intro i
  rw [Nat.testBit_and]
  cases hR : R.testBit i with
  | false => simp
  | true =>
    have h1 : (a &&& R).testBit i = true := by rw [h]; exact hR
    rw [Nat.testBit_and, Bool.and_eq_true] at h1
    rw [hs i h1.1]
    rfl
theorem bg_fit_mono {T U t u R C : Nat} (h : bg_fit T U R C = true) (hT : T &&& t = T) (hU : U &&& u = U) : bg_fit t u R C = true := by
  unfold bg_fit at h ⊢
  rw [Bool.and_eq_true, beq_iff_eq, beq_iff_eq] at h ⊢
  refine ⟨bg_cov h.1 (fun i hi => ?_), bg_cov h.2 (fun i hi => ?_)⟩
  · rw [Nat.testBit_or, Bool.or_eq_true] at hi ⊢
    rw [Nat.testBit_shiftRight] at hi ⊢
    rcases hi with hi | hi
    · exact Or.inl (bg_sub_bit hT hi)
    · exact Or.inr (bg_sub_bit hU hi)
  · rw [Nat.testBit_or, Bool.or_eq_true] at hi ⊢
    rw [Nat.testBit_shiftRight] at hi ⊢
    rcases hi with hi | hi
    · exact Or.inl (bg_sub_bit hU hi)
    · exact Or.inr (bg_sub_bit hT hi)
theorem bg_full_mem {own other : Nat} (h : bg_full own other = true) : own ∈ [1, 3, 7] ∧ other ∈ [1, 3, 7] := by
  unfold bg_full at h
  simp only [Bool.and_eq_true, Bool.or_eq_true, beq_iff_eq] at h
  obtain ⟨h1, h2⟩ := h
  constructor
  · rcases h1 with (h1 | h1) | h1 <;> subst h1 <;> decide
  · rcases h2 with (h2 | h2) | h2 <;> subst h2 <;> decide
theorem bg_full_sw {own other : Nat} (h : bg_full own other = true) : bg_full other own = true := by
  unfold bg_full at h ⊢
  rw [Bool.and_comm]
  exact h
theorem bg_P_tab {own other : Nat} {ts : List Nat} (hf : bg_full own other = true) (h : bg_P own other [] ts = true) : ∃ F, F ∈ bg_tab own other ∧ F &&& bg_D own ts = F := by
  unfold bg_P at h
  rw [hf, Bool.and_eq_true] at h
  have h2 := h.2
  simp only [List.isEmpty_nil, Bool.and_true, cond_true, List.any_eq_true, beq_iff_eq] at h2
  exact h2
theorem bg_exists_fit {own other : Nat} {ts us : List Nat} (hf : bg_full own other = true) (h1 : bg_P own other [] ts = true) (h2 : bg_P other own [] us = true)
    (ht : ∀ t, t ∈ ts → t < 64) (hu : ∀ t, t ∈ us → t < 64) : ∃ t, t ∈ ts ∧ t ≠ own ∧ ∃ u, u ∈ us ∧ u ≠ other ∧ bg_fit t u own other = true := by
  obtain ⟨F, hF, eF⟩ := bg_P_tab hf h1
  obtain ⟨G, hG, eG⟩ := bg_P_tab (bg_full_sw hf) h2
  obtain ⟨mo, mt⟩ := bg_full_mem hf
  have hW : bg_cw (own ||| (other <<< 3)) G ∈ bg_tabW own other := by
    have h := List.all_eq_true.mp (List.all_eq_true.mp bg_tabW_all own mo) other mt
    rw [beq_iff_eq] at h
    rw [h]
    exact List.mem_map.mpr ⟨G, hG, rfl⟩
  have hp := List.all_eq_true.mp (List.all_eq_true.mp (List.all_eq_true.mp (List.all_eq_true.mp bg_pairs_all own mo) other mt) F hF) _ hW
  have hne : F &&& bg_cw (own ||| (other <<< 3)) G ≠ 0 := by
    intro z
    rw [z] at hp
    exact absurd hp (by decide)
  obtain ⟨T, hT⟩ := Nat.exists_testBit_of_ne_zero hne
  rw [Nat.testBit_and, Bool.and_eq_true] at hT
  have hFl := List.all_eq_true.mp (List.all_eq_true.mp (List.all_eq_true.mp bg_tabL_all own mo) other mt) F hF
  have hT64 : T < 64 := by
    rcases Nat.lt_or_ge T 64 with z | z
    · exact z
    · have hF2 : F < 2 ^ T := Nat.lt_of_lt_of_le (show F < 2 ^ 64 from by have := Nat.le_of_ble_eq_true hFl; omega) (Nat.pow_le_pow_right (by omega) z)
      rw [Nat.testBit_lt_two_pow hF2] at hT
      exact absurd hT.1 (by decide)
  have hD : (bg_D own ts).testBit T = true := by
    have h := hT.1
    rw [← eF, Nat.testBit_and, Bool.and_eq_true] at h
    exact h.2
  rcases bg_D_fold ts 0 hD with h | ⟨t, htm, hto, htT⟩
  · rw [Nat.zero_testBit] at h; exact absurd h (by decide)
  rcases bg_cw_fold (List.range 64) 0 hT.2 with h | ⟨U, hU, hGU, eT⟩
  · rw [Nat.zero_testBit] at h; exact absurd h (by decide)
  have hU64 := List.mem_range.mp hU
  have hD2 : (bg_D other us).testBit U = true := by
    rw [← eG, Nat.testBit_and, Bool.and_eq_true] at hGU
    exact hGU.2
  rcases bg_D_fold us 0 hD2 with h | ⟨u, hum, huo, huU⟩
  · rw [Nat.zero_testBit] at h; exact absurd h (by decide)
  have hfT : bg_fit T U own other = true := by
    rw [eT]
    exact List.all_eq_true.mp (List.all_eq_true.mp (List.all_eq_true.mp bg_fitT_all own mo) other mt) U hU
  exact ⟨t, htm, hto, u, hum, huo, bg_fit_mono hfT (bg_dn_bit (ht t htm) hT64 htT) (bg_dn_bit (hu u hum) hU64 huU)⟩
end
end
section
section
abbrev bg_Ray : Type := (Nat → Nat) × Nat
def bg_dot (l : Nat → Nat → Nat) (o : Nat) (x : Nat → Nat) : Nat := x 0 * l 0 o + x 1 * l 1 o + x 2 * l 2 o
def bg_slk (l : Nat → Nat → Nat) (o : Nat) (r : bg_Ray) : Int := (r.1 3 : Int) - (bg_dot l o r.1 : Int)
def bg_sg (z : Int) : Nat := if z < 0 then 0 else if z = 0 then 1 else 2
def bg_gk (m : Nat → Nat) : Nat → Nat
  | 0 => 0
  | k + 1 => Nat.gcd (bg_gk m k) (m k)
def bg_mix (a : Nat) (x : Nat → Nat) (b : Nat) (y : Nat → Nat) : Nat → Nat := fun i => x i * a + y i * b
def bg_cm (l : Nat → Nat → Nat) (o : Nat) (p q : bg_Ray) : Nat → Nat := bg_mix (-(bg_slk l o q)).toNat p.1 (bg_slk l o p).toNat q.1
def bg_cr (l : Nat → Nat → Nat) (o : Nat) (p q : bg_Ray) : bg_Ray := (fun i => bg_cm l o p q i / bg_gk (bg_cm l o p q) 4, (p.2 &&& q.2) ||| 2 ^ (3 + o))
def bg_d0 : bg_Ray := (fun _ => 0, 0)
def bg_kp (l : Nat → Nat → Nat) (o : Nat) (r : bg_Ray) : Option bg_Ray := if bg_slk l o r < 0 then none else some (r.1, if bg_slk l o r = 0 then r.2 ||| 2 ^ (3 + o) else r.2)
def bg_cx (l : Nat → Nat → Nat) (o : Nat) (R : List bg_Ray) (k j : Nat) : Option bg_Ray :=
  if 0 < bg_slk l o (R.getD k bg_d0) ∧ bg_slk l o (R.getD j bg_d0) < 0 ∧ bg_nb (R.map (fun r => r.2)) k j = true then some (bg_cr l o (R.getD k bg_d0) (R.getD j bg_d0)) else none
def bg_step (l : Nat → Nat → Nat) (o : Nat) (R : List bg_Ray) : List bg_Ray :=
  R.filterMap (bg_kp l o) ++ (List.range R.length).flatMap (fun k => (List.range R.length).filterMap (bg_cx l o R k))
theorem bg_sg0 (z : Int) : (bg_sg z == 0) = decide (z < 0) := by
  unfold bg_sg
  by_cases h : z < 0
  · simp [h]
  · by_cases h2 : z = 0 <;> simp [h, h2]
theorem bg_sg1 (z : Int) : (bg_sg z == 1) = decide (z = 0) := by
  unfold bg_sg
  by_cases h : z < 0
  · have : ¬ z = 0 := by omega
    simp [h, this]
  · by_cases h2 : z = 0 <;> simp [h, h2]
theorem bg_sg2 (z : Int) : (bg_sg z == 2) = decide (0 < z) := by
  unfold bg_sg
  by_cases h : z < 0
  · have : ¬ 0 < z := by omega
    simp [h, this]
  · by_cases h2 : z = 0
    · simp [h2]
    · have : 0 < z := by omega
      simp [h, h2, this]
theorem bg_getD_map {α β : Type} (f : α → β) (l : List α) (k : Nat) (d : α) : (l.map f).getD k (f d) = f (l.getD k d) := by
  rw [List.getD_eq_getElem?_getD, List.getD_eq_getElem?_getD, List.getElem?_map]
  cases l[k]? <;> rfl
theorem bg_slk_d0 (l : Nat → Nat → Nat) (o : Nat) : bg_slk l o bg_d0 = 0 := by
  simp [bg_slk, bg_dot, bg_d0]
theorem bg_step_t (l : Nat → Nat → Nat) (o : Nat) (R : List bg_Ray) :
    (bg_step l o R).map (fun r => r.2) = bg_cs o (R.map (fun r => r.2)) (R.map (fun r => bg_sg (bg_slk l o r))) := by
  unfold bg_step bg_cs
  rw [List.map_append]
  congr 1
  · rw [List.zip_map', List.filterMap_map, List.map_filterMap]
    congr 1
    funext r
    show Option.map (fun r => r.2) (bg_kp l o r) = _
    simp only [Function.comp, bg_sg0, bg_sg1, bg_kp]
    by_cases h : bg_slk l o r < 0
    · simp [h]
    · by_cases h2 : bg_slk l o r = 0
      · simp [h2]
      · simp [h, h2]
  · rw [List.map_flatMap, List.length_map]
    congr 1
    funext k
    rw [List.map_filterMap]
    congr 1
    funext j
    have e1 : (List.map (fun r => bg_sg (bg_slk l o r)) R).getD k 1 = bg_sg (bg_slk l o (R.getD k bg_d0)) := by
      rw [← bg_getD_map (fun r => bg_sg (bg_slk l o r)) R k bg_d0, bg_slk_d0]
      rfl
    have e2 : (List.map (fun r => bg_sg (bg_slk l o r)) R).getD j 1 = bg_sg (bg_slk l o (R.getD j bg_d0)) := by
      rw [← bg_getD_map (fun r => bg_sg (bg_slk l o r)) R j bg_d0, bg_slk_d0]
      rfl
    have e3 : (List.map (fun r : bg_Ray => r.2) R).getD k 0 = (R.getD k bg_d0).2 := bg_getD_map (fun r : bg_Ray => r.2) R k bg_d0
    have e4 : (List.map (fun r : bg_Ray => r.2) R).getD j 0 = (R.getD j bg_d0).2 := bg_getD_map (fun r : bg_Ray => r.2) R j bg_d0
    rw [e1, e2, e3, e4, bg_sg0, bg_sg2]
    unfold bg_cx
    generalize R.getD k bg_d0 = p
    generalize R.getD j bg_d0 = q
    generalize bg_nb (R.map (fun r => r.2)) k j = b
    by_cases h : 0 < bg_slk l o p
    · by_cases h2 : bg_slk l o q < 0
      · cases b with
        | true => simp [h, h2, bg_cr]
        | false => simp [h, h2]
      · simp [h2]
    · simp [h]
theorem bg_sigs_mem (own : Nat) : ∀ (R : List (Nat × Nat)), (∀ r, r ∈ R → r.2 < 3 ∧ (r.1 = own → r.2 = 2)) → R.map (fun r => r.2) ∈ bg_sigs own (R.map (fun r => r.1)) := by
  intro R
  induction R with
  | nil => intro _; simp [bg_sigs]
  | cons r R ih =>
    intro h
    have h1 := h r List.mem_cons_self
    have h2 := ih (fun s hs => h s (List.mem_cons_of_mem _ hs))
    show r.2 :: R.map (fun r => r.2) ∈ bg_sigs own (r.1 :: R.map (fun r => r.1))
    unfold bg_sigs
    rw [List.mem_flatMap]
    refine ⟨r.2, ?_, List.mem_map.mpr ⟨_, h2, rfl⟩⟩
    by_cases e : r.1 = own
    · rw [h1.2 e]
      simp [e]
    · have : (r.1 == own) = false := by simpa using e
      rw [this]
      have h3 := h1.1
      generalize r.2 = s at h3
      match s, h3 with
      | 0, _ => simp
      | 1, _ => simp
      | 2, _ => simp
theorem bg_chk_step {own : Nat} {P : List Nat → List Nat → Bool} {o : Nat} {os : List Nat} {l : Nat → Nat → Nat} {R : List bg_Ray}
    (h : bg_chk own P (o :: os) (R.map (fun r => r.2)) = true) (hp : ∀ r, r ∈ R → r.2 = own → 0 < bg_slk l o r) :
    bg_chk own P os ((bg_step l o R).map (fun r => r.2)) = true := by
  unfold bg_chk at h
  rw [Bool.and_eq_true] at h
  rw [bg_step_t]
  have hm := bg_sigs_mem own (R.map (fun r => (r.2, bg_sg (bg_slk l o r)))) (by
    intro r hr
    obtain ⟨s, hs, rfl⟩ := List.mem_map.mp hr
    refine ⟨?_, fun e => ?_⟩
    · show bg_sg _ < 3
      unfold bg_sg
      split
      · omega
      · split <;> omega
    · have h2 := hp s hs e
      show bg_sg _ = 2
      unfold bg_sg
      rw [if_neg (by omega), if_neg (by omega)])
  rw [List.map_map, List.map_map] at hm
  exact List.all_eq_true.mp h.2 _ hm
theorem bg_chk_P {own : Nat} {P : List Nat → List Nat → Bool} {os ts : List Nat} (h : bg_chk own P os ts = true) : P os ts = true := by
  cases os with
  | nil => exact h
  | cons o os =>
    unfold bg_chk at h
    rw [Bool.and_eq_true] at h
    exact h.1
theorem bg_step_mem {l : Nat → Nat → Nat} {o : Nat} {R : List bg_Ray} {r : bg_Ray} (h : r ∈ bg_step l o R) :
    (∃ s, s ∈ R ∧ 0 ≤ bg_slk l o s ∧ r = (s.1, if bg_slk l o s = 0 then s.2 ||| 2 ^ (3 + o) else s.2)) ∨
    (∃ p, p ∈ R ∧ ∃ q, q ∈ R ∧ 0 < bg_slk l o p ∧ bg_slk l o q < 0 ∧ r = bg_cr l o p q) := by
  unfold bg_step at h
  rw [List.mem_append] at h
  rcases h with h | h
  · left
    obtain ⟨s, hs, e⟩ := List.mem_filterMap.mp h
    unfold bg_kp at e
    split at e
    · exact absurd e (by simp)
    · rename_i hn
      exact ⟨s, hs, by omega, (Option.some.inj e).symm⟩
  · right
    obtain ⟨k, hk, h⟩ := List.mem_flatMap.mp h
    obtain ⟨j, hj, e⟩ := List.mem_filterMap.mp h
    have hk := List.mem_range.mp hk
    have hj := List.mem_range.mp hj
    unfold bg_cx at e
    split at e
    · rename_i hc
      have mem : ∀ k, k < R.length → R.getD k bg_d0 ∈ R := by
        intro k hk
        rw [List.getD_eq_getElem?_getD, List.getElem?_eq_getElem hk]
        exact List.getElem_mem hk
      exact ⟨_, mem k hk, _, mem j hj, hc.1, hc.2.1, (Option.some.inj e).symm⟩
    · exact absurd e (by simp)
end
end
section
section
theorem bg_gk_dvd (m : Nat → Nat) : ∀ n i, i < n → bg_gk m n ∣ m i := by
  intro n
  induction n with
  | zero => intro i h; omega
  | succ n ih =>
    intro i h
    show Nat.gcd (bg_gk m n) (m n) ∣ m i
    by_cases e : i = n
    · rw [e]; exact Nat.gcd_dvd_right _ _
    · exact Nat.dvd_trans (Nat.gcd_dvd_left _ _) (ih i (by omega))
theorem bg_dvd_gk (m : Nat → Nat) (d : Nat) : ∀ n, (∀ i, i < n → d ∣ m i) → d ∣ bg_gk m n := by
  intro n
  induction n with
  | zero => intro _; exact Nat.dvd_zero d
  | succ n ih =>
    intro h
    exact Nat.dvd_gcd (ih (fun i hi => h i (by omega))) (h n (by omega))
theorem bg_gk_mul (m r : Nat → Nat) (g : Nat) : ∀ n, (∀ i, i < n → m i = g * r i) → bg_gk m n = g * bg_gk r n := by
  intro n
  induction n with
  | zero => intro _; rfl
  | succ n ih =>
    intro h
    show Nat.gcd (bg_gk m n) (m n) = g * Nat.gcd (bg_gk r n) (r n)
    rw [ih (fun i hi => h i (by omega)), h n (by omega), Nat.gcd_mul_left]
theorem bg_gk_div (m : Nat → Nat) (n : Nat) (h : 0 < bg_gk m n) : bg_gk (fun i => m i / bg_gk m n) n = 1 := by
  have h1 : bg_gk m n = bg_gk m n * bg_gk (fun i => m i / bg_gk m n) n :=
    bg_gk_mul m (fun i => m i / bg_gk m n) (bg_gk m n) n (fun i hi => (Nat.mul_div_cancel' (bg_gk_dvd m n i hi)).symm)
  have h2 : bg_gk m n * bg_gk (fun i => m i / bg_gk m n) n = bg_gk m n * 1 := by rw [Nat.mul_one]; exact h1.symm
  exact Nat.eq_of_mul_eq_mul_left h h2
/-- a ray that is true to its tight bits: own its choices, sf the choices of the other side so far -/
def bg_V (l : Nat → Nat → Nat) (own sf : Nat) (r : bg_Ray) : Prop :=
  (∀ c, c < 3 → own.testBit c = false → r.1 c = 0) ∧
  (∀ c, c < 3 → (r.2.testBit c = true ↔ (own.testBit c = true ∧ r.1 c = 0))) ∧
  (∀ o, o < 3 → sf.testBit o = true → 0 ≤ bg_slk l o r) ∧
  (∀ o, o < 3 → (r.2.testBit (3 + o) = true ↔ (sf.testBit o = true ∧ bg_slk l o r = 0))) ∧
  bg_gk r.1 4 = 1 ∧
  ((∀ c, c < 3 → r.1 c = 0) ∨ ∃ o, o < 3 ∧ sf.testBit o = true ∧ bg_slk l o r = 0) ∧
  r.2 < 64
def bg_S (r : bg_Ray) : Nat := r.1 0 + r.1 1 + r.1 2
theorem bg_S0 {r : bg_Ray} (h : bg_S r = 0) : ∀ c, c < 3 → r.1 c = 0 := by
  unfold bg_S at h
  intro c hc
  match c, hc with
  | 0, _ => omega
  | 1, _ => omega
  | 2, _ => omega
theorem bg_S_le (r : bg_Ray) {c : Nat} (hc : c < 3) : r.1 c ≤ bg_S r := by
  unfold bg_S
  match c, hc with
  | 0, _ => omega
  | 1, _ => omega
  | 2, _ => omega
theorem bg_dot0 {l : Nat → Nat → Nat} {o : Nat} {x : Nat → Nat} (h : ∀ c, c < 3 → x c = 0) : bg_dot l o x = 0 := by
  unfold bg_dot
  rw [h 0 (by omega), h 1 (by omega), h 2 (by omega)]
  simp
theorem bg_V_last {l : Nat → Nat → Nat} {own sf : Nat} {r : bg_Ray} (h : bg_V l own sf r) (hz : ∀ c, c < 3 → r.1 c = 0) : r.1 3 = 1 ∧ ∀ o, bg_slk l o r = 1 := by
  obtain ⟨_, _, _, _, h5, _⟩ := h
  have e : r.1 3 = 1 := by
    have : bg_gk r.1 4 = Nat.gcd (Nat.gcd (Nat.gcd (Nat.gcd 0 (r.1 0)) (r.1 1)) (r.1 2)) (r.1 3) := rfl
    rw [this, hz 0 (by omega), hz 1 (by omega), hz 2 (by omega)] at h5
    simpa using h5
  refine ⟨e, fun o => ?_⟩
  unfold bg_slk
  rw [bg_dot0 hz, e]
  rfl
theorem bg_V_own {l : Nat → Nat → Nat} {own sf : Nat} {r : bg_Ray} (h : bg_V l own sf r) (e : r.2 = own) : ∀ c, c < 3 → r.1 c = 0 := by
  obtain ⟨h1, h2, _⟩ := h
  intro c hc
  cases ho : own.testBit c with
  | false => exact h1 c hc ho
  | true =>
    have := (h2 c hc).mp (by rw [e]; exact ho)
    exact this.2
theorem bg_bit6 {a b : Nat} (ha : a < 64) (hb : b < 64) (h : ∀ i, i < 6 → a.testBit i = b.testBit i) : a = b := by
  apply Nat.eq_of_testBit_eq
  intro i
  rcases Nat.lt_or_ge i 6 with z | z
  · exact h i z
  · have h6 : 2 ^ 6 ≤ 2 ^ i := Nat.pow_le_pow_right (by omega) z
    rw [Nat.testBit_lt_two_pow (show a < 2 ^ i by omega), Nat.testBit_lt_two_pow (show b < 2 ^ i by omega)]
theorem bg_own3 {own : Nat} (ho : own < 8) {i : Nat} (hi : 3 ≤ i) : own.testBit i = false := by
  have h6 : 2 ^ 3 ≤ 2 ^ i := Nat.pow_le_pow_right (by omega) hi
  exact Nat.testBit_lt_two_pow (show own < 2 ^ i by omega)
theorem bg_V_zero {l : Nat → Nat → Nat} {own sf : Nat} {r : bg_Ray} (ho : own < 8) (h : bg_V l own sf r) (hz : ∀ c, c < 3 → r.1 c = 0) : r.2 = own := by
  have hl := bg_V_last h hz
  obtain ⟨h1, h2, h3, h4, h5, h6, h7⟩ := h
  apply bg_bit6 h7 (by omega)
  intro i hi
  rcases Nat.lt_or_ge i 3 with z | z
  · cases hb : own.testBit i with
    | true => exact (h2 i z).mpr ⟨hb, hz i z⟩
    | false =>
      cases hr : r.2.testBit i with
      | false => rfl
      | true => exact absurd ((h2 i z).mp hr).1 (by rw [hb]; decide)
  · rw [bg_own3 ho z]
    cases hr : r.2.testBit i with
    | false => rfl
    | true =>
      have e : i = 3 + (i - 3) := by omega
      rw [e] at hr
      have := ((h4 (i - 3) (by omega)).mp hr).2
      rw [hl.2] at this
      exact absurd this (by decide)
theorem bg_slk_cm (l : Nat → Nat → Nat) (o o' : Nat) (p q : bg_Ray) (t : Nat) (hp : 0 < bg_slk l o p) (hq : bg_slk l o q < 0) :
    bg_slk l o' (bg_cm l o p q, t) = bg_slk l o' p * (-(bg_slk l o q)) + bg_slk l o' q * bg_slk l o p := by
  have ea : (((-(bg_slk l o q)).toNat : Nat) : Int) = -(bg_slk l o q) := Int.toNat_of_nonneg (by omega)
  have eb : (((bg_slk l o p).toNat : Nat) : Int) = bg_slk l o p := Int.toNat_of_nonneg (by omega)
  unfold bg_cm bg_mix
  generalize (-(bg_slk l o q)).toNat = a at ea ⊢
  generalize (bg_slk l o p).toNat = b at eb ⊢
  rw [← ea, ← eb]
  unfold bg_slk bg_dot
  simp only [Int.natCast_add, Int.natCast_mul]
  grind
theorem bg_slk_scale (l : Nat → Nat → Nat) (o : Nat) (m x : Nat → Nat) (g t : Nat) (h : ∀ i, i < 4 → m i = g * x i) : bg_slk l o (m, t) = (g : Int) * bg_slk l o (x, t) := by
  unfold bg_slk bg_dot
  simp only [h 0 (by omega), h 1 (by omega), h 2 (by omega), h 3 (by omega), Int.natCast_add, Int.natCast_mul]
  grind
theorem bg_slk_t (l : Nat → Nat → Nat) (o : Nat) (x : Nat → Nat) (t t' : Nat) : bg_slk l o (x, t) = bg_slk l o (x, t') := rfl
theorem bg_gk_pos {m : Nat → Nat} {n i : Nat} (hi : i < n) (h : 0 < m i) : 0 < bg_gk m n := by
  rcases Nat.eq_zero_or_pos (bg_gk m n) with z | z
  · have := bg_gk_dvd m n i hi
    rw [z] at this
    have := Nat.eq_zero_of_zero_dvd this
    omega
  · exact z
/-- what a crossing is: numbers a, b > 0, a divisor g > 0 -/
theorem bg_cr_eq {l : Nat → Nat → Nat} {own sf o : Nat} {p q : bg_Ray} (Vp : bg_V l own sf p) (hp : 0 < bg_slk l o p) (hq : bg_slk l o q < 0) :
    0 < bg_gk (bg_cm l o p q) 4 ∧ ∀ i, i < 4 → bg_cm l o p q i = bg_gk (bg_cm l o p q) 4 * (bg_cr l o p q).1 i := by
  constructor
  · have h : ¬ ∀ i, i < 4 → p.1 i = 0 := by
      intro hz
      have := bg_V_last Vp (fun c hc => hz c (by omega))
      have h3 := hz 3 (by omega)
      omega
    have h2 : ∃ i, i < 4 ∧ p.1 i ≠ 0 := by
      by_cases h0 : p.1 0 = 0
      · by_cases h1 : p.1 1 = 0
        · by_cases h2 : p.1 2 = 0
          · by_cases h3 : p.1 3 = 0
            · exfalso
              apply h
              intro i hi
              match i, hi with
              | 0, _ => exact h0
              | 1, _ => exact h1
              | 2, _ => exact h2
              | 3, _ => exact h3
            · exact ⟨3, by omega, h3⟩
          · exact ⟨2, by omega, h2⟩
        · exact ⟨1, by omega, h1⟩
      · exact ⟨0, by omega, h0⟩
    obtain ⟨i, hi, hn⟩ := h2
    apply bg_gk_pos hi
    unfold bg_cm bg_mix
    have ha : 0 < (-(bg_slk l o q)).toNat := by omega
    have : 0 < p.1 i * (-(bg_slk l o q)).toNat := Nat.mul_pos (by omega) ha
    omega
  · intro i hi
    exact (Nat.mul_div_cancel' (bg_gk_dvd _ 4 i hi)).symm
theorem bg_V_cr {l : Nat → Nat → Nat} {own sf o : Nat} {p q : bg_Ray} (ho : o < 3) (hn : sf.testBit o = false) (Vp : bg_V l own sf p) (Vq : bg_V l own sf q) (hp : 0 < bg_slk l o p) (hq : bg_slk l o q < 0) :
    bg_V l own (sf ||| 2 ^ o) (bg_cr l o p q) ∧ ∀ o', bg_slk l o' p = 0 → bg_slk l o' q = 0 → bg_slk l o' (bg_cr l o p q) = 0 := by
  obtain ⟨hg, hm⟩ := bg_cr_eq (q := q) Vp hp hq
  have hs : ∀ o', (bg_gk (bg_cm l o p q) 4 : Int) * bg_slk l o' (bg_cr l o p q) = bg_slk l o' p * (-(bg_slk l o q)) + bg_slk l o' q * bg_slk l o p := by
    intro o'
    rw [← bg_slk_cm l o o' p q (bg_cr l o p q).2 hp hq]
    exact (bg_slk_scale l o' _ _ _ _ hm).symm
  have hgi : (0 : Int) < (bg_gk (bg_cm l o p q) 4 : Int) := by omega
  have hz : ∀ c, c < 3 → ((bg_cr l o p q).1 c = 0 ↔ (p.1 c = 0 ∧ q.1 c = 0)) := by
    intro c hc
    have e := hm c (by omega)
    have ea : bg_cm l o p q c = p.1 c * (-(bg_slk l o q)).toNat + q.1 c * (bg_slk l o p).toNat := rfl
    have ha : 0 < (-(bg_slk l o q)).toNat := by omega
    have hb : 0 < (bg_slk l o p).toNat := by omega
    constructor
    · intro z
      rw [z, Nat.mul_zero, ea] at e
      constructor
      · rcases Nat.eq_zero_or_pos (p.1 c) with y | y
        · exact y
        · have := Nat.mul_pos y ha
          omega
      · rcases Nat.eq_zero_or_pos (q.1 c) with y | y
        · exact y
        · have := Nat.mul_pos y hb
          omega
    · intro ⟨z1, z2⟩
      rw [ea, z1, z2, Nat.zero_mul, Nat.zero_mul] at e
      rcases Nat.mul_eq_zero.mp e.symm with y | y
      · omega
      · exact y
  have hz0 : ∀ o', o' < 3 → sf.testBit o' = true → (0 ≤ bg_slk l o' (bg_cr l o p q) ∧ (bg_slk l o' (bg_cr l o p q) = 0 ↔ (bg_slk l o' p = 0 ∧ bg_slk l o' q = 0))) := by
    intro o' ho' hsf
    have e := hs o'
    have p0 := Vp.2.2.1 o' ho' hsf
    have q0 := Vq.2.2.1 o' ho' hsf
    have m1 : 0 ≤ bg_slk l o' p * (-(bg_slk l o q)) := Int.mul_nonneg p0 (by omega)
    have m2 : 0 ≤ bg_slk l o' q * bg_slk l o p := Int.mul_nonneg q0 (by omega)
    constructor
    · rcases Int.lt_or_le (bg_slk l o' (bg_cr l o p q)) 0 with z | z
      · have := Int.mul_neg_of_pos_of_neg hgi z
        omega
      · exact z
    · constructor
      · intro z
        rw [z, Int.mul_zero] at e
        have n1 : bg_slk l o' p * (-(bg_slk l o q)) = 0 := by omega
        have n2 : bg_slk l o' q * bg_slk l o p = 0 := by omega
        rcases Int.mul_eq_zero.mp n1 with y | y
        · rcases Int.mul_eq_zero.mp n2 with y2 | y2
          · exact ⟨y, y2⟩
          · omega
        · omega
      · intro ⟨z1, z2⟩
        rw [z1, z2, Int.zero_mul, Int.zero_mul, Int.add_zero] at e
        rcases Int.mul_eq_zero.mp e with y | y
        · omega
        · exact y
  have hso : bg_slk l o (bg_cr l o p q) = 0 := by
    have e := hs o
    have e2 : bg_slk l o p * (-(bg_slk l o q)) + bg_slk l o q * bg_slk l o p = 0 := by grind
    rw [e2] at e
    rcases Int.mul_eq_zero.mp e with y | y
    · omega
    · exact y
  have hob : (sf ||| 2 ^ o).testBit o = true := by
    rw [Nat.testBit_or, Nat.testBit_two_pow_self, Bool.or_true]
  have hsf : ∀ o', o' ≠ o → (sf ||| 2 ^ o).testBit o' = sf.testBit o' := by
    intro o' hne
    rw [Nat.testBit_or, Nat.testBit_two_pow_of_ne (fun h => hne h.symm), Bool.or_false]
  refine ⟨⟨?_, ?_, ?_, ?_, ?_, ?_, ?_⟩, ?_⟩
  · intro c hc hb
    exact (hz c hc).mpr ⟨Vp.1 c hc hb, Vq.1 c hc hb⟩
  · intro c hc
    show ((p.2 &&& q.2) ||| 2 ^ (3 + o)).testBit c = true ↔ _
    rw [Nat.testBit_or, Nat.testBit_two_pow_of_ne (by omega), Bool.or_false, Nat.testBit_and, Bool.and_eq_true, Vp.2.1 c hc, Vq.2.1 c hc, hz c hc]
    exact ⟨fun h => ⟨h.1.1, h.1.2, h.2.2⟩, fun h => ⟨⟨h.1, h.2.1⟩, h.1, h.2.2⟩⟩
  · intro o' ho' hb
    by_cases e : o' = o
    · rw [e, hso]; exact Int.le_refl 0
    · rw [hsf o' e] at hb
      exact (hz0 o' ho' hb).1
  · intro o' ho'
    show ((p.2 &&& q.2) ||| 2 ^ (3 + o)).testBit (3 + o') = true ↔ _
    by_cases e : o' = o
    · rw [e, Nat.testBit_or, Nat.testBit_two_pow_self, Bool.or_true, hob, hso]
      simp
    · rw [Nat.testBit_or, Nat.testBit_two_pow_of_ne (by omega), Bool.or_false, Nat.testBit_and, Bool.and_eq_true, Vp.2.2.2.1 o' ho', Vq.2.2.2.1 o' ho', hsf o' e]
      constructor
      · intro h
        exact ⟨h.1.1, (hz0 o' ho' h.1.1).2.mpr ⟨h.1.2, h.2.2⟩⟩
      · intro h
        have h2 := (hz0 o' ho' h.1).2.mp h.2
        exact ⟨⟨h.1, h2.1⟩, h.1, h2.2⟩
  · exact bg_gk_div _ 4 hg
  · exact Or.inr ⟨o, ho, hob, hso⟩
  · show ((p.2 &&& q.2) ||| 2 ^ (3 + o)) < 64
    have h1 : p.2 &&& q.2 < 2 ^ 6 := Nat.and_lt_two_pow _ Vq.2.2.2.2.2.2
    have h2 : 2 ^ (3 + o) < 2 ^ 6 := Nat.pow_lt_pow_right (by omega) (by omega)
    exact Nat.or_lt_two_pow h1 h2
  · intro o' z1 z2
    have e := hs o'
    rw [z1, z2, Int.zero_mul, Int.zero_mul, Int.add_zero] at e
    rcases Int.mul_eq_zero.mp e with y | y
    · omega
    · exact y
theorem bg_V_kp {l : Nat → Nat → Nat} {own sf o : Nat} {r : bg_Ray} (ho : o < 3) (hn : sf.testBit o = false) (V : bg_V l own sf r) (hp : 0 ≤ bg_slk l o r) :
    bg_V l own (sf ||| 2 ^ o) (r.1, if bg_slk l o r = 0 then r.2 ||| 2 ^ (3 + o) else r.2) := by
  have hob : (sf ||| 2 ^ o).testBit o = true := by
    rw [Nat.testBit_or, Nat.testBit_two_pow_self, Bool.or_true]
  have hsf : ∀ o', o' ≠ o → (sf ||| 2 ^ o).testBit o' = sf.testBit o' := by
    intro o' hne
    rw [Nat.testBit_or, Nat.testBit_two_pow_of_ne (fun h => hne h.symm), Bool.or_false]
  have hb : ∀ i, i ≠ 3 + o → (if bg_slk l o r = 0 then r.2 ||| 2 ^ (3 + o) else r.2).testBit i = r.2.testBit i := by
    intro i hi
    split
    · rw [Nat.testBit_or, Nat.testBit_two_pow_of_ne (by omega), Bool.or_false]
    · rfl
  obtain ⟨h1, h2, h3, h4, h5, h6, h7⟩ := V
  refine ⟨h1, ?_, ?_, ?_, h5, ?_, ?_⟩
  · intro c hc
    show (if bg_slk l o r = 0 then r.2 ||| 2 ^ (3 + o) else r.2).testBit c = true ↔ _
    rw [hb c (by omega)]
    exact h2 c hc
  · intro o' ho' hb
    by_cases e : o' = o
    · rw [e]; exact hp
    · rw [hsf o' e] at hb
      exact h3 o' ho' hb
  · intro o' ho'
    show (if bg_slk l o r = 0 then r.2 ||| 2 ^ (3 + o) else r.2).testBit (3 + o') = true ↔ ((sf ||| 2 ^ o).testBit o' = true ∧ bg_slk l o' r = 0)
    by_cases e : o' = o
    · rw [e, hob]
      by_cases z : bg_slk l o r = 0
      · rw [if_pos z, Nat.testBit_or, Nat.testBit_two_pow_self, Bool.or_true]
        simp [z]
      · rw [if_neg z]
        constructor
        · intro h
          have := ((h4 o ho).mp h).1
          rw [hn] at this
          exact absurd this (by decide)
        · intro h
          exact absurd h.2 z
    · rw [hb _ (by omega), hsf o' e]
      exact h4 o' ho'
  · rcases h6 with h6 | ⟨o', a, b, c⟩
    · exact Or.inl h6
    · refine Or.inr ⟨o', a, ?_, c⟩
      rw [Nat.testBit_or, b]
      rfl
  · show (if bg_slk l o r = 0 then r.2 ||| 2 ^ (3 + o) else r.2) < 64
    split
    · have h2 : 2 ^ (3 + o) < 2 ^ 6 := Nat.pow_lt_pow_right (by omega) (by omega)
      exact Nat.or_lt_two_pow h7 h2
    · exact h7
theorem bg_V_step {l : Nat → Nat → Nat} {own sf o : Nat} {R : List bg_Ray} (ho : o < 3) (hn : sf.testBit o = false) (hV : ∀ r, r ∈ R → bg_V l own sf r) :
    ∀ r, r ∈ bg_step l o R → bg_V l own (sf ||| 2 ^ o) r := by
  intro r hr
  rcases bg_step_mem hr with ⟨s, hs, h, e⟩ | ⟨p, hp, q, hq, h1, h2, e⟩
  · rw [e]
    exact bg_V_kp ho hn (hV s hs) h
  · rw [e]
    exact (bg_V_cr ho hn (hV p hp) (hV q hq) h1 h2).1
end
end
section
section
def bg_lo (l : Nat → Nat → Nat) : Prop := ∀ c o, c < 3 → o < 3 → 1 ≤ l c o ∧ l c o ≤ 19
theorem bg_dot_le {l : Nat → Nat → Nat} (hl : bg_lo l) {o : Nat} (ho : o < 3) (r : bg_Ray) : bg_S r ≤ bg_dot l o r.1 ∧ bg_dot l o r.1 ≤ 19 * bg_S r := by
  unfold bg_dot bg_S
  have a0 := hl 0 o (by omega) ho
  have a1 := hl 1 o (by omega) ho
  have a2 := hl 2 o (by omega) ho
  have u0 := Nat.mul_le_mul_left (r.1 0) a0.1
  have u1 := Nat.mul_le_mul_left (r.1 1) a1.1
  have u2 := Nat.mul_le_mul_left (r.1 2) a2.1
  have w0 := Nat.mul_le_mul_left (r.1 0) a0.2
  have w1 := Nat.mul_le_mul_left (r.1 1) a1.2
  have w2 := Nat.mul_le_mul_left (r.1 2) a2.2
  omega
theorem bg_v_le {l : Nat → Nat → Nat} (hl : bg_lo l) {own sf : Nat} {r : bg_Ray} (V : bg_V l own sf r) : r.1 3 ≤ 19 * bg_S r + 1 := by
  rcases V.2.2.2.2.2.1 with h | ⟨o', ho', _, hz⟩
  · have := (bg_V_last V h).1
    omega
  · unfold bg_slk at hz
    have := bg_dot_le hl ho' r
    omega
theorem bg_slk_le {l : Nat → Nat → Nat} (hl : bg_lo l) {own sf : Nat} {r : bg_Ray} (V : bg_V l own sf r) (hS : 0 < bg_S r) {o : Nat} (ho : o < 3) :
    bg_slk l o r ≤ 18 * bg_S r ∧ -(18 * (bg_S r : Int)) ≤ bg_slk l o r := by
  rcases V.2.2.2.2.2.1 with h | ⟨o', ho', _, hz⟩
  · exfalso
    have a := h 0 (by omega)
    have b := h 1 (by omega)
    have c := h 2 (by omega)
    unfold bg_S at hS
    omega
  · have h1 := bg_dot_le hl ho' r
    have h2 := bg_dot_le hl ho r
    unfold bg_slk at hz ⊢
    omega
theorem bg_neg_S {l : Nat → Nat → Nat} {own sf : Nat} {r : bg_Ray} (V : bg_V l own sf r) {o : Nat} (h : bg_slk l o r < 0) : 0 < bg_S r := by
  rcases Nat.eq_zero_or_pos (bg_S r) with z | z
  · have := (bg_V_last V (bg_S0 z)).2 o
    omega
  · exact z
theorem bg_cr_le {l : Nat → Nat → Nat} {o : Nat} {p q : bg_Ray} (i : Nat) : (bg_cr l o p q).1 i ≤ p.1 i * (-(bg_slk l o q)).toNat + q.1 i * (bg_slk l o p).toNat :=
  Nat.div_le_self _ _
theorem bg_S_cr_le {l : Nat → Nat → Nat} {o : Nat} {p q : bg_Ray} : bg_S (bg_cr l o p q) ≤ bg_S p * (-(bg_slk l o q)).toNat + bg_S q * (bg_slk l o p).toNat := by
  have h0 := bg_cr_le (l := l) (o := o) (p := p) (q := q) 0
  have h1 := bg_cr_le (l := l) (o := o) (p := p) (q := q) 1
  have h2 := bg_cr_le (l := l) (o := o) (p := p) (q := q) 2
  unfold bg_S
  generalize (-(bg_slk l o q)).toNat = a at *
  generalize (bg_slk l o p).toNat = b at *
  rw [Nat.add_mul, Nat.add_mul, Nat.add_mul, Nat.add_mul]
  omega
/-- level 1 -/
def bg_B1 (l : Nat → Nat → Nat) (st o1 : Nat) (r : bg_Ray) : Prop :=
  bg_S r ≤ 1 ∨ (bg_S r ≤ 36 ∧ bg_slk l st r = 0 ∧ bg_slk l o1 r = 0 ∧ ∃ c, c < 3 ∧ l c st ≠ l c o1)
theorem bg_one {st o' : Nat} (h : (2 ^ st).testBit o' = true) : o' = st := by
  rw [Nat.testBit_two_pow] at h
  exact (of_decide_eq_true h).symm
theorem bg_L01 {l : Nat → Nat → Nat} (hl : bg_lo l) {own st o1 : Nat} {R : List bg_Ray} (h1 : o1 < 3) (hne : st ≠ o1)
    (hV : ∀ r, r ∈ R → bg_V l own (2 ^ st) r) (hB : ∀ r, r ∈ R → bg_S r ≤ 1) : ∀ r, r ∈ bg_step l o1 R → bg_B1 l st o1 r := by
  intro r hr
  have hn : (2 ^ st).testBit o1 = false := Nat.testBit_two_pow_of_ne hne
  rcases bg_step_mem hr with ⟨s, hs, h, e⟩ | ⟨p, hp, q, hq, h1', h2', e⟩
  · rw [e]
    exact Or.inl (hB s hs)
  · have Vp := hV p hp
    have Vq := hV q hq
    have Sq := bg_neg_S Vq h2'
    have key := bg_V_cr h1 hn Vp Vq h1' h2'
    rw [e]
    rcases Nat.eq_zero_or_pos (bg_S p) with z | z
    · left
      have e1 := (bg_V_last Vp (bg_S0 z)).2 o1
      have h := bg_S_cr_le (l := l) (o := o1) (p := p) (q := q)
      rw [z, e1, Nat.zero_mul, Nat.zero_add] at h
      have h2 := hB q hq
      have h3 : (1 : Int).toNat = 1 := rfl
      rw [h3, Nat.mul_one] at h
      omega
    · right
      have tight : ∀ s, bg_V l own (2 ^ st) s → 0 < bg_S s → bg_slk l st s = 0 := by
        intro s Vs hs
        rcases Vs.2.2.2.2.2.1 with h | ⟨o', ho', hb, hz⟩
        · exfalso
          have a := h 0 (by omega)
          have b := h 1 (by omega)
          have c := h 2 (by omega)
          unfold bg_S at hs
          omega
        · rw [bg_one hb] at hz
          exact hz
      have tp := tight p Vp z
      have tq := tight q Vq Sq
      refine ⟨?_, key.2 st tp tq, ?_, ?_⟩
      · have h := bg_S_cr_le (l := l) (o := o1) (p := p) (q := q)
        have a1 := bg_slk_le hl Vp z h1
        have a2 := bg_slk_le hl Vq Sq h1
        have b1 := hB p hp
        have b2 := hB q hq
        have c1 : bg_S p = 1 := by omega
        have c2 : bg_S q = 1 := by omega
        rw [c1, c2] at h
        rw [c1] at a1
        rw [c2] at a2
        omega
      · have := (key.1.2.2.2.1 o1 h1).mp (by
          show ((p.2 &&& q.2) ||| 2 ^ (3 + o1)).testBit (3 + o1) = true
          rw [Nat.testBit_or, Nat.testBit_two_pow_self, Bool.or_true])
        exact this.2
      · by_cases c0 : l 0 st = l 0 o1
        · by_cases c1 : l 1 st = l 1 o1
          · by_cases c2 : l 2 st = l 2 o1
            · exfalso
              unfold bg_slk bg_dot at tp h1'
              rw [c0, c1, c2] at tp
              omega
            · exact ⟨2, by omega, c2⟩
          · exact ⟨1, by omega, c1⟩
        · exact ⟨0, by omega, c0⟩
theorem bg_prim1 {x y z : Nat} {dx dy dz : Int} (hg : Nat.gcd (Nat.gcd x y) z = 1) (h1 : (x : Int) * dy = y * dx) (h2 : (x : Int) * dz = z * dx) (hn : ¬ (dx = 0 ∧ dy = 0 ∧ dz = 0)) : x ≤ dx.natAbs := by
  rcases Nat.eq_zero_or_pos x with hx | hx
  · omega
  have hdx : dx ≠ 0 := by
    intro e
    rw [e, Int.mul_zero] at h1 h2
    rcases Int.mul_eq_zero.mp h1 with a | a
    · omega
    · rcases Int.mul_eq_zero.mp h2 with b | b
      · omega
      · exact hn ⟨e, a, b⟩
  have d1 : x ∣ y * dx.natAbs := by
    have : ((x : Int) * dy).natAbs = ((y : Int) * dx).natAbs := by rw [h1]
    rw [Int.natAbs_mul, Int.natAbs_mul, Int.natAbs_natCast, Int.natAbs_natCast] at this
    exact ⟨dy.natAbs, this.symm⟩
  have d2 : x ∣ z * dx.natAbs := by
    have : ((x : Int) * dz).natAbs = ((z : Int) * dx).natAbs := by rw [h2]
    rw [Int.natAbs_mul, Int.natAbs_mul, Int.natAbs_natCast, Int.natAbs_natCast] at this
    exact ⟨dz.natAbs, this.symm⟩
  have d3 : x ∣ Nat.gcd (Nat.gcd x y) z * dx.natAbs := by
    rw [← Nat.gcd_mul_right]
    refine Nat.dvd_gcd ?_ d2
    rw [← Nat.gcd_mul_right]
    exact Nat.dvd_gcd (Nat.dvd_mul_right x _) d1
  rw [hg, Nat.one_mul] at d3
  exact Nat.le_of_dvd (by omega) d3
theorem bg_prim {x y z : Nat} {dx dy dz : Int} (hg : Nat.gcd (Nat.gcd x y) z = 1) (h1 : (x : Int) * dy = y * dx) (h2 : (x : Int) * dz = z * dx) (h3 : (y : Int) * dz = z * dy) (hn : ¬ (dx = 0 ∧ dy = 0 ∧ dz = 0)) :
    x ≤ dx.natAbs ∧ y ≤ dy.natAbs ∧ z ≤ dz.natAbs := by
  refine ⟨bg_prim1 hg h1 h2 hn, ?_, ?_⟩
  · refine bg_prim1 (x := y) (y := x) (z := z) (dx := dy) (dy := dx) (dz := dz) ?_ h1.symm h3 (fun h => hn ⟨h.2.1, h.1, h.2.2⟩)
    rw [Nat.gcd_comm y x]
    exact hg
  · refine bg_prim1 (x := z) (y := x) (z := y) (dx := dz) (dy := dx) (dz := dy) ?_ h2.symm h3.symm (fun h => hn ⟨h.2.1, h.2.2, h.1⟩)
    rw [Nat.gcd_assoc, Nat.gcd_comm z]
    exact hg
theorem bg_D_ne (p0 p1 p2 a0 a1 a2 b0 b1 b2 : Int) (h1 : p0 * a0 + p1 * a1 + p2 * a2 = 0) (h2 : 0 < p0 * b0 + p1 * b1 + p2 * b2) (ha : ¬ (a0 = 0 ∧ a1 = 0 ∧ a2 = 0)) :
    ¬ (a1 * b2 - a2 * b1 = 0 ∧ a2 * b0 - a0 * b2 = 0 ∧ a0 * b1 - a1 * b0 = 0) := by
  intro ⟨e1, e2, e3⟩
  have k0 : a0 * (p0 * b0 + p1 * b1 + p2 * b2) = 0 := by grind
  have k1 : a1 * (p0 * b0 + p1 * b1 + p2 * b2) = 0 := by grind
  have k2 : a2 * (p0 * b0 + p1 * b1 + p2 * b2) = 0 := by grind
  generalize p0 * b0 + p1 * b1 + p2 * b2 = t at h2 k0 k1 k2
  apply ha
  refine ⟨?_, ?_, ?_⟩
  · rcases Int.mul_eq_zero.mp k0 with z | z
    · exact z
    · omega
  · rcases Int.mul_eq_zero.mp k1 with z | z
    · exact z
    · omega
  · rcases Int.mul_eq_zero.mp k2 with z | z
    · exact z
    · omega
theorem bg_D_par (x0 x1 x2 a0 a1 a2 b0 b1 b2 : Int) (h1 : x0 * a0 + x1 * a1 + x2 * a2 = 0) (h2 : x0 * b0 + x1 * b1 + x2 * b2 = 0) :
    x0 * (a2 * b0 - a0 * b2) = x1 * (a1 * b2 - a2 * b1) ∧ x0 * (a0 * b1 - a1 * b0) = x2 * (a1 * b2 - a2 * b1) ∧ x1 * (a0 * b1 - a1 * b0) = x2 * (a2 * b0 - a0 * b2) := by
  refine ⟨?_, ?_, ?_⟩ <;> grind
theorem bg_ab18 {a b : Int} (h1 : -18 ≤ a) (h2 : a ≤ 18) (h3 : -18 ≤ b) (h4 : b ≤ 18) : (a * b).natAbs ≤ 324 := by
  rw [Int.natAbs_mul]
  have x : a.natAbs ≤ 18 := by omega
  have y : b.natAbs ≤ 18 := by omega
  exact Nat.mul_le_mul x y
theorem bg_D_ab {a b c d : Int} (h1 : -18 ≤ a) (h2 : a ≤ 18) (h3 : -18 ≤ b) (h4 : b ≤ 18) (h5 : -18 ≤ c) (h6 : c ≤ 18) (h7 : -18 ≤ d) (h8 : d ≤ 18) : (a * b - c * d).natAbs ≤ 648 := by
  have x := bg_ab18 h1 h2 h3 h4
  have y := bg_ab18 h5 h6 h7 h8
  omega
theorem bg_big {l : Nat → Nat → Nat} (hl : bg_lo l) {st o1 o2 : Nat} (hst : st < 3) (h1 : o1 < 3) (h2 : o2 < 3) {p r : bg_Ray}
    (p0 : bg_slk l st p = 0) (p1 : bg_slk l o1 p = 0) (p2 : 0 < bg_slk l o2 p) (hc : ∃ c, c < 3 ∧ l c st ≠ l c o1)
    (r0 : bg_slk l st r = 0) (r1 : bg_slk l o1 r = 0) (r2 : bg_slk l o2 r = 0) (hg : bg_gk r.1 4 = 1) : ∀ c, c < 3 → r.1 c ≤ 648 := by
  have hgc : Nat.gcd (Nat.gcd (r.1 0) (r.1 1)) (r.1 2) = 1 := by
    have e : r.1 3 = bg_dot l st r.1 := by unfold bg_slk at r0; omega
    have hd : Nat.gcd (Nat.gcd (r.1 0) (r.1 1)) (r.1 2) ∣ bg_gk r.1 4 := by
      have d2 : Nat.gcd (Nat.gcd (r.1 0) (r.1 1)) (r.1 2) ∣ r.1 2 := Nat.gcd_dvd_right _ _
      have d01 : Nat.gcd (Nat.gcd (r.1 0) (r.1 1)) (r.1 2) ∣ Nat.gcd (r.1 0) (r.1 1) := Nat.gcd_dvd_left _ _
      have d0 := Nat.dvd_trans d01 (Nat.gcd_dvd_left (r.1 0) (r.1 1))
      have d1 := Nat.dvd_trans d01 (Nat.gcd_dvd_right (r.1 0) (r.1 1))
      apply bg_dvd_gk
      intro i hi
      match i, hi with
      | 0, _ => exact d0
      | 1, _ => exact d1
      | 2, _ => exact d2
      | 3, _ =>
        show _ ∣ r.1 3
        rw [e]
        unfold bg_dot
        exact Nat.dvd_add (Nat.dvd_add (Nat.dvd_trans d0 (Nat.dvd_mul_right _ _)) (Nat.dvd_trans d1 (Nat.dvd_mul_right _ _))) (Nat.dvd_trans d2 (Nat.dvd_mul_right _ _))
    rw [hg] at hd
    exact Nat.dvd_one.mp hd
  unfold bg_slk bg_dot at p0 p1 p2 r0 r1 r2
  simp only [Int.natCast_add, Int.natCast_mul] at p0 p1 p2 r0 r1 r2
  have A0 := hl 0 st (by omega) hst
  have A1 := hl 1 st (by omega) hst
  have A2 := hl 2 st (by omega) hst
  have B0 := hl 0 o1 (by omega) h1
  have B1 := hl 1 o1 (by omega) h1
  have B2 := hl 2 o1 (by omega) h1
  have C0 := hl 0 o2 (by omega) h2
  have C1 := hl 1 o2 (by omega) h2
  have C2 := hl 2 o2 (by omega) h2
  have ha : ¬ ((l 0 st : Int) - l 0 o1 = 0 ∧ (l 1 st : Int) - l 1 o1 = 0 ∧ (l 2 st : Int) - l 2 o1 = 0) := by
    intro ⟨z0, z1, z2⟩
    obtain ⟨c, hc, hne⟩ := hc
    match c, hc with
    | 0, _ => exact hne (by omega)
    | 1, _ => exact hne (by omega)
    | 2, _ => exact hne (by omega)
  have nD := bg_D_ne (p.1 0) (p.1 1) (p.1 2) ((l 0 st : Int) - l 0 o1) ((l 1 st : Int) - l 1 o1) ((l 2 st : Int) - l 2 o1)
    ((l 0 st : Int) - l 0 o2) ((l 1 st : Int) - l 1 o2) ((l 2 st : Int) - l 2 o2) (by grind) (by
      have : (p.1 0 : Int) * ((l 0 st : Int) - l 0 o2) + p.1 1 * ((l 1 st : Int) - l 1 o2) + p.1 2 * ((l 2 st : Int) - l 2 o2) = (p.1 3 : Int) - (p.1 0 * l 0 o2 + p.1 1 * l 1 o2 + p.1 2 * l 2 o2) := by grind
      omega) ha
  have pD := bg_D_par (r.1 0) (r.1 1) (r.1 2) ((l 0 st : Int) - l 0 o1) ((l 1 st : Int) - l 1 o1) ((l 2 st : Int) - l 2 o1)
    ((l 0 st : Int) - l 0 o2) ((l 1 st : Int) - l 1 o2) ((l 2 st : Int) - l 2 o2) (by grind) (by grind)
  have fin := bg_prim hgc pD.1 pD.2.1 pD.2.2 nD
  have k0 : (((l 1 st : Int) - l 1 o1) * ((l 2 st : Int) - l 2 o2) - ((l 2 st : Int) - l 2 o1) * ((l 1 st : Int) - l 1 o2)).natAbs ≤ 648 := by
    apply bg_D_ab <;> omega
  have k1 : (((l 2 st : Int) - l 2 o1) * ((l 0 st : Int) - l 0 o2) - ((l 0 st : Int) - l 0 o1) * ((l 2 st : Int) - l 2 o2)).natAbs ≤ 648 := by
    apply bg_D_ab <;> omega
  have k2 : (((l 0 st : Int) - l 0 o1) * ((l 1 st : Int) - l 1 o2) - ((l 1 st : Int) - l 1 o1) * ((l 0 st : Int) - l 0 o2)).natAbs ≤ 648 := by
    apply bg_D_ab <;> omega
  intro c hc
  match c, hc with
  | 0, _ => exact Nat.le_trans fin.1 k0
  | 1, _ => exact Nat.le_trans fin.2.1 k1
  | 2, _ => exact Nat.le_trans fin.2.2 k2
theorem bg_L12 {l : Nat → Nat → Nat} (hl : bg_lo l) {own sf st o1 o2 : Nat} {R : List bg_Ray} (hst : st < 3) (h1 : o1 < 3) (h2 : o2 < 3) (hn : sf.testBit o2 = false)
    (hV : ∀ r, r ∈ R → bg_V l own sf r) (hB : ∀ r, r ∈ R → bg_B1 l st o1 r) : ∀ r, r ∈ bg_step l o2 R → ∀ c, c < 3 → r.1 c ≤ 1296 := by
  have S36 : ∀ r, r ∈ R → bg_S r ≤ 36 := by
    intro r hr
    rcases hB r hr with h | h
    · omega
    · exact h.1
  intro r hr c hc
  rcases bg_step_mem hr with ⟨s, hs, h, e⟩ | ⟨p, hp, q, hq, h1', h2', e⟩
  · rw [e]
    have := bg_S_le s hc
    have := S36 s hs
    show s.1 c ≤ 1296
    omega
  · have Vp := hV p hp
    have Vq := hV q hq
    have Sq := bg_neg_S Vq h2'
    have Sp36 := S36 p hp
    have Sq36 := S36 q hq
    have key := bg_V_cr h2 hn Vp Vq h1' h2'
    rw [e]
    have ub := bg_cr_le (l := l) (o := o2) (p := p) (q := q) c
    have pc := bg_S_le p hc
    have qc := bg_S_le q hc
    have a2 := bg_slk_le hl Vq Sq h2
    rcases Nat.eq_zero_or_pos (bg_S p) with z | z
    · have e1 := (bg_V_last Vp (bg_S0 z)).2 o2
      have h3 : (1 : Int).toNat = 1 := rfl
      rw [e1, show p.1 c = 0 by omega, h3, Nat.zero_mul, Nat.mul_one] at ub
      omega
    · have a1 := bg_slk_le hl Vp z h2
      have na : (-(bg_slk l o2 q)).toNat ≤ 18 * bg_S q := by omega
      have nb : (bg_slk l o2 p).toNat ≤ 18 * bg_S p := by omega
      rcases hB p hp with Bp | Bp
      · have m1 : p.1 c * (-(bg_slk l o2 q)).toNat ≤ 1 * 648 := Nat.mul_le_mul (by omega) (by omega)
        have m2 : q.1 c * (bg_slk l o2 p).toNat ≤ 36 * 18 := Nat.mul_le_mul (by omega) (by omega)
        omega
      · rcases hB q hq with Bq | Bq
        · have m1 : p.1 c * (-(bg_slk l o2 q)).toNat ≤ 36 * 18 := Nat.mul_le_mul (by omega) (by omega)
          have m2 : q.1 c * (bg_slk l o2 p).toNat ≤ 1 * 648 := Nat.mul_le_mul (by omega) (by omega)
          omega
        · have so2 : bg_slk l o2 (bg_cr l o2 p q) = 0 := by
            have := (key.1.2.2.2.1 o2 h2).mp (by
              show ((p.2 &&& q.2) ||| 2 ^ (3 + o2)).testBit (3 + o2) = true
              rw [Nat.testBit_or, Nat.testBit_two_pow_self, Bool.or_true])
            exact this.2
          have := bg_big hl hst h1 h2 Bp.2.1 Bp.2.2.1 h1' Bp.2.2.2 (key.2 st Bp.2.1 Bq.2.1) (key.2 o1 Bp.2.2.1 Bq.2.2.1) so2 key.1.2.2.2.2.1 c hc
          omega
end
end
section
section
def bg_ray0 (l : Nat → Nat → Nat) (own st c : Nat) : bg_Ray := (fun i => if i = c then 1 else if i = 3 then l c st else 0, (own ^^^ 2 ^ c) ||| 2 ^ (3 + st))
def bg_last (own : Nat) : bg_Ray := (fun i => if i = 3 then 1 else 0, own)
def bg_init (l : Nat → Nat → Nat) (own st : Nat) : List bg_Ray := (bg_os own).map (bg_ray0 l own st) ++ [bg_last own]
def bg_fold (l : Nat → Nat → Nat) (os : List Nat) (R : List bg_Ray) : List bg_Ray := os.foldl (fun R o => bg_step l o R) R
def bg_hd (other : Nat) : Nat := (bg_os other).headD 0
def bg_pre (l : Nat → Nat → Nat) (own other : Nat) : List bg_Ray := bg_fold l (bg_os other).tail (bg_init l own (bg_hd other))
def bg_cone (l : Nat → Nat → Nat) (own other : Nat) : List bg_Ray := (bg_pre l own other).filter (fun r => !(bg_S r == 0))
theorem bg_init_t (l : Nat → Nat → Nat) (own st : Nat) : (bg_init l own st).map (fun r => r.2) = bg_it own st := by
  unfold bg_init bg_it
  rw [List.map_append, List.map_map]
  rfl
theorem bg_os_mem {n c : Nat} : c ∈ bg_os n ↔ c < 3 ∧ n.testBit c = true := by
  unfold bg_os
  rw [List.mem_filter]
  constructor
  · intro ⟨h1, h2⟩
    refine ⟨?_, h2⟩
    simp at h1
    omega
  · intro ⟨h1, h2⟩
    refine ⟨?_, h2⟩
    match c, h1 with
    | 0, _ => simp
    | 1, _ => simp
    | 2, _ => simp
theorem bg_V_ray0 {l : Nat → Nat → Nat} {own st c : Nat} (ho : own < 8) (hs : st < 3) (hc : c < 3) (hb : own.testBit c = true) : bg_V l own (2 ^ st) (bg_ray0 l own st c) ∧ bg_S (bg_ray0 l own st c) ≤ 1 := by
  have e3 : (bg_ray0 l own st c).1 3 = l c st := by
    show (if 3 = c then 1 else if 3 = 3 then l c st else 0) = _
    rw [if_neg (by omega), if_pos rfl]
  have ec : ∀ d, d < 3 → (bg_ray0 l own st c).1 d = if d = c then 1 else 0 := by
    intro d hd
    show (if d = c then 1 else if d = 3 then l c st else 0) = _
    by_cases e : d = c
    · rw [if_pos e, if_pos e]
    · rw [if_neg e, if_neg e, if_neg (by omega)]
  have edot : ∀ o, bg_dot l o (bg_ray0 l own st c).1 = l c o := by
    intro o
    unfold bg_dot
    rw [ec 0 (by omega), ec 1 (by omega), ec 2 (by omega)]
    match c, hc with
    | 0, _ => simp
    | 1, _ => simp
    | 2, _ => simp
  have es : bg_slk l st (bg_ray0 l own st c) = 0 := by
    unfold bg_slk
    rw [edot, e3]
    omega
  refine ⟨⟨?_, ?_, ?_, ?_, ?_, ?_, ?_⟩, ?_⟩
  · intro d hd hf
    rw [ec d hd]
    by_cases e : d = c
    · rw [e, hb] at hf
      exact absurd hf (by decide)
    · rw [if_neg e]
  · intro d hd
    show ((own ^^^ 2 ^ c) ||| 2 ^ (3 + st)).testBit d = true ↔ _
    rw [Nat.testBit_or, Nat.testBit_two_pow_of_ne (by omega), Bool.or_false, Nat.testBit_xor, ec d hd]
    by_cases e : d = c
    · rw [if_pos e, e, Nat.testBit_two_pow_self, hb]
      simp
    · rw [if_neg e, Nat.testBit_two_pow_of_ne (fun z => e z.symm)]
      simp
  · intro o _ h
    rw [bg_one h, es]
    exact Int.le_refl 0
  · intro o h3
    show ((own ^^^ 2 ^ c) ||| 2 ^ (3 + st)).testBit (3 + o) = true ↔ _
    rw [Nat.testBit_or, Nat.testBit_xor, bg_own3 ho (by omega), Nat.testBit_two_pow_of_ne (show c ≠ 3 + o by omega), Bool.xor_false, Bool.false_or]
    constructor
    · intro h
      have e := bg_one h
      have e2 : o = st := by omega
      rw [e2, es, Nat.testBit_two_pow_self]
      exact ⟨rfl, rfl⟩
    · intro h
      rw [bg_one h.1, Nat.testBit_two_pow_self]
  · have h1 := bg_gk_dvd (bg_ray0 l own st c).1 4 c (by omega)
    rw [ec c hc, if_pos rfl] at h1
    exact Nat.dvd_one.mp h1
  · exact Or.inr ⟨st, hs, Nat.testBit_two_pow_self, es⟩
  · show ((own ^^^ 2 ^ c) ||| 2 ^ (3 + st)) < 2 ^ 6
    have h1 : 2 ^ (3 + st) < 2 ^ 6 := Nat.pow_lt_pow_right (by omega) (by omega)
    have h2 : 2 ^ c < 2 ^ 6 := Nat.pow_lt_pow_right (by omega) (by omega)
    exact Nat.or_lt_two_pow (Nat.xor_lt_two_pow (by omega) h2) h1
  · unfold bg_S
    rw [ec 0 (by omega), ec 1 (by omega), ec 2 (by omega)]
    match c, hc with
    | 0, _ => simp
    | 1, _ => simp
    | 2, _ => simp
theorem bg_V_last0 {l : Nat → Nat → Nat} {own st : Nat} (ho : own < 8) (hs : st < 3) : bg_V l own (2 ^ st) (bg_last own) ∧ bg_S (bg_last own) ≤ 1 := by
  have ez : ∀ d, d < 3 → (bg_last own).1 d = 0 := by
    intro d hd
    show (if d = 3 then 1 else 0) = 0
    rw [if_neg (by omega)]
  have es : ∀ o, bg_slk l o (bg_last own) = 1 := by
    intro o
    unfold bg_slk
    rw [bg_dot0 ez]
    rfl
  refine ⟨⟨fun d hd _ => ez d hd, ?_, ?_, ?_, ?_, Or.inl ez, ?_⟩, ?_⟩
  · intro d hd
    rw [ez d hd]
    simp [bg_last]
  · intro o _ _
    rw [es]
    decide
  · intro o h3
    rw [es]
    show own.testBit (3 + o) = true ↔ _
    rw [bg_own3 ho (by omega)]
    simp
  · have h1 := bg_gk_dvd (bg_last own).1 4 3 (by omega)
    exact Nat.dvd_one.mp h1
  · show own < 64
    omega
  · unfold bg_S
    rw [ez 0 (by omega), ez 1 (by omega), ez 2 (by omega)]
    omega
theorem bg_init_V {l : Nat → Nat → Nat} {own st : Nat} (ho : own < 8) (hs : st < 3) : ∀ r, r ∈ bg_init l own st → bg_V l own (2 ^ st) r ∧ bg_S r ≤ 1 := by
  intro r hr
  unfold bg_init at hr
  rw [List.mem_append] at hr
  rcases hr with hr | hr
  · obtain ⟨c, hc, rfl⟩ := List.mem_map.mp hr
    have := bg_os_mem.mp hc
    exact bg_V_ray0 ho hs this.1 this.2
  · rw [List.mem_singleton.mp hr]
    exact bg_V_last0 ho hs
theorem bg_os_all : (List.range 8).all (fun n => n == 0 || (Nat.blt (bg_hd n) 3 && ((bg_os n).tail == [] && n == 2 ^ bg_hd n ||
    (List.range 3).any (fun o1 => !(o1 == bg_hd n) && ((bg_os n).tail == [o1] && n == (2 ^ bg_hd n ||| 2 ^ o1) || (List.range 3).any (fun o2 => !(o2 == bg_hd n) && !(o2 == o1) && (bg_os n).tail == [o1, o2] && n == (2 ^ bg_hd n ||| 2 ^ o1 ||| 2 ^ o2))))))) = true := by
  decide +kernel
theorem bg_os_cases {n : Nat} (h0 : 0 < n) (h8 : n < 8) : bg_hd n < 3 ∧ (((bg_os n).tail = [] ∧ n = 2 ^ bg_hd n) ∨
    ∃ o1, o1 < 3 ∧ bg_hd n ≠ o1 ∧ (((bg_os n).tail = [o1] ∧ n = 2 ^ bg_hd n ||| 2 ^ o1) ∨ ∃ o2, o2 < 3 ∧ bg_hd n ≠ o2 ∧ o1 ≠ o2 ∧ (bg_os n).tail = [o1, o2] ∧ n = 2 ^ bg_hd n ||| 2 ^ o1 ||| 2 ^ o2)) := by
  have h := List.all_eq_true.mp bg_os_all n (List.mem_range.mpr h8)
  simp only [Bool.or_eq_true, Bool.and_eq_true, beq_iff_eq, List.any_eq_true, List.mem_range, Bool.not_eq_true', beq_eq_false_iff_ne, Nat.blt_eq] at h
  rcases h with h | ⟨h1, h⟩
  · omega
  · refine ⟨h1, ?_⟩
    rcases h with h | ⟨o1, a, b, h⟩
    · exact Or.inl h
    · refine Or.inr ⟨o1, a, fun z => b z.symm, ?_⟩
      rcases h with h | ⟨o2, c, ⟨⟨d, e⟩, f⟩, g⟩
      · exact Or.inl h
      · exact Or.inr ⟨o2, c, fun z => d z.symm, fun z => e z.symm, f, g⟩
/-- what holds of a list of rays ahead of the choices rest -/
def bg_St (l : Nat → Nat → Nat) (own other : Nat) (rest : List Nat) (R : List bg_Ray) : Prop :=
  bg_chk own (bg_P own other) rest (R.map (fun r => r.2)) = true ∧ (∃ sf, ∀ r, r ∈ R → bg_V l own sf r) ∧ (∀ r, r ∈ R → ∀ c, c < 3 → r.1 c ≤ 1296)
theorem bg_last_pos {l : Nat → Nat → Nat} {own sf o : Nat} {R : List bg_Ray} (hV : ∀ r, r ∈ R → bg_V l own sf r) : ∀ r, r ∈ R → r.2 = own → 0 < bg_slk l o r := by
  intro r hr e
  have := (bg_V_last (hV r hr) (bg_V_own (hV r hr) e)).2 o
  omega
theorem bg_stages {l : Nat → Nat → Nat} (hl : bg_lo l) {own other : Nat} (h1 : 0 < own) (h2 : own < 8) (h3 : 0 < other) (h4 : other < 8) :
    (∀ d rest, (bg_os other).tail = d ++ rest → bg_St l own other rest (bg_fold l d (bg_init l own (bg_hd other)))) ∧ ∀ r, r ∈ bg_pre l own other → bg_V l own other r := by
  have hs := bg_os_cases h3 h4
  have hst := hs.1
  have hI := bg_init_V (l := l) h2 hst
  have hc0 : bg_chk own (bg_P own other) (bg_os other).tail ((bg_init l own (bg_hd other)).map (fun r => r.2)) = true := by
    rw [bg_init_t]
    exact bg_run h1 h2 h3 h4
  have hV0 : ∀ r, r ∈ bg_init l own (bg_hd other) → bg_V l own (2 ^ bg_hd other) r := fun r hr => (hI r hr).1
  have s0 : bg_St l own other (bg_os other).tail (bg_init l own (bg_hd other)) :=
    ⟨hc0, ⟨_, hV0⟩, fun r hr c hc => by have := (hI r hr).2; have := bg_S_le r hc; omega⟩
  rcases hs.2 with ⟨e, en⟩ | ⟨o1, a1, b1, ⟨e, en⟩ | ⟨o2, a2, b2, c2, e, en⟩⟩
  · constructor
    · intro d rest hd
      rw [e] at hd
      have := List.append_eq_nil_iff.mp hd.symm
      rw [this.1, this.2]
      rw [e] at s0
      exact s0
    · unfold bg_pre
      rw [e]
      intro r hr
      have := hV0 r hr
      rw [← en] at this
      exact this
  · have hV1 := bg_V_step (o := o1) a1 (Nat.testBit_two_pow_of_ne b1) hV0
    have hB1 := bg_L01 hl a1 b1 hV0 (fun r hr => (hI r hr).2)
    rw [e] at hc0 s0
    have s1 : bg_St l own other [] (bg_step l o1 (bg_init l own (bg_hd other))) :=
      ⟨bg_chk_step hc0 (bg_last_pos hV0), ⟨_, hV1⟩, fun r hr c hc => by
        have := bg_S_le r hc
        rcases hB1 r hr with z | z
        · omega
        · have := z.1; omega⟩
    constructor
    · intro d rest hd
      rw [e] at hd
      match d, hd with
      | [], hd => rw [List.nil_append] at hd; rw [← hd]; exact s0
      | [x], hd =>
        have := List.cons.inj hd
        rw [← this.1]
        have e2 : rest = [] := this.2.symm
        rw [e2]
        exact s1
      | x :: y :: d, hd =>
        have := (List.cons.inj hd).2
        exact absurd this (by simp)
    · unfold bg_pre
      rw [e]
      intro r hr
      have := hV1 r hr
      rw [← en] at this
      exact this
  · have hV1 := bg_V_step (o := o1) a1 (Nat.testBit_two_pow_of_ne b1) hV0
    have hB1 := bg_L01 hl a1 b1 hV0 (fun r hr => (hI r hr).2)
    have hn2 : (2 ^ bg_hd other ||| 2 ^ o1).testBit o2 = false := by
      rw [Nat.testBit_or, Nat.testBit_two_pow_of_ne b2, Nat.testBit_two_pow_of_ne c2]
      rfl
    have hV2 := bg_V_step (o := o2) a2 hn2 hV1
    have hB2 := bg_L12 hl hst a1 a2 hn2 hV1 hB1
    rw [e] at hc0 s0
    have k1 := bg_chk_step (l := l) hc0 (bg_last_pos hV0)
    have s1 : bg_St l own other [o2] (bg_step l o1 (bg_init l own (bg_hd other))) :=
      ⟨k1, ⟨_, hV1⟩, fun r hr c hc => by
        have := bg_S_le r hc
        rcases hB1 r hr with z | z
        · omega
        · have := z.1; omega⟩
    have s2 : bg_St l own other [] (bg_step l o2 (bg_step l o1 (bg_init l own (bg_hd other)))) :=
      ⟨bg_chk_step k1 (bg_last_pos hV1), ⟨_, hV2⟩, hB2⟩
    constructor
    · intro d rest hd
      rw [e] at hd
      match d, hd with
      | [], hd => rw [List.nil_append] at hd; rw [← hd]; exact s0
      | [x], hd =>
        have := List.cons.inj hd
        rw [← this.1]
        have e2 : rest = [o2] := this.2.symm
        rw [e2]
        exact s1
      | [x, y], hd =>
        have t := List.cons.inj hd
        have t2 := List.cons.inj t.2
        rw [← t.1, ← t2.1]
        have e2 : rest = [] := t2.2.symm
        rw [e2]
        exact s2
      | x :: y :: z :: d, hd =>
        have := (List.cons.inj (List.cons.inj hd).2).2
        exact absurd this (by simp)
    · unfold bg_pre
      rw [e]
      intro r hr
      have := hV2 r hr
      rw [← en] at this
      exact this
theorem bg_St_len {l : Nat → Nat → Nat} {own other : Nat} {rest : List Nat} {R : List bg_Ray} (h : bg_St l own other rest R) : R.length ≤ 10 := by
  have h1 := bg_chk_P h.1
  unfold bg_P bg_ok at h1
  simp only [Bool.and_eq_true] at h1
  have := Nat.le_of_ble_eq_true h1.1.1.1.1
  rw [List.length_map] at this
  exact this
end
end
section
section
theorem bg_cone_V {l : Nat → Nat → Nat} (hl : bg_lo l) {own other : Nat} (h1 : 0 < own) (h2 : own < 8) (h3 : 0 < other) (h4 : other < 8) :
    ∀ r, r ∈ bg_cone l own other → bg_V l own other r ∧ 0 < bg_S r ∧ ∀ c, c < 3 → r.1 c ≤ 1296 := by
  intro r hr
  unfold bg_cone at hr
  rw [List.mem_filter] at hr
  have hs := bg_stages hl h1 h2 h3 h4
  have s := hs.1 (bg_os other).tail [] (List.append_nil _).symm
  refine ⟨hs.2 r hr.1, ?_, s.2.2 r hr.1⟩
  have h := hr.2
  simp at h
  omega
theorem bg_pre_P {l : Nat → Nat → Nat} (hl : bg_lo l) {own other : Nat} (h1 : 0 < own) (h2 : own < 8) (h3 : 0 < other) (h4 : other < 8) :
    bg_P own other [] ((bg_pre l own other).map (fun r => r.2)) = true :=
  bg_chk_P ((bg_stages hl h1 h2 h3 h4).1 (bg_os other).tail [] (List.append_nil _).symm).1
theorem bg_pre_own {l : Nat → Nat → Nat} (hl : bg_lo l) {own other : Nat} (h1 : 0 < own) (h2 : own < 8) (h3 : 0 < other) (h4 : other < 8) :
    ∀ r, r ∈ bg_pre l own other → (r.2 = own ↔ bg_S r = 0) := by
  intro r hr
  have V := (bg_stages hl h1 h2 h3 h4).2 r hr
  constructor
  · intro e
    have := bg_V_own V e
    unfold bg_S
    rw [this 0 (by omega), this 1 (by omega), this 2 (by omega)]
  · intro z
    exact bg_V_zero h2 V (bg_S0 z)
theorem bg_cone_len {l : Nat → Nat → Nat} (hl : bg_lo l) {own other : Nat} (h1 : 0 < own) (h2 : own < 8) (h3 : 0 < other) (h4 : other < 8) :
    (bg_cone l own other).length ≤ 9 ∧ ∀ i, i < 6 → ((bg_cone l own other).filter (fun r => r.2.testBit i)).length ≤ 7 := by
  have hp := bg_pre_P hl h1 h2 h3 h4
  have ho := bg_pre_own hl h1 h2 h3 h4
  unfold bg_P bg_ok at hp
  simp only [Bool.and_eq_true] at hp
  constructor
  · have h := Nat.le_of_ble_eq_true hp.1.1.1.2
    rw [List.filter_map, List.length_map] at h
    unfold bg_cone
    rw [List.filter_congr (q := (fun t => !(t == own)) ∘ (fun r : bg_Ray => r.2))]
    · exact h
    · intro r hr
      have := ho r hr
      show (!(bg_S r == 0)) = !(r.2 == own)
      by_cases e : bg_S r = 0
      · rw [this.mpr e, e]; simp
      · have h5 : ¬ r.2 = own := fun z => e (this.mp z)
        rw [beq_eq_false_iff_ne.mpr e, beq_eq_false_iff_ne.mpr h5]
        try simp
  · intro i hi
    have h := Nat.le_of_ble_eq_true (List.all_eq_true.mp hp.1.2 i (List.mem_range.mpr hi))
    rw [List.filter_map, List.length_map] at h
    unfold bg_cone
    rw [List.filter_filter]
    rw [List.filter_congr (q := (fun t => !(t == own) && t.testBit i) ∘ (fun r : bg_Ray => r.2))]
    · exact h
    · intro r hr
      have := ho r hr
      show (r.2.testBit i && !(bg_S r == 0)) = (!(r.2 == own) && r.2.testBit i)
      by_cases e : bg_S r = 0
      · rw [this.mpr e, e]; simp
      · have h5 : ¬ r.2 = own := fun z => e (this.mp z)
        rw [beq_eq_false_iff_ne.mpr e, beq_eq_false_iff_ne.mpr h5]
        try simp
theorem bg_cone_mem {l : Nat → Nat → Nat} {own other : Nat} {r : bg_Ray} (h : r ∈ bg_pre l own other) (hs : 0 < bg_S r) : r ∈ bg_cone l own other := by
  unfold bg_cone
  rw [List.mem_filter]
  refine ⟨h, ?_⟩
  have : ¬ bg_S r = 0 := by omega
  simp [this]
theorem bg_unit_one {l : Nat → Nat → Nat} {own sf c : Nat} {r : bg_Ray} (V : bg_V l own sf r) (hc : c < 3) (hs : 0 < bg_S r) (hz : ∀ d, d < 3 → d ≠ c → r.1 d = 0) : r.1 c = 1 := by
  rcases V.2.2.2.2.2.1 with h | ⟨o, ho, _, e⟩
  · exfalso
    unfold bg_S at hs
    rw [h 0 (by omega), h 1 (by omega), h 2 (by omega)] at hs
    omega
  · have hd : ∀ i, i < 4 → r.1 c ∣ r.1 i := by
      have h3 : ∀ i, i < 3 → r.1 c ∣ r.1 i := by
        intro i hi
        by_cases e : i = c
        · rw [e]; exact Nat.dvd_refl _
        · rw [hz i hi e]; exact Nat.dvd_zero _
      intro i hi
      by_cases e3 : i = 3
      · rw [e3]
        have e4 : r.1 3 = bg_dot l o r.1 := by unfold bg_slk at e; omega
        rw [e4]
        unfold bg_dot
        exact Nat.dvd_add (Nat.dvd_add (Nat.dvd_trans (h3 0 (by omega)) (Nat.dvd_mul_right _ _)) (Nat.dvd_trans (h3 1 (by omega)) (Nat.dvd_mul_right _ _))) (Nat.dvd_trans (h3 2 (by omega)) (Nat.dvd_mul_right _ _))
      · exact h3 i (by omega)
    have := bg_dvd_gk r.1 (r.1 c) 4 hd
    rw [V.2.2.2.2.1] at this
    exact Nat.dvd_one.mp this
theorem bg_cone_unit {l : Nat → Nat → Nat} (hl : bg_lo l) {own other : Nat} (h1 : 0 < own) (h2 : own < 8) (h3 : 0 < other) (h4 : other < 8) {c : Nat} (hc : c < 3) (hb : own.testBit c = true) :
    ∃ r, r ∈ bg_cone l own other ∧ r.1 c = 1 ∧ ∀ d, d < 3 → d ≠ c → r.1 d = 0 := by
  have hp := bg_pre_P hl h1 h2 h3 h4
  unfold bg_P bg_ok at hp
  simp only [Bool.and_eq_true] at hp
  have h := List.all_eq_true.mp hp.1.1.2 c (List.mem_range.mpr hc)
  rw [hb] at h
  simp only [Bool.not_true, Bool.false_or, List.any_eq_true, beq_iff_eq] at h
  obtain ⟨t, ht, et⟩ := h
  obtain ⟨r, hr, rfl⟩ := List.mem_map.mp ht
  have V := (bg_stages hl h1 h2 h3 h4).2 r hr
  have bits : ∀ d, d < 3 → r.2.testBit d = (own ^^^ 2 ^ c).testBit d := by
    intro d hd
    rw [← et, Nat.testBit_and]
    have : Nat.testBit 7 d = true := by
      match d, hd with
      | 0, _ => rfl
      | 1, _ => rfl
      | 2, _ => rfl
    rw [this, Bool.and_true]
  have hz : ∀ d, d < 3 → d ≠ c → r.1 d = 0 := by
    intro d hd hn
    cases ho : own.testBit d with
    | false => exact V.1 d hd ho
    | true =>
      have := bits d hd
      rw [Nat.testBit_xor, Nat.testBit_two_pow_of_ne (fun z => hn z.symm), ho] at this
      exact ((V.2.1 d hd).mp this).2
  have hcn : r.1 c ≠ 0 := by
    intro z
    have h := (V.2.1 c hc).mpr ⟨hb, z⟩
    rw [bits c hc, Nat.testBit_xor, Nat.testBit_two_pow_self, hb] at h
    exact absurd h (by decide)
  have hS : 0 < bg_S r := by
    have := bg_S_le r hc
    omega
  exact ⟨r, bg_cone_mem hr hS, bg_unit_one V hc hS hz, hz⟩
theorem bg_cone_fit {l l' : Nat → Nat → Nat} (hl : bg_lo l) (hl' : bg_lo l') {own other : Nat} (hf : bg_full own other = true) :
    ∃ x, x ∈ bg_cone l own other ∧ ∃ y, y ∈ bg_cone l' other own ∧ bg_fit x.2 y.2 own other = true := by
  have hm := bg_full_mem hf
  have h1 : 0 < own ∧ own < 8 := by
    have := hm.1
    simp at this
    omega
  have h2 : 0 < other ∧ other < 8 := by
    have := hm.2
    simp at this
    omega
  have V1 := (bg_stages hl h1.1 h1.2 h2.1 h2.2).2
  have V2 := (bg_stages hl' h2.1 h2.2 h1.1 h1.2).2
  obtain ⟨t, ht, hto, u, hu, huo, e⟩ := bg_exists_fit hf (bg_pre_P hl h1.1 h1.2 h2.1 h2.2) (bg_pre_P hl' h2.1 h2.2 h1.1 h1.2)
    (by
      intro t ht
      obtain ⟨r, hr, rfl⟩ := List.mem_map.mp ht
      exact (V1 r hr).2.2.2.2.2.2)
    (by
      intro t ht
      obtain ⟨r, hr, rfl⟩ := List.mem_map.mp ht
      exact (V2 r hr).2.2.2.2.2.2)
  obtain ⟨x, hx, rfl⟩ := List.mem_map.mp ht
  obtain ⟨y, hy, rfl⟩ := List.mem_map.mp hu
  refine ⟨x, bg_cone_mem hx ?_, y, bg_cone_mem hy ?_, e⟩
  · have := bg_pre_own hl h1.1 h1.2 h2.1 h2.2 x hx
    rcases Nat.eq_zero_or_pos (bg_S x) with z | z
    · exact absurd (this.mpr z) hto
    · exact z
  · have := bg_pre_own hl' h2.1 h2.2 h1.1 h1.2 y hy
    rcases Nat.eq_zero_or_pos (bg_S y) with z | z
    · exact absurd (this.mpr z) huo
    · exact z
/-- weak duality: what a side gets is at least what is sure -/
theorem bg_dual (x0 x1 x2 y0 y1 y2 z0 z1 z2 v w a00 a01 a02 a10 a11 a12 a20 a21 a22 : Int)
    (hx : 0 ≤ x0 + x1 + x2)
    (e0 : x0 * (v - (y0 * (10 + a00) + y1 * (10 + a01) + y2 * (10 + a02))) = 0)
    (e1 : x1 * (v - (y0 * (10 + a10) + y1 * (10 + a11) + y2 * (10 + a12))) = 0)
    (e2 : x2 * (v - (y0 * (10 + a20) + y1 * (10 + a21) + y2 * (10 + a22))) = 0)
    (f0 : 0 ≤ z0 * (v - (y0 * (10 + a00) + y1 * (10 + a01) + y2 * (10 + a02))))
    (f1 : 0 ≤ z1 * (v - (y0 * (10 + a10) + y1 * (10 + a11) + y2 * (10 + a12))))
    (f2 : 0 ≤ z2 * (v - (y0 * (10 + a20) + y1 * (10 + a21) + y2 * (10 + a22))))
    (g0 : 0 ≤ y0 * (w - (z0 * (10 - a00) + z1 * (10 - a10) + z2 * (10 - a20))))
    (g1 : 0 ≤ y1 * (w - (z0 * (10 - a01) + z1 * (10 - a11) + z2 * (10 - a21))))
    (g2 : 0 ≤ y2 * (w - (z0 * (10 - a02) + z1 * (10 - a12) + z2 * (10 - a22)))) :
    (10 * (z0 + z1 + z2) - w) * ((x0 + x1 + x2) * (y0 + y1 + y2)) ≤
      (x0 * y0 * a00 + x0 * y1 * a01 + x0 * y2 * a02 + x1 * y0 * a10 + x1 * y1 * a11 + x1 * y2 * a12 + x2 * y0 * a20 + x2 * y1 * a21 + x2 * y2 * a22) * (z0 + z1 + z2) := by
  have k : (x0 * y0 * a00 + x0 * y1 * a01 + x0 * y2 * a02 + x1 * y0 * a10 + x1 * y1 * a11 + x1 * y2 * a12 + x2 * y0 * a20 + x2 * y1 * a21 + x2 * y2 * a22) = (x0 + x1 + x2) * (v - 10 * (y0 + y1 + y2)) := by grind
  have m : (10 * (z0 + z1 + z2) - w) * (y0 + y1 + y2) ≤ (v - 10 * (y0 + y1 + y2)) * (z0 + z1 + z2) := by
    have s : 0 ≤ z0 * (v - (y0 * (10 + a00) + y1 * (10 + a01) + y2 * (10 + a02))) + z1 * (v - (y0 * (10 + a10) + y1 * (10 + a11) + y2 * (10 + a12))) + z2 * (v - (y0 * (10 + a20) + y1 * (10 + a21) + y2 * (10 + a22)))
      + y0 * (w - (z0 * (10 - a00) + z1 * (10 - a10) + z2 * (10 - a20))) + y1 * (w - (z0 * (10 - a01) + z1 * (10 - a11) + z2 * (10 - a21))) + y2 * (w - (z0 * (10 - a02) + z1 * (10 - a12) + z2 * (10 - a22))) := by omega
    have t : z0 * (v - (y0 * (10 + a00) + y1 * (10 + a01) + y2 * (10 + a02))) + z1 * (v - (y0 * (10 + a10) + y1 * (10 + a11) + y2 * (10 + a12))) + z2 * (v - (y0 * (10 + a20) + y1 * (10 + a21) + y2 * (10 + a22)))
      + y0 * (w - (z0 * (10 - a00) + z1 * (10 - a10) + z2 * (10 - a20))) + y1 * (w - (z0 * (10 - a01) + z1 * (10 - a11) + z2 * (10 - a21))) + y2 * (w - (z0 * (10 - a02) + z1 * (10 - a12) + z2 * (10 - a22)))
      = (v - 10 * (y0 + y1 + y2)) * (z0 + z1 + z2) - (10 * (z0 + z1 + z2) - w) * (y0 + y1 + y2) := by grind
    rw [t] at s
    omega
  rw [k]
  have n := Int.mul_le_mul_of_nonneg_left m hx
  have p1 : (10 * (z0 + z1 + z2) - w) * ((x0 + x1 + x2) * (y0 + y1 + y2)) = (x0 + x1 + x2) * ((10 * (z0 + z1 + z2) - w) * (y0 + y1 + y2)) := by grind
  have p2 : (x0 + x1 + x2) * (v - 10 * (y0 + y1 + y2)) * (z0 + z1 + z2) = (x0 + x1 + x2) * ((v - 10 * (y0 + y1 + y2)) * (z0 + z1 + z2)) := by grind
  rw [p1, p2]
  exact n
end
end
section
section
theorem bg_nand (a b : Nat) : nI a &&& nI b = nI (a &&& b) := by
  apply Int32.toBitVec_inj.1
  show BitVec.ofNat 32 a &&& BitVec.ofNat 32 b = BitVec.ofNat 32 (a &&& b)
  apply BitVec.eq_of_getLsbD_eq
  intro i hi
  simp [hi]
theorem bg_nor (a b : Nat) : nI a ||| nI b = nI (a ||| b) := by
  apply Int32.toBitVec_inj.1
  show BitVec.ofNat 32 a ||| BitVec.ofNat 32 b = BitVec.ofNat 32 (a ||| b)
  apply BitVec.eq_of_getLsbD_eq
  intro i hi
  simp [hi]
def bg_L (z : Int) : Int64 := Int64.ofInt z
theorem bg_L_N (n : Nat) : lN n = bg_L (n : Int) := rfl
theorem bg_L_add (a b : Int) : bg_L a + bg_L b = bg_L (a + b) := (Int64.ofInt_add a b).symm
theorem bg_L_mul (a b : Int) : bg_L a * bg_L b = bg_L (a * b) := (Int64.ofInt_mul a b).symm
theorem bg_L_neg (a : Int) : -bg_L a = bg_L (-a) := (Int64.ofInt_neg a).symm
theorem bg_L_sub (a b : Int) : bg_L a - bg_L b = bg_L (a - b) := (Int64.ofInt_sub a b).symm
theorem bg_L_toInt {z : Int} (h1 : -2 ^ 62 ≤ z) (h2 : z < 2 ^ 62) : (bg_L z).toInt = z := Int64.toInt_ofInt_of_le (by omega) (by omega)
theorem bg_L_le {a b : Int} (h1 : -2 ^ 62 ≤ a) (h2 : a < 2 ^ 62) (h3 : -2 ^ 62 ≤ b) (h4 : b < 2 ^ 62) : bg_L a ≤ bg_L b ↔ a ≤ b := by
  rw [Int64.le_iff_toInt_le, bg_L_toInt h1 h2, bg_L_toInt h3 h4]
theorem bg_L_lt {a b : Int} (h1 : -2 ^ 62 ≤ a) (h2 : a < 2 ^ 62) (h3 : -2 ^ 62 ≤ b) (h4 : b < 2 ^ 62) : bg_L a < bg_L b ↔ a < b := by
  rw [Int64.lt_iff_toInt_lt, bg_L_toInt h1 h2, bg_L_toInt h3 h4]
theorem bg_L_eq {a b : Int} (h1 : -2 ^ 62 ≤ a) (h2 : a < 2 ^ 62) (h3 : -2 ^ 62 ≤ b) (h4 : b < 2 ^ 62) : bg_L a = bg_L b ↔ a = b := by
  rw [← Int64.toInt_inj, bg_L_toInt h1 h2, bg_L_toInt h3 h4]
theorem bg_L_0 : bg_L 0 = 0 := rfl
theorem bg_ix4 (e i : Nat) : 4 * nI e + nI i = nI (4 * e + i) := by
  show nI 4 * nI e + nI i = _
  rw [pk_mul, nI_add]
theorem bg_ix3 (e i : Nat) : 3 * nI e + nI i = nI (3 * e + i) := by
  show nI 3 * nI e + nI i = _
  rw [pk_mul, nI_add]
theorem bg_u {f : Nat → Int32} {k k' : Nat} {x x' : Int32} (hk : k = k') (hx : x = x') : upd f k x = upd f k' x' := by rw [hk, hx]
theorem bg_uL {f : Nat → Int64} {k k' : Nat} {x x' : Int64} (hk : k = k') (hx : x = x') : vp_updL f k x = vp_updL f k' x' := by rw [hk, hx]
theorem bg_byte_all : ∀ n, n < 128 → (nI n).toInt8.toInt32 = nI n := by decide +kernel
theorem bg_nar {n : Nat} (h : n < 128) : vp_nar .byte (nI n) = nI n := by rw [vp_nar_byte]; exact bg_byte_all n h
theorem bg_isIn_all : ∀ n, n < 8 → ∀ k, k < 3 → ((((nI n >>> (nI k &&& 31)) &&& 1) = 0) ↔ n.testBit k = false) := by decide +kernel
theorem bg_isIn {fr fc fm fo ft fl fn : Int32} {fp fq : Int64} {a1 a2 : Nat → Int32} {a3 : Nat → Int64} {a4 : Nat → Int32} {a5 : Nat → Int64} {a6 : Nat → Int32} {a7 : Nat → Int64} {a8 a9 a10 : Nat → Int32} {post : Int32 → Prop} {n k : Nat} (hn : n < 8) (hk : k < 3) (h0 : n.testBit k = false → post 0) (h1 : n.testBit k = true → post 1) :
    wpX_isIn post (fr, fc, fm, fo, ft, fl, fn, fp, fq, a1, a2, a3, a4, a5, a6, a7, a8, a9, a10) (nI n) (nI k) := by
  unfold wpX_isIn
  refine ek_if (bg_isIn_all n hn k hk) h0 (fun z => h1 ?_)
  cases e : n.testBit k with
  | true => rfl
  | false => exact absurd e z
theorem bg_hd_all : ∀ n, n < 8 → 0 < n → bg_hd n < 3 ∧ n.testBit (bg_hd n) = true ∧ (∀ k, k < bg_hd n → n.testBit k = false) := by decide +kernel
theorem bg_lowestIn {fr fc fm fo ft fl fn : Int32} {fp fq : Int64} {a1 a2 : Nat → Int32} {a3 : Nat → Int64} {a4 : Nat → Int32} {a5 : Nat → Int64} {a6 : Nat → Int32} {a7 : Nat → Int64} {a8 a9 a10 : Nat → Int32} {post : Int32 → Prop} {n : Nat} (hn : n < 8) (h0 : 0 < n) (H : post (nI (bg_hd n))) :
    wpX_lowestIn post (fr, fc, fm, fo, ft, fl, fn, fp, fq, a1, a2, a3, a4, a5, a6, a7, a8, a9, a10) (nI n) := by
  have t := bg_hd_all n hn h0
  unfold wpX_lowestIn
  exact pk_loop (σ := Unit) (fun f i _ => wX_lowestIn_2 post (nI n) fr fc fm fo ft fl fn fp fq a1 a2 a3 a4 a5 a6 a7 a8 a9 a10 f (nI i)) (fun _ _ => True) (bg_hd n) 0 () (by omega) trivial
    (fun f _ _ => by
      unfold wX_lowestIn_2
      exact bg_isIn hn t.1 (fun z => absurd (t.2.1.symm.trans z) (by decide)) (fun _ => br_f (by decide) H))
    (fun f i _ hi _ hw => by
      unfold wX_lowestIn_2
      exact bg_isIn hn (by omega) (fun _ => br_t rfl (nm_r (nI_1 i) (hw () trivial))) (fun z => absurd ((t.2.2 i hi).symm.trans z) (by decide)))
theorem bg_gcd28 {fr fc fm fo ft fl fn : Int32} {fp fq : Int64} {a1 a2 : Nat → Int32} {a3 : Nat → Int64} {a4 : Nat → Int32} {a5 : Nat → Int64} {a6 : Nat → Int32} {a7 : Nat → Int64} {a8 a9 a10 : Nat → Int32} {post : Int64 → Prop} : ∀ (b a : Nat), a < 2 ^ 63 → b < 2 ^ 63 → post (lN (Nat.gcd a b)) → ∃ n, wX_commonDivisor_28 post fr fc fm fo ft fl fn fp fq a1 a2 a3 a4 a5 a6 a7 a8 a9 a10 n (lN a) (lN b) := by
  intro b
  induction b using Nat.strongRecOn with
  | ind b ih =>
    intro a ha hb H
    rcases Nat.eq_zero_or_pos b with z | z
    · subst z
      rw [Nat.gcd_zero_right] at H
      exact ⟨1, br_t rfl H⟩
    · have hm := Nat.mod_lt a z
      have hg : Nat.gcd b (a % b) = Nat.gcd a b := by
        rw [Nat.gcd_comm a b, Nat.gcd_rec b a, Nat.gcd_comm]
      obtain ⟨n, hn⟩ := ih (a % b) hm b hb (by omega) (by rw [hg]; exact H)
      have hne : ¬ lN b = 0 := by
        intro e
        have e2 : lN b = lN 0 := e
        rw [pk_lEQ hb (by omega)] at e2
        omega
      exact ⟨n + 1, br_f hne ⟨hne, nm_r (pk_lRem ha z hb) hn⟩⟩
theorem bg_abs (z : Int) (h1 : -2 ^ 62 ≤ z) (h2 : z < 2 ^ 62) {A : Int64 → Prop} (H : A (lN z.natAbs)) : (0 ≤ bg_L z → A (bg_L z)) ∧ (¬ 0 ≤ bg_L z → A (-bg_L z)) := by
  refine ek_if (d := 0 ≤ z) ?_ (fun z0 => ?_) (fun z0 => ?_)
  · rw [← bg_L_0, bg_L_le (by omega) (by omega) h1 h2]
  · have e : ((z.natAbs : Nat) : Int) = z := by omega
    rw [bg_L_N, e] at H
    exact H
  · have e : ((z.natAbs : Nat) : Int) = -z := by omega
    rw [bg_L_N, e] at H
    rw [bg_L_neg]
    exact H
theorem bg_gcd {fr fc fm fo ft fl fn : Int32} {fp fq : Int64} {a1 a2 : Nat → Int32} {a3 : Nat → Int64} {a4 : Nat → Int32} {a5 : Nat → Int64} {a6 : Nat → Int32} {a7 : Nat → Int64} {a8 a9 a10 : Nat → Int32} {post : Int64 → Prop} {z w : Int} (z1 : -2 ^ 62 ≤ z) (z2 : z < 2 ^ 62) (w1 : -2 ^ 62 ≤ w) (w2 : w < 2 ^ 62) (H : post (lN (Nat.gcd z.natAbs w.natAbs))) :
    wpX_commonDivisor post (fr, fc, fm, fo, ft, fl, fn, fp, fq, a1, a2, a3, a4, a5, a6, a7, a8, a9, a10) (bg_L z) (bg_L w) := by
  have key : ∃ n, wX_commonDivisor_28 post fr fc fm fo ft fl fn fp fq a1 a2 a3 a4 a5 a6 a7 a8 a9 a10 n (lN z.natAbs) (lN w.natAbs) := bg_gcd28 _ _ (by omega) (by omega) H
  have k2 : wX_commonDivisor_12 post (bg_L w) (lN z.natAbs) fr fc fm fo ft fl fn fp fq a1 a2 a3 a4 a5 a6 a7 a8 a9 a10 := by
    have h := bg_abs w w1 w2 (A := fun y => ∃ n, wX_commonDivisor_28 post fr fc fm fo ft fl fn fp fq a1 a2 a3 a4 a5 a6 a7 a8 a9 a10 n (lN z.natAbs) y) key
    exact ⟨h.1, fun q => nm_e (h.2 q)⟩
  exact bg_abs z z1 z2 (A := fun y => wX_commonDivisor_12 post (bg_L w) y fr fc fm fo ft fl fn fp fq a1 a2 a3 a4 a5 a6 a7 a8 a9 a10) k2
theorem bg_gcdN {fr fc fm fo ft fl fn : Int32} {fp fq : Int64} {a1 a2 : Nat → Int32} {a3 : Nat → Int64} {a4 : Nat → Int32} {a5 : Nat → Int64} {a6 : Nat → Int32} {a7 : Nat → Int64} {a8 a9 a10 : Nat → Int32} {post : Int64 → Prop} {a b : Nat} (ha : a < 2 ^ 62) (hb : b < 2 ^ 62) (H : post (lN (Nat.gcd a b))) :
    wpX_commonDivisor post (fr, fc, fm, fo, ft, fl, fn, fp, fq, a1, a2, a3, a4, a5, a6, a7, a8, a9, a10) (lN a) (lN b) :=
  bg_gcd (z := (a : Int)) (w := (b : Int)) (by omega) (by omega) (by omega) (by omega) H
theorem bg_sumOf {fr fc fm fo ft fl fn : Int32} {fp fq : Int64} {a1 a2 : Nat → Int32} {a3 : Nat → Int64} {a4 : Nat → Int32} {a5 : Nat → Int64} {a6 : Nat → Int32} {a7 : Nat → Int64} {a8 a9 a10 : Nat → Int32} {post : Int64 → Prop} {e : Nat} {r : bg_Ray} (he : e < 48) (h : ∀ i, i < 4 → a3 (4 * e + i) = lN (r.1 i)) (H : post (lN (bg_S r))) :
    wpX_sumOf post (fr, fc, fm, fo, ft, fl, fn, fp, fq, a1, a2, a3, a4, a5, a6, a7, a8, a9, a10) (nI e) := by
  have x0 : 4 * nI e = nI (4 * e) := pk_mul 4 e
  have x1 : 4 * nI e + 1 = nI (4 * e + 1) := bg_ix4 e 1
  have x2 : 4 * nI e + 2 = nI (4 * e + 2) := bg_ix4 e 2
  unfold wpX_sumOf
  refine ⟨pk_in (4 * e) 192 (by omega) x0, pk_in (4 * e + 1) 192 (by omega) x1, pk_in (4 * e + 2) 192 (by omega) x2, ?_⟩
  rw [pk_cl (4 * e) x0, pk_cl (4 * e + 1) x1, pk_cl (4 * e + 2) x2, h 1 (by omega), h 2 (by omega), show a3 (4 * e) = lN (r.1 0) from h 0 (by omega), lN_add, lN_add]
  exact H
theorem bg_fit_all : ∀ (x y R C : Nat), x < 64 → y < 64 → R < 8 → C < 8 → (((nI x ||| (nI y >>> ((3 : Int32) &&& 31))) &&& nI R) = nI R ↔ ((x ||| (y >>> 3)) &&& R) = R) := by
  intro x y R C hx hy hR hC
  rw [pk_shrN (by omega) _ 3 (by decide), bg_nor, bg_nand, ← Nat.shiftRight_eq_div_pow]
  rw [nI_eq]
  · have h : (x ||| (y >>> 3)) &&& R ≤ R := Nat.and_le_right
    omega
  · omega
theorem bg_fitW {fr fc fm fo ft fl fn : Int32} {fp fq : Int64} {a1 a2 : Nat → Int32} {a3 : Nat → Int64} {a4 : Nat → Int32} {a5 : Nat → Int64} {a6 : Nat → Int32} {a7 : Nat → Int64} {a8 a9 a10 : Nat → Int32} {post : Int32 → Prop} {x y R C : Nat} (hx : x < 64) (hy : y < 64) (hR : R < 8) (hC : C < 8) (H0 : bg_fit x y R C = false → post 0) (H1 : bg_fit x y R C = true → post 1) :
    wpX_fit post (fr, fc, fm, fo, ft, fl, fn, fp, fq, a1, a2, a3, a4, a5, a6, a7, a8, a9, a10) (nI x) (nI y) (nI R) (nI C) := by
  unfold wpX_fit
  unfold bg_fit at H0 H1
  refine ek_if (bg_fit_all x y R C hx hy hR hC) (fun z => ?_) (fun z => ?_)
  · unfold wX_fit_16
    refine br_f (by decide) (ek_if (bg_fit_all y x C R hy hx hC hR) (fun w => H1 ?_) (fun w => H0 ?_))
    · rw [z, w]; simp
    · rw [z, beq_eq_false_iff_ne.mpr w]; simp
  · unfold wX_fit_16
    refine br_t rfl (H0 ?_)
    rw [beq_eq_false_iff_ne.mpr z]; simp
end
end
section
section
def bg_I (z : Int) : Int32 := Int32.ofInt z
def bg_py (A B : Nat → Nat → Int) (s i j : Nat) : Int := if s = 0 then A i j else B i j
def bg_pm (A B : Nat → Nat → Int) (a : Nat → Int32) : Prop := ∀ s i j, s < 2 → i < 3 → j < 3 → a (9 * s + 3 * i + j) = bg_I (bg_py A B s i j)
def bg_rg (A B : Nat → Nat → Int) : Prop := ∀ s i j, s < 2 → i < 3 → j < 3 → -9 ≤ bg_py A B s i j ∧ bg_py A B s i j ≤ 9
def bg_ls (A B : Nat → Nat → Int) (side own c o : Nat) : Nat :=
  if own = 0 then (10 + bg_py A B (1 - side) (if side = 0 then c else o) (if side = 0 then o else c)).toNat else (10 - bg_py A B side (if side = 0 then c else o) (if side = 0 then o else c)).toNat
def bg_lm (l : Nat → Nat → Nat) (a : Nat → Int32) : Prop := ∀ c o, c < 3 → o < 3 → a (3 * c + o) = nI (l c o)
theorem bg_ls_lo {A B : Nat → Nat → Int} (hr : bg_rg A B) {side own : Nat} (hs : side < 2) : bg_lo (bg_ls A B side own) := by
  intro c o hc ho
  have hi : (if side = 0 then c else o) < 3 := by split <;> assumption
  have hj : (if side = 0 then o else c) < 3 := by split <;> assumption
  unfold bg_ls
  have h1 := hr (1 - side) _ _ (by omega) hi hj
  have h2 := hr side _ _ hs hi hj
  split <;> omega
theorem bg_ixp (s i j : Nat) : 9 * nI s + 3 * nI i + nI j = nI (9 * s + 3 * i + j) := by
  show nI 9 * nI s + nI 3 * nI i + nI j = _
  rw [pk_mul, pk_mul, nI_add, nI_add]
theorem bg_payment {fr fc fm fo ft fl fn : Int32} {fp fq : Int64} {a1 a2 : Nat → Int32} {a3 : Nat → Int64} {a4 : Nat → Int32} {a5 : Nat → Int64} {a6 : Nat → Int32} {a7 : Nat → Int64} {a8 a9 a10 : Nat → Int32} {post : Int32 → Prop} {A B : Nat → Nat → Int} (hp : bg_pm A B a1) {s i j : Nat} (hs : s < 2) (hi : i < 3) (hj : j < 3) (H : post (bg_I (bg_py A B s i j))) :
    wpX_payment post (fr, fc, fm, fo, ft, fl, fn, fp, fq, a1, a2, a3, a4, a5, a6, a7, a8, a9, a10) (nI s) (nI i) (nI j) := by
  have x := bg_ixp s i j
  unfold wpX_payment
  refine ⟨pk_in _ 18 (by omega) x, ?_⟩
  rw [pk_cl _ x, hp s i j hs hi hj]
  exact H
theorem bg_bl_all : ∀ k : Nat, k < 19 → (10 + bg_I ((k : Int) - 9)).toInt8.toInt32 = nI (k + 1) ∧ (10 - bg_I ((k : Int) - 9)).toInt8.toInt32 = nI (19 - k) := by decide +kernel
theorem bg_bl {z : Int} (h1 : -9 ≤ z) (h2 : z ≤ 9) : (10 + bg_I z).toInt8.toInt32 = nI (10 + z).toNat ∧ (10 - bg_I z).toInt8.toInt32 = nI (10 - z).toNat := by
  have h := bg_bl_all (z + 9).toNat (by omega)
  have e : (((z + 9).toNat : Nat) : Int) - 9 = z := by omega
  rw [e] at h
  rw [show (10 + z).toNat = (z + 9).toNat + 1 by omega, show (10 - z).toNat = 19 - (z + 9).toNat by omega]
  exact h
theorem bg_m01 {s : Nat} (hs : s < 2) : 1 - nI s = nI (1 - s) := pk_sub (a := 1) (b := s) (by omega)
theorem bg_sl38 {fr fc fm fo ft fl fn : Int32} {fp fq : Int64} {a1 a2 : Nat → Int32} {a3 : Nat → Int64} {a4 : Nat → Int32} {a5 : Nat → Int64} {a6 : Nat → Int32} {a7 : Nat → Int64} {a8 a9 a10 : Nat → Int32} {post : St1 → Prop} {J2 J10} {A B : Nat → Nat → Int} (hp : bg_pm A B a1) (hr : bg_rg A B) {side own c o i j : Nat} (hs : side < 2) (hc : c < 3) (ho : o < 3) (hi : i < 3) (hj : j < 3) (how : own < 2)
    (H : J10 (nI (o + 1)) a1 a2 a3 a4 a5 a6 a7 (upd a8 (3 * c + o) (nI (if own = 0 then (10 + bg_py A B (1 - side) i j).toNat else (10 - bg_py A B side i j).toNat))) a9 a10) :
    wX_setLosses_38 post J2 J10 (nI side) (nI own) (nI c) (nI o) (nI i) (nI j) fr fc fm fo ft fl fn fp fq a1 a2 a3 a4 a5 a6 a7 a8 a9 a10 := by
  unfold wX_setLosses_38
  have x := bg_ix3 c o
  refine pk_eq own 0 (fun z => ?_) (fun z => ?_)
  · rw [if_pos z] at H
    rw [bg_m01 hs]
    have b := bg_bl (hr (1 - side) i j (by omega) hi hj).1 (hr (1 - side) i j (by omega) hi hj).2
    exact bg_payment hp (by omega) hi hj ⟨pk_in _ 9 (by omega) x, nm_r (bg_u (pk_cl _ x) b.1) (nm_r (nI_1 o) H)⟩
  · rw [if_neg z] at H
    have b := bg_bl (hr side i j hs hi hj).1 (hr side i j hs hi hj).2
    exact bg_payment hp hs hi hj ⟨pk_in _ 9 (by omega) x, nm_r (bg_u (pk_cl _ x) b.2) (nm_r (nI_1 o) H)⟩
theorem bg_setLosses {fr fc fm fo ft fl fn : Int32} {fp fq : Int64} {a1 a2 : Nat → Int32} {a3 : Nat → Int64} {a4 : Nat → Int32} {a5 : Nat → Int64} {a6 : Nat → Int32} {a7 : Nat → Int64} {a8 a9 a10 : Nat → Int32} {post : St1 → Prop} {A B : Nat → Nat → Int} (hp : bg_pm A B a1) (hr : bg_rg A B) {side own : Nat} (hs : side < 2) (how : own < 2)
    (H : ∀ b8, bg_lm (bg_ls A B side own) b8 → post (fr, fc, fm, fo, ft, fl, fn, fp, fq, a1, a2, a3, a4, a5, a6, a7, b8, a9, a10)) : wpX_setLosses post (fr, fc, fm, fo, ft, fl, fn, fp, fq, a1, a2, a3, a4, a5, a6, a7, a8, a9, a10) (nI side) (nI own) := by
  unfold wpX_setLosses
  refine pk_loop (fun n c s => wX_setLosses_2 post (nI side) (nI own) fr fc fm fo ft fl fn fp fq n (nI c) a1 a2 a3 a4 a5 a6 a7 s a9 a10) (fun c s => ∀ c' o, c' < c → o < 3 → s (3 * c' + o) = nI (bg_ls A B side own c' o)) 3 0 a8 (by omega) (fun c' o h _ => absurd h (by omega)) ?_ ?_
  · intro n s h
    exact pk_le 3 3 (fun _ => H s (fun c o hc ho => h c o hc ho)) (fun z => absurd z (by omega))
  · intro n c s hc h hw
    refine pk_le 3 c (fun z => absurd z (by omega)) (fun _ => ?_)
    refine pk_loop (fun m o s => wX_setLosses_10 post (wX_setLosses_2 post (nI side) (nI own) fr fc fm fo ft fl fn fp fq n) (nI side) (nI own) (nI c) fr fc fm fo ft fl fn fp fq m (nI o) a1 a2 a3 a4 a5 a6 a7 s a9 a10)
      (fun o s => (∀ c' o', c' < c → o' < 3 → s (3 * c' + o') = nI (bg_ls A B side own c' o')) ∧ (∀ o', o' < o → s (3 * c + o') = nI (bg_ls A B side own c o'))) 3 0 s (by omega) ⟨h, fun o' z => absurd z (by omega)⟩ ?_ ?_
    · intro m s hI
      refine pk_le 3 3 (fun _ => nm_r (nI_1 c) (hw s (fun c' o hc' ho => ?_))) (fun z => absurd z (by omega))
      by_cases e : c' = c
      · rw [e]; exact hI.2 o ho
      · exact hI.1 c' o (by omega) ho
    · intro m o s ho hI hw2
      have fin : wX_setLosses_10 post (wX_setLosses_2 post (nI side) (nI own) fr fc fm fo ft fl fn fp fq n) (nI side) (nI own) (nI c) fr fc fm fo ft fl fn fp fq m (nI (o + 1)) a1 a2 a3 a4 a5 a6 a7 (upd s (3 * c + o) (nI (bg_ls A B side own c o))) a9 a10 := by
        refine hw2 _ ⟨fun c' o' h1 h2 => ?_, fun o' h1 => ?_⟩
        · rw [pk_un (by omega)]
          exact hI.1 c' o' h1 h2
        · by_cases e : o' = o
          · rw [e, pk_us]
          · rw [pk_un (by omega)]
            exact hI.2 o' (by omega)
      refine pk_le 3 o (fun z => absurd z (by omega)) (fun _ => ?_)
      unfold bg_ls at fin
      refine pk_eq side 0 (fun z => ?_) (fun z => ?_)
      · rw [if_pos z, if_pos z] at fin
        unfold wX_setLosses_26
        exact pk_eq side 0 (fun _ => bg_sl38 hp hr hs hc ho hc ho how fin) (fun w => absurd z w)
      · rw [if_neg z, if_neg z] at fin
        unfold wX_setLosses_26
        exact pk_eq side 0 (fun w => absurd w z) (fun _ => bg_sl38 hp hr hs hc ho ho hc how fin)
/-- four places written from 4e on -/
def bg_put (a b : Nat → Int64) (e : Nat) (x : Nat → Nat) (n : Nat) : Prop := (∀ i, i < n → b (4 * e + i) = lN (x i)) ∧ (∀ j, j < 4 * e ∨ 4 * e + 4 ≤ j → b j = a j)
theorem bg_put_0 (a : Nat → Int64) (e : Nat) (x : Nat → Nat) : bg_put a a e x 0 := ⟨fun i h => absurd h (by omega), fun _ _ => rfl⟩
theorem bg_put_s {a b : Nat → Int64} {e n : Nat} {x : Nat → Nat} {v : Int64} (h : bg_put a b e x n) (hn : n < 4) (hv : v = lN (x n)) : bg_put a (vp_updL b (4 * e + n) v) e x (n + 1) := by
  refine ⟨fun i hi => ?_, fun j hj => ?_⟩
  · by_cases z : i = n
    · rw [z, pk_uLs, hv]
    · rw [pk_uLn (by omega)]
      exact h.1 i (by omega)
  · rw [pk_uLn (by omega)]
    exact h.2 j hj
theorem bg_addEdge {fr fc fm fo ft fl fn : Int32} {fp fq : Int64} {a1 a2 : Nat → Int32} {a3 : Nat → Int64} {a4 : Nat → Int32} {a5 : Nat → Int64} {a6 : Nat → Int32} {a7 : Nat → Int64} {a8 a9 a10 : Nat → Int32} {post : St1 → Prop} {side k c v t : Nat} (hs : side < 2) (hk : k < 24) (hc : c < 4) (hv : v < 128) (ht : t < 128) (h2 : a2 side = nI k)
    (H : ∀ b3, bg_put a3 b3 (24 * side + k) (fun i => if i = 3 then v else if i = c then 1 else 0) 4 → post (fr, fc, fm, fo, ft, fl, fn, fp, fq, a1, upd a2 side (nI (k + 1)), b3, upd a4 (24 * side + k) (nI t), a5, a6, a7, a8, a9, a10)) :
    wpX_addEdge post (fr, fc, fm, fo, ft, fl, fn, fp, fq, a1, a2, a3, a4, a5, a6, a7, a8, a9, a10) (nI side) (nI c) (nI v) (nI t) := by
  have cs : (nI side).toNatClampNeg = side := nI_clamp (by omega)
  have e5 : 24 * nI side + a2 (nI side).toNatClampNeg = nI (24 * side + k) := by
    rw [cs, h2]
    show nI 24 * nI side + nI k = _
    rw [pk_mul, nI_add]
  unfold wpX_addEdge
  refine ⟨pk_in side 2 hs, nm_r e5 ?_⟩
  refine pk_loop (fun n i s => wX_addEdge_16 post (nI side) (nI c) (nI v) (nI t) (nI (24 * side + k)) fr fc fm fo ft fl fn fp fq n (nI i) a1 a2 s a4 a5 a6 a7 a8 a9 a10) (fun i s => bg_put a3 s (24 * side + k) (fun _ => 0) i) 4 0 a3 (by omega) (bg_put_0 _ _ _) ?_ ?_
  · intro n s hI
    have xc := bg_ix4 (24 * side + k) c
    have x3 : 4 * nI (24 * side + k) + 3 = nI (4 * (24 * side + k) + 3) := bg_ix4 (24 * side + k) 3
    have ev : (nI v).toInt64 = lN v := nI_l (by omega)
    refine pk_le 4 4 (fun _ => ⟨pk_in _ 192 (by omega) xc, nm_r (bg_uL (pk_cl _ xc) rfl) ⟨pk_in _ 192 (by omega) x3, nm_r (bg_uL (pk_cl _ x3) ev) ⟨pk_in (24 * side + k) 48 (by omega), nm_r (bg_u (pk_cl (24 * side + k)) (bg_byte_all t ht)) ⟨pk_in side 2 hs, pk_in side 2 hs, nm_r (bg_u cs (by rw [cs, h2, nI_1])) (H _ ⟨fun i hi => ?_, fun j hj => ?_⟩)⟩⟩⟩⟩) (fun z => absurd z (by omega))
    · by_cases z : i = 3
      · rw [z, pk_uLs]; rfl
      · rw [pk_uLn (by omega)]
        by_cases w : i = c
        · rw [w, pk_uLs]
          show (1 : Int64) = lN (if c = 3 then v else if c = c then 1 else 0)
          rw [if_neg (by omega), if_pos rfl]
          rfl
        · rw [pk_uLn (by omega), hI.1 i hi]
          show lN 0 = lN (if i = 3 then v else if i = c then 1 else 0)
          rw [if_neg z, if_neg w]
    · rw [pk_uLn (by omega), pk_uLn (by omega)]
      exact hI.2 j hj
  · intro n i s hi hI hw
    have x := bg_ix4 (24 * side + k) i
    exact pk_le 4 i (fun z => absurd z (by omega)) (fun _ => ⟨pk_in _ 192 (by omega) x, nm_r (bg_uL (pk_cl _ x) rfl) (nm_r (nI_1 i) (hw _ (bg_put_s hI hi rfl)))⟩)
theorem bg_keepEdge {fr fc fo ft fl fn : Int32} {fp fq : Int64} {a1 a2 : Nat → Int32} {a3 : Nat → Int64} {a4 : Nat → Int32} {a5 : Nat → Int64} {a6 : Nat → Int32} {a7 : Nat → Int64} {a8 a9 a10 : Nat → Int32} {post : St1 → Prop} {e k t m : Nat} {x : Nat → Nat} (he : e < 48) (hk : k < 24) (ht : t ||| m < 128) (h3 : ∀ i, i < 4 → a3 (4 * e + i) = lN (x i)) (h4 : a4 e = nI t)
    (H : ∀ b5, bg_put a5 b5 k x 4 → post (fr, fc, nI (k + 1), fo, ft, fl, fn, fp, fq, a1, a2, a3, a4, b5, upd a6 k (nI (t ||| m)), a7, a8, a9, a10)) : wpX_keepEdge post (fr, fc, nI k, fo, ft, fl, fn, fp, fq, a1, a2, a3, a4, a5, a6, a7, a8, a9, a10) (nI e) (nI m) := by
  unfold wpX_keepEdge
  refine pk_loop (fun n i s => wX_keepEdge_2 post (nI e) (nI m) fr fc (nI k) fo ft fl fn fp fq n (nI i) a1 a2 a3 a4 s a6 a7 a8 a9 a10) (fun i s => bg_put a5 s k x i) 4 0 a5 (by omega) (bg_put_0 _ _ _) ?_ ?_
  · intro n s hI
    refine pk_le 4 4 (fun _ => ⟨pk_in e 48 he, pk_in k 24 hk, nm_r (bg_u (pk_cl k) ?_) (nm_r (nI_1 k) (H s hI))⟩) (fun z => absurd z (by omega))
    rw [pk_cl e, h4, bg_nor]
    exact bg_byte_all _ ht
  · intro n i s hi hI hw
    have x1 := bg_ix4 e i
    have x2 := bg_ix4 k i
    refine pk_le 4 i (fun z => absurd z (by omega)) (fun _ => ⟨pk_in _ 192 (by omega) x1, pk_in _ 96 (by omega) x2, nm_r (bg_uL (pk_cl _ x2) ?_) (nm_r (nI_1 i) (hw _ (bg_put_s hI hi rfl)))⟩)
    rw [pk_cl _ x1, h3 i hi]
end
end
section
section
def bg_hold (a : Nat → Int64) (b : Nat → Int32) (e : Nat) (R : List bg_Ray) : Prop := ∀ k r, R[k]? = some r → b (e + k) = nI r.2 ∧ ∀ i, i < 4 → a (4 * (e + k) + i) = lN (r.1 i)
theorem bg_hold_nil (a : Nat → Int64) (b : Nat → Int32) (e : Nat) : bg_hold a b e [] := by
  intro k r h
  rw [List.getElem?_nil] at h
  exact absurd h (by simp)
theorem bg_hold_snoc {a a' : Nat → Int64} {b : Nat → Int32} {e : Nat} {R : List bg_Ray} {r : bg_Ray} (h : bg_hold a b e R) (hp : bg_put a a' (e + R.length) r.1 4) : bg_hold a' (upd b (e + R.length) (nI r.2)) e (R ++ [r]) := by
  intro k s hk
  rcases Nat.lt_or_ge k R.length with z | z
  · rw [List.getElem?_append_left z] at hk
    have h1 := h k s hk
    refine ⟨?_, fun i hi => ?_⟩
    · rw [pk_un (by omega)]
      exact h1.1
    · rw [hp.2 _ (by omega)]
      exact h1.2 i hi
  · rw [List.getElem?_append_right z] at hk
    have e0 : k - R.length = 0 := by
      rcases Nat.eq_zero_or_pos (k - R.length) with y | y
      · exact y
      · rw [List.getElem?_eq_none (by simp; omega)] at hk
        exact absurd hk (by simp)
    rw [e0] at hk
    have er : r = s := by simpa using hk
    have ek : k = R.length := by omega
    rw [ek, ← er]
    exact ⟨pk_us, hp.1⟩
theorem bg_hold_at {a : Nat → Int64} {b : Nat → Int32} {e : Nat} {R : List bg_Ray} (h : bg_hold a b e R) {k : Nat} (hk : k < R.length) :
    b (e + k) = nI (R.getD k bg_d0).2 ∧ ∀ i, i < 4 → a (4 * (e + k) + i) = lN ((R.getD k bg_d0).1 i) := by
  apply h
  rw [List.getD_eq_getElem?_getD, List.getElem?_eq_getElem hk]
  rfl
theorem bg_getD_mem {R : List bg_Ray} {k : Nat} (hk : k < R.length) : R.getD k bg_d0 ∈ R := by
  rw [List.getD_eq_getElem?_getD, List.getElem?_eq_getElem hk]
  exact List.getElem_mem hk
theorem bg_areN {fr fc fm fo ft fl fn : Int32} {fp fq : Int64} {a1 a2 : Nat → Int32} {a3 : Nat → Int64} {a4 : Nat → Int32} {a5 : Nat → Int64} {a6 : Nat → Int32} {a7 : Nat → Int64} {a8 a9 a10 : Nat → Int32} {post : Int32 → Prop} {base k l : Nat} {ts : List Nat} (hb : base + ts.length ≤ 48) (hk : k < ts.length) (hl : l < ts.length) (ht : ∀ m, m < ts.length → ts.getD m 0 < 64)
    (h4 : ∀ m, m < ts.length → a4 (base + m) = nI (ts.getD m 0)) (H0 : bg_nb ts k l = false → post 0) (H1 : bg_nb ts k l = true → post 1) :
    wpX_areNeighbours post (fr, fc, fm, fo, ft, fl, fn, fp, fq, a1, a2, a3, a4, a5, a6, a7, a8, a9, a10) (nI base) (nI ts.length) (nI k) (nI l) := by
  have xk : nI base + nI k = nI (base + k) := nI_add base k
  have xl : nI base + nI l = nI (base + l) := nI_add base l
  unfold wpX_areNeighbours
  refine ⟨pk_in _ 48 (by omega) xk, pk_in _ 48 (by omega) xl, nm_r (e' := nI (ts.getD k 0 &&& ts.getD l 0)) (by rw [pk_cl _ xk, pk_cl _ xl, h4 k hk, h4 l hl, bg_nand]) ?_⟩
  have hc : ts.getD k 0 &&& ts.getD l 0 < 64 := Nat.lt_of_le_of_lt Nat.and_le_left (ht k hk)
  unfold bg_nb at H0 H1
  refine pk_loop (σ := Unit) (fun n m _ => wX_areNeighbours_23 post (nI base) (nI ts.length) (nI k) (nI l) (nI (ts.getD k 0 &&& ts.getD l 0)) fr fc fm fo ft fl fn fp fq a1 a2 a3 a4 a5 a6 a7 a8 a9 a10 n (nI m))
    (fun m _ => ∀ m', m' < m → (m' == k || m' == l || !((ts.getD m' 0 &&& (ts.getD k 0 &&& ts.getD l 0)) == (ts.getD k 0 &&& ts.getD l 0))) = true) ts.length 0 () (by omega) (fun m' h => absurd h (by omega)) ?_ ?_
  · intro n _ hI
    exact pk_le ts.length ts.length (fun _ => H1 (List.all_eq_true.mpr (fun m hm => hI m (List.mem_range.mp hm)))) (fun z => absurd z (by omega))
  · intro n m _ hm hI hw
    have go : (m == k || m == l || !((ts.getD m 0 &&& (ts.getD k 0 &&& ts.getD l 0)) == (ts.getD k 0 &&& ts.getD l 0))) = true →
        wX_areNeighbours_23 post (nI base) (nI ts.length) (nI k) (nI l) (nI (ts.getD k 0 &&& ts.getD l 0)) fr fc fm fo ft fl fn fp fq a1 a2 a3 a4 a5 a6 a7 a8 a9 a10 n (nI (m + 1)) := by
      intro h
      refine hw () (fun m' h' => ?_)
      by_cases e : m' = m
      · rw [e]; exact h
      · exact hI m' (by omega)
    refine pk_le ts.length m (fun z => absurd z (by omega)) (fun _ => ?_)
    refine pk_eq m k (fun z => nm_r (nI_1 m) (go (by simp [z]))) (fun z => ?_)
    refine pk_eq m l (fun z => nm_r (nI_1 m) (go (by simp [z]))) (fun z2 => ?_)
    have xm : nI base + nI m = nI (base + m) := nI_add base m
    refine ⟨pk_in _ 48 (by omega) xm, ?_⟩
    have ha := ht m hm
    have hle : ts.getD m 0 &&& (ts.getD k 0 &&& ts.getD l 0) < 64 := Nat.lt_of_le_of_lt Nat.and_le_left ha
    refine pk_eq (ts.getD m 0 &&& (ts.getD k 0 &&& ts.getD l 0)) (ts.getD k 0 &&& ts.getD l 0) (fun z3 => H0 ?_) (fun z3 => nm_r (nI_1 m) (go ?_)) (by rw [pk_cl _ xm, h4 m hm, bg_nand]) rfl (by omega) (by omega)
    · rw [Bool.eq_false_iff]
      intro h
      have h5 := List.all_eq_true.mp h m (List.mem_range.mpr hm)
      rw [z3, beq_eq_false_iff_ne.mpr z, beq_eq_false_iff_ne.mpr z2] at h5
      simp at h5
    · rw [beq_eq_false_iff_ne.mpr z3]
      simp
theorem bg_gk_lt {m : Nat → Nat} {K : Nat} (hK : 0 < K) : ∀ n, (∀ i, i < n → m i < K) → bg_gk m n < K := by
  intro n
  induction n with
  | zero => intro _; exact hK
  | succ n ih =>
    intro h
    show Nat.gcd (bg_gk m n) (m n) < K
    have h1 := ih (fun i hi => h i (by omega))
    rcases Nat.eq_zero_or_pos (bg_gk m n) with z | z
    · rw [z, Nat.gcd_zero_left]
      exact h n (by omega)
    · exact Nat.lt_of_le_of_lt (Nat.gcd_le_left _ z) h1
theorem bg_more_all : ∀ o, o < 3 → (8 : Int32) <<< (nI o &&& 31) = nI (2 ^ (3 + o)) := by decide +kernel
theorem bg_cross {fr fc fo ft fl fn : Int32} {fp fq : Int64} {a1 a2 : Nat → Int32} {a3 : Nat → Int64} {a4 : Nat → Int32} {a5 : Nat → Int64} {a6 : Nat → Int32} {a7 : Nat → Int64} {a8 a9 a10 : Nat → Int32} {post : St1 → Prop} {base k j mk o : Nat} {l : Nat → Nat → Nat} {p q : bg_Ray} (hbk : base + k < 48) (hbj : base + j < 48) (hk : k < 24) (hj : j < 24) (hm : mk < 24) (ho : o < 3)
    (k3 : ∀ i, i < 4 → a3 (4 * (base + k) + i) = lN (p.1 i)) (j3 : ∀ i, i < 4 → a3 (4 * (base + j) + i) = lN (q.1 i)) (k4 : a4 (base + k) = nI p.2) (j4 : a4 (base + j) = nI q.2) (hp : p.2 < 64) (hq : q.2 < 64)
    (k7 : a7 k = bg_L (bg_slk l o p)) (j7 : a7 j = bg_L (bg_slk l o q)) (sp : 0 < bg_slk l o p) (sq : bg_slk l o q < 0) (hB : ∀ i, i < 4 → bg_cm l o p q i < 2 ^ 62) (hg : 0 < bg_gk (bg_cm l o p q) 4)
    (H : ∀ b5, bg_put a5 b5 mk (bg_cr l o p q).1 4 → post (fr, fc, nI (mk + 1), fo, ft, fl, fn, fp, fq, a1, a2, a3, a4, b5, upd a6 mk (nI (bg_cr l o p q).2), a7, a8, a9, a10)) :
    wpX_cross post (fr, fc, nI mk, fo, ft, fl, fn, fp, fq, a1, a2, a3, a4, a5, a6, a7, a8, a9, a10) (nI base) (nI k) (nI j) (nI (2 ^ (3 + o))) := by
  have xk : nI base + nI k = nI (base + k) := nI_add base k
  have xj : nI base + nI j = nI (base + j) := nI_add base j
  unfold wpX_cross
  refine pk_loop (fun n i s => wX_cross_6 post (nI base) (nI k) (nI j) (nI (2 ^ (3 + o))) fr fc (nI mk) fo ft fl fn fp fq n s.1 (nI i) a1 a2 a3 a4 s.2 a6 a7 a8 a9 a10) (fun i s => s.1 = lN (bg_gk (bg_cm l o p q) i) ∧ bg_put a5 s.2 mk (bg_cm l o p q) i) 4 0 (0, a5) (by omega) ⟨rfl, bg_put_0 _ _ _⟩ ?_ ?_
  · intro n s hI
    obtain ⟨s1, s2⟩ := s
    obtain ⟨e1, hI⟩ := hI
    dsimp only at e1 hI
    subst e1
    refine pk_le 4 4 (fun _ => ?_) (fun z => absurd z (by omega))
    have gB : bg_gk (bg_cm l o p q) 4 < 2 ^ 62 := bg_gk_lt (by decide) 4 hB
    refine pk_loop (fun n i s => wX_cross_91 post (nI base) (nI k) (nI j) (nI (2 ^ (3 + o))) (lN (bg_gk (bg_cm l o p q) 4)) fr fc (nI mk) fo ft fl fn fp fq n (nI i) a1 a2 a3 a4 s a6 a7 a8 a9 a10)
      (fun i s => bg_put a5 s mk (bg_cr l o p q).1 i ∧ ∀ i', i ≤ i' → i' < 4 → s (4 * mk + i') = lN (bg_cm l o p q i')) 4 0 s2 (by omega) ⟨⟨fun i h => absurd h (by omega), hI.2⟩, fun i _ h => hI.1 i h⟩ ?_ ?_
    · intro n s h
      refine pk_le 4 4 (fun _ => ⟨pk_in _ 48 (by omega) xk, pk_in _ 48 (by omega) xj, pk_in mk 24 hm, nm_r (bg_u (pk_cl mk) ?_) (nm_r (nI_1 mk) (H s h.1))⟩) (fun z => absurd z (by omega))
      rw [pk_cl _ xk, pk_cl _ xj, k4, j4, bg_nand, bg_nor]
      have h1 : p.2 &&& q.2 < 2 ^ 6 := Nat.and_lt_two_pow _ hq
      have h2 : 2 ^ (3 + o) < 2 ^ 6 := Nat.pow_lt_pow_right (by omega) (by omega)
      have h3 : (p.2 &&& q.2) ||| 2 ^ (3 + o) < 2 ^ 6 := Nat.or_lt_two_pow h1 h2
      exact bg_byte_all _ (by omega)
    · intro n i s hi h hw
      have x := bg_ix4 mk i
      have ne : ¬ lN (bg_gk (bg_cm l o p q) 4) = 0 := by
        intro e
        have e2 : lN (bg_gk (bg_cm l o p q) 4) = lN 0 := e
        rw [pk_lEQ (by omega) (by omega)] at e2
        omega
      have hBi := hB i hi
      refine pk_le 4 i (fun z => absurd z (by omega)) (fun _ => ⟨pk_in _ 96 (by omega) x, ne, pk_in _ 96 (by omega) x, nm_r (bg_uL (pk_cl _ x) ?_) (nm_r (nI_1 i) (hw _ ⟨bg_put_s h.1 hi rfl, fun i' h1 h2 => ?_⟩))⟩)
      · rw [pk_cl _ x, h.2 i (by omega) hi, pk_lDiv (by omega) hg (by omega)]
        rfl
      · rw [pk_uLn (by omega)]
        exact h.2 i' (by omega) h2
  · intro n i s hi hI hw
    obtain ⟨s1, s2⟩ := s
    obtain ⟨e1, hI⟩ := hI
    dsimp only at e1 hI
    subst e1
    have y1 : 4 * (nI base + nI k) + nI i = nI (4 * (base + k) + i) := by rw [xk]; exact bg_ix4 _ i
    have y2 : 4 * (nI base + nI j) + nI i = nI (4 * (base + j) + i) := by rw [xj]; exact bg_ix4 _ i
    have x := bg_ix4 mk i
    have ev : a3 (4 * (nI base + nI k) + nI i).toNatClampNeg * -a7 (nI j).toNatClampNeg + a3 (4 * (nI base + nI j) + nI i).toNatClampNeg * a7 (nI k).toNatClampNeg = lN (bg_cm l o p q i) := by
      rw [pk_cl _ y1, pk_cl _ y2, pk_cl j, pk_cl k, k3 i hi, j3 i hi, k7, j7, bg_L_neg]
      have ea : (((-(bg_slk l o q)).toNat : Nat) : Int) = -(bg_slk l o q) := Int.toNat_of_nonneg (by omega)
      have eb : (((bg_slk l o p).toNat : Nat) : Int) = bg_slk l o p := Int.toNat_of_nonneg (by omega)
      unfold bg_cm bg_mix
      generalize (-(bg_slk l o q)).toNat = a at ea ⊢
      generalize (bg_slk l o p).toNat = b at eb ⊢
      rw [← ea, ← eb, ← bg_L_N, ← bg_L_N, lN_mul, lN_mul, lN_add]
    have gi : bg_gk (bg_cm l o p q) i < 2 ^ 62 := bg_gk_lt (by decide) i (fun i' h => hB i' (by omega))
    refine pk_le 4 i (fun z => absurd z (by omega)) (fun _ => ⟨pk_in _ 192 (by omega) y1, pk_in j 24 hj, pk_in _ 192 (by omega) y2, pk_in k 24 hk, nm_r ev ⟨pk_in _ 96 (by omega) x, nm_r (bg_uL (pk_cl _ x) rfl) ?_⟩⟩)
    exact bg_gcdN gi (hB i hi) (nm_r (nI_1 i) (hw (lN (bg_gk (bg_cm l o p q) (i + 1)), vp_updL s2 (4 * mk + i) (lN (bg_cm l o p q i))) ⟨rfl, bg_put_s hI hi rfl⟩))
end
end
section
section
def bg_fr (side : Nat) (a3 b3 : Nat → Int64) (a4 b4 : Nat → Int32) : Prop :=
  (∀ j, j < 4 * (24 * side) ∨ 4 * (24 * side + 24) ≤ j → b3 j = a3 j) ∧ (∀ j, j < 24 * side ∨ 24 * side + 24 ≤ j → b4 j = a4 j)
theorem bg_fr_0 (side : Nat) (a3 : Nat → Int64) (a4 : Nat → Int32) : bg_fr side a3 a3 a4 a4 := ⟨fun _ _ => rfl, fun _ _ => rfl⟩
theorem bg_fr_t {side : Nat} {a3 b3 c3 : Nat → Int64} {a4 b4 c4 : Nat → Int32} (h : bg_fr side a3 b3 a4 b4) (g : bg_fr side b3 c3 b4 c4) : bg_fr side a3 c3 a4 c4 :=
  ⟨fun j hj => (g.1 j hj).trans (h.1 j hj), fun j hj => (g.2 j hj).trans (h.2 j hj)⟩
theorem bg_fr_s {side k : Nat} {a3 b3 c3 : Nat → Int64} {a4 b4 : Nat → Int32} {x : Nat → Nat} {t : Int32} {n : Nat} (h : bg_fr side a3 b3 a4 b4) (hk : k < 24) (hp : bg_put b3 c3 (24 * side + k) x n) : bg_fr side a3 c3 a4 (upd b4 (24 * side + k) t) := by
  refine ⟨fun j hj => ?_, fun j hj => ?_⟩
  · rw [hp.2 j (by omega)]
    exact h.1 j hj
  · rw [pk_un (by omega)]
    exact h.2 j hj
def bg_pd (l : Nat → Nat → Nat) (o : Nat) (x : Nat → Nat) : Nat → Nat
  | 0 => 0
  | c + 1 => bg_pd l o x c + x c * l c o
theorem bg_pd3 (l : Nat → Nat → Nat) (o : Nat) (x : Nat → Nat) : bg_pd l o x 3 = bg_dot l o x := by
  show 0 + x 0 * l 0 o + x 1 * l 1 o + x 2 * l 2 o = _
  rw [Nat.zero_add]
  rfl
theorem bg_take_s {α : Type} {R : List α} {k : Nat} {r : α} (h : R[k]? = some r) : R.take (k + 1) = R.take k ++ [r] := by
  rw [List.take_add_one, h]
  rfl
theorem bg_fm_le {α β : Type} (F : α → List β) (l m : List α) : (l.flatMap F).length ≤ ((l ++ m).flatMap F).length := by
  rw [List.flatMap_append, List.length_append]
  omega
theorem bg_range_split {k n : Nat} (h : k ≤ n) : ∃ m, List.range n = List.range k ++ m := by
  obtain ⟨d, rfl⟩ := Nat.le.dest h
  rw [List.range_add]
  exact ⟨_, rfl⟩
theorem bg_part_le {l : Nat → Nat → Nat} {o : Nat} {R : List bg_Ray} {k j : Nat} (hk : k < R.length) (hj : j ≤ R.length) :
    (R.filterMap (bg_kp l o) ++ (List.range k).flatMap (fun k => (List.range R.length).filterMap (bg_cx l o R k)) ++ (List.range j).filterMap (bg_cx l o R k)).length ≤ (bg_step l o R).length := by
  unfold bg_step
  obtain ⟨m, hm⟩ := bg_range_split (show k + 1 ≤ R.length by omega)
  obtain ⟨m2, hm2⟩ := bg_range_split hj
  have h1 := bg_fm_le (fun k => (List.range R.length).filterMap (bg_cx l o R k)) (List.range (k + 1)) m
  rw [← hm, List.range_succ, List.flatMap_append] at h1
  have e : ([k].flatMap (fun k => (List.range R.length).filterMap (bg_cx l o R k))) = (List.range R.length).filterMap (bg_cx l o R k) := by simp
  have h2 : ((List.range j).filterMap (bg_cx l o R k)).length ≤ ((List.range R.length).filterMap (bg_cx l o R k)).length := by
    rw [hm2, List.filterMap_append, List.length_append]
    omega
  rw [e] at h1
  simp only [List.length_append] at h1 ⊢
  omega
theorem bg_kept_le {l : Nat → Nat → Nat} {o : Nat} {R : List bg_Ray} {k : Nat} : ((R.take k).filterMap (bg_kp l o)).length ≤ (bg_step l o R).length := by
  have h : R.filterMap (bg_kp l o) = (R.take k).filterMap (bg_kp l o) ++ (R.drop k).filterMap (bg_kp l o) := by
    rw [← List.filterMap_append, List.take_append_drop]
  unfold bg_step
  rw [h]
  simp only [List.length_append]
  omega
theorem bg_get {R : List bg_Ray} {k : Nat} (hk : k < R.length) : R[k]? = some (R.getD k bg_d0) := by
  rw [List.getD_eq_getElem?_getD, List.getElem?_eq_getElem hk]
  rfl
theorem bg_ac50 {fr fc fm fo ft fl fn : Int32} {fp fq : Int64} {a1 a2 : Nat → Int32} {a3 : Nat → Int64} {a4 : Nat → Int32} {a5 : Nat → Int64} {a6 : Nat → Int32} {a7 : Nat → Int64} {a8 a9 a10 : Nat → Int32} {post : St1 → Prop} {J16} {side k o len : Nat} {l : Nat → Nat → Nat} {r : bg_Ray} (hs : side < 2) (hk : k < 24) (ho : o < 3) (hl : bg_lm l a8) (hll : bg_lo l)
    (h3 : ∀ i, i < 4 → a3 (4 * (24 * side + k) + i) = lN (r.1 i)) (h7 : a7 k = lN (r.1 3)) (sB : -2 ^ 62 ≤ bg_slk l o r ∧ bg_slk l o r < 2 ^ 62)
    (Hn : ∀ b7, b7 k = bg_L (bg_slk l o r) → (∀ j, j ≠ k → b7 j = a7 j) → bg_slk l o r < 0 → J16 (nI (k + 1)) fr fc fm fo ft fl fn fp fq a1 a2 a3 a4 a5 a6 b7 a8 a9 a10)
    (Hz : ∀ b7, b7 k = bg_L (bg_slk l o r) → (∀ j, j ≠ k → b7 j = a7 j) → bg_slk l o r = 0 → wX_addChoice_132 post J16 (nI side) (nI (24 * side)) (nI o) (nI len) (nI k) (nI (2 ^ (3 + o))) (nI (24 * side + k)) fr fc fm fo ft fl fn fp fq a1 a2 a3 a4 a5 a6 b7 a8 a9 a10)
    (Hp : ∀ b7, b7 k = bg_L (bg_slk l o r) → (∀ j, j ≠ k → b7 j = a7 j) → 0 < bg_slk l o r → wX_addChoice_132 post J16 (nI side) (nI (24 * side)) (nI o) (nI len) (nI k) (nI 0) (nI (24 * side + k)) fr fc fm fo ft fl fn fp fq a1 a2 a3 a4 a5 a6 b7 a8 a9 a10) :
    ∃ fu, wX_addChoice_50 post J16 (nI side) (nI (24 * side)) (nI o) (nI len) (nI k) (nI (24 * side + k)) fr fc fm fo ft fl fn fp fq fu 0 a1 a2 a3 a4 a5 a6 a7 a8 a9 a10 := by
  refine pk_loop (fun n c s => wX_addChoice_50 post J16 (nI side) (nI (24 * side)) (nI o) (nI len) (nI k) (nI (24 * side + k)) fr fc fm fo ft fl fn fp fq n (nI c) a1 a2 a3 a4 a5 a6 s a8 a9 a10)
    (fun c s => s k = bg_L ((r.1 3 : Int) - (bg_pd l o r.1 c : Int)) ∧ ∀ j, j ≠ k → s j = a7 j) 3 0 a7 (by omega) ⟨by rw [h7, bg_L_N]; show _ = bg_L ((r.1 3 : Int) - 0); rw [Int.sub_zero], fun _ _ => rfl⟩ ?_ ?_
  · intro n s hI
    have e : s k = bg_L (bg_slk l o r) := by
      rw [hI.1, bg_pd3]
      rfl
    have ec : s (nI k).toNatClampNeg = bg_L (bg_slk l o r) := by rw [pk_cl k]; exact e
    refine pk_le 3 3 (fun _ => ⟨pk_in k 24 hk, ?_⟩) (fun z => absurd z (by omega))
    refine ek_if (d := bg_slk l o r < 0) ?_ (fun z => nm_r (nI_1 k) (Hn s e hI.2 z)) (fun z => ⟨pk_in k 24 hk, ek_if (d := bg_slk l o r = 0) ?_ (fun w => ?_) (fun w => Hp s e hI.2 (by omega))⟩)
    · rw [ec, ← bg_L_0, bg_L_lt sB.1 sB.2 (by omega) (by omega)]
    · rw [ec, ← bg_L_0, bg_L_eq sB.1 sB.2 (by omega) (by omega)]
    · have h := Hz s e hI.2 w
      rw [← bg_more_all o ho] at h
      exact h
  · intro n c s hc hI hw
    have x := bg_ix4 (24 * side + k) c
    have y := bg_ix3 c o
    refine pk_le 3 c (fun z => absurd z (by omega)) (fun _ => ⟨pk_in k 24 hk, pk_in _ 192 (by omega) x, pk_in _ 9 (by omega) y, pk_in k 24 hk, nm_r (bg_uL (k' := k) (x' := bg_L ((r.1 3 : Int) - (bg_pd l o r.1 (c + 1) : Int))) (pk_cl k) ?_) (nm_r (nI_1 c) (hw _ ⟨pk_uLs, fun j hj => ?_⟩))⟩)
    · have h19 := (hll c o hc ho).2
      rw [pk_cl k, pk_cl _ x, pk_cl _ y, hI.1, h3 c (by omega), hl c o hc ho, nI_l (by omega), lN_mul, bg_L_N, bg_L_sub]
      congr 1
      show _ = (r.1 3 : Int) - ((bg_pd l o r.1 c + r.1 c * l c o : Nat) : Int)
      omega
    · rw [pk_uLn hj]
      exact hI.2 j hj
end
end
section
section
theorem bg_ray_b {l : Nat → Nat → Nat} (hl : bg_lo l) {own sf : Nat} {r : bg_Ray} (V : bg_V l own sf r) (hx : ∀ c, c < 3 → r.1 c ≤ 1296) :
    (∀ i, i < 4 → r.1 i ≤ 73873) ∧ (∀ o, o < 3 → -73873 ≤ bg_slk l o r ∧ bg_slk l o r ≤ 73873) := by
  have h0 := hx 0 (by omega)
  have h1 := hx 1 (by omega)
  have h2 := hx 2 (by omega)
  have hv := bg_v_le hl V
  have hS : bg_S r ≤ 3888 := by unfold bg_S; omega
  constructor
  · intro i hi
    match i, hi with
    | 0, _ => omega
    | 1, _ => omega
    | 2, _ => omega
    | 3, _ => show r.1 3 ≤ 73873; omega
  · intro o ho
    have hd := bg_dot_le hl ho r
    unfold bg_slk
    omega
theorem bg_cm_b {l : Nat → Nat → Nat} (hl : bg_lo l) {own sf : Nat} {p q : bg_Ray} (Vp : bg_V l own sf p) (Vq : bg_V l own sf q) (hp : ∀ c, c < 3 → p.1 c ≤ 1296) (hq : ∀ c, c < 3 → q.1 c ≤ 1296) {o : Nat} (ho : o < 3) :
    ∀ i, i < 4 → bg_cm l o p q i < 2 ^ 62 := by
  intro i hi
  have bp := bg_ray_b hl Vp hp
  have bq := bg_ray_b hl Vq hq
  have s1 := bp.2 o ho
  have s2 := bq.2 o ho
  have m1 : p.1 i * (-(bg_slk l o q)).toNat ≤ 73873 * 73873 := Nat.mul_le_mul (bp.1 i hi) (by omega)
  have m2 : q.1 i * (bg_slk l o p).toNat ≤ 73873 * 73873 := Nat.mul_le_mul (bq.1 i hi) (by omega)
  show p.1 i * (-(bg_slk l o q)).toNat + q.1 i * (bg_slk l o p).toNat < 2 ^ 62
  omega
theorem bg_fm1s {α β : Type} {f : α → Option β} {a : α} {b : β} (h : f a = some b) : [a].filterMap f = [b] := by simp [h]
theorem bg_fm1n {α β : Type} {f : α → Option β} {a : α} (h : f a = none) : [a].filterMap f = [] := by simp [h]
theorem bg_ac237 {fr fc fo ft fl fn : Int32} {fp fq : Int64} {a1 a2 : Nat → Int32} {a3 : Nat → Int64} {a4 : Nat → Int32} {a5 : Nat → Int64} {a6 : Nat → Int32} {a7 : Nat → Int64} {a8 a9 a10 : Nat → Int32} {post : St1 → Prop} {side : Nat} {M : List bg_Ray} (hs : side < 2) (hM : M.length ≤ 24) (ht : ∀ r, r ∈ M → r.2 < 64) (hh : bg_hold a5 a6 0 M)
    (H : ∀ b3 b4, bg_hold b3 b4 (24 * side) M → bg_fr side a3 b3 a4 b4 → post (fr, fc, nI M.length, fo, ft, fl, fn, fp, fq, a1, a2, b3, b4, a5, a6, a7, a8, a9, a10)) :
    ∃ fu, wX_addChoice_237 post (nI (24 * side)) fr fc (nI M.length) fo ft fl fn fp fq fu 0 a1 a2 a3 a4 a5 a6 a7 a8 a9 a10 := by
  refine pk_loop (fun n k s => wX_addChoice_237 post (nI (24 * side)) fr fc (nI M.length) fo ft fl fn fp fq n (nI k) a1 a2 s.1 s.2 a5 a6 a7 a8 a9 a10) (fun k s => bg_hold s.1 s.2 (24 * side) (M.take k) ∧ bg_fr side a3 s.1 a4 s.2) M.length 0 (a3, a4) (by omega)
    ⟨by rw [List.take_zero]; exact bg_hold_nil _ _ _, bg_fr_0 _ _ _⟩ ?_ ?_
  · intro n s hI
    refine pk_le M.length M.length (fun _ => H s.1 s.2 ?_ hI.2) (fun z => absurd z (by omega))
    have := hI.1
    rw [List.take_length] at this
    exact this
  · intro n k s hk hI hw
    obtain ⟨s3, s4⟩ := s
    dsimp only at hI
    refine pk_le M.length k (fun z => absurd z (by omega)) (fun _ => ?_)
    have at5 := bg_hold_at hh hk
    rw [Nat.zero_add] at at5
    have hmem := bg_getD_mem hk
    refine pk_loop (fun m i s => wX_addChoice_249 post (wX_addChoice_237 post (nI (24 * side)) fr fc (nI M.length) fo ft fl fn fp fq n) (nI (24 * side)) (nI k) fr fc (nI M.length) fo ft fl fn fp fq m (nI i) a1 a2 s s4 a5 a6 a7 a8 a9 a10) (fun i s => bg_put s3 s (24 * side + k) (M.getD k bg_d0).1 i) 4 0 s3 (by omega) (bg_put_0 _ _ _) ?_ ?_
    · intro m s hP
      have x : nI (24 * side) + nI k = nI (24 * side + k) := nI_add _ _
      refine pk_le 4 4 (fun _ => ⟨pk_in k 24 (by omega), pk_in _ 48 (by omega) x, nm_r (bg_u (x' := nI (M.getD k bg_d0).2) (pk_cl _ x) ?_) (nm_r (nI_1 k) (hw (s, upd s4 (24 * side + k) (nI (M.getD k bg_d0).2)) ⟨?_, bg_fr_s hI.2 (by omega) hP⟩))⟩) (fun z => absurd z (by omega))
      · rw [pk_cl k, at5.1]
        have := ht _ hmem
        exact bg_nar (by omega)
      · rw [bg_take_s (bg_get hk)]
        have hlen : (M.take k).length = k := by rw [List.length_take]; omega
        have := bg_hold_snoc (r := M.getD k bg_d0) hI.1 (by rw [hlen]; exact hP)
        rw [hlen] at this
        exact this
    · intro m i s hi hP hw2
      have x1 := bg_ix4 k i
      have x2 : 4 * (nI (24 * side) + nI k) + nI i = nI (4 * (24 * side + k) + i) := by rw [nI_add]; exact bg_ix4 _ i
      refine pk_le 4 i (fun z => absurd z (by omega)) (fun _ => ⟨pk_in _ 96 (by omega) x1, pk_in _ 192 (by omega) x2, nm_r (bg_uL (pk_cl _ x2) ?_) (nm_r (nI_1 i) (hw2 _ (bg_put_s hP hi rfl)))⟩)
      rw [pk_cl _ x1]
      exact at5.2 i hi
theorem bg_step_t64 {l : Nat → Nat → Nat} {o : Nat} {R : List bg_Ray} (ho : o < 3) (h : ∀ r, r ∈ R → r.2 < 64) : ∀ r, r ∈ bg_step l o R → r.2 < 64 := by
  intro r hr
  have h2 : 2 ^ (3 + o) < 2 ^ 6 := Nat.pow_lt_pow_right (by omega) (by omega)
  rcases bg_step_mem hr with ⟨s, hs, _, e⟩ | ⟨p, hp, q, hq, _, _, e⟩
  · rw [e]
    show (if bg_slk l o s = 0 then s.2 ||| 2 ^ (3 + o) else s.2) < 64
    split
    · exact Nat.or_lt_two_pow (h s hs) h2
    · exact h s hs
  · rw [e]
    show ((p.2 &&& q.2) ||| 2 ^ (3 + o)) < 2 ^ 6
    exact Nat.or_lt_two_pow (Nat.and_lt_two_pow _ (h q hq)) h2
theorem bg_ac144 {fr fc fo ft fl fn : Int32} {fp fq : Int64} {a1 a2 : Nat → Int32} {a3 : Nat → Int64} {a4 : Nat → Int32} {a5 : Nat → Int64} {a6 : Nat → Int32} {a7 : Nat → Int64} {a8 a9 a10 : Nat → Int32} {post : St1 → Prop} {side o own sf : Nat} {l : Nat → Nat → Nat} {R : List bg_Ray} (hs : side < 2) (ho : o < 3) (hll : bg_lo l) (hR : R.length ≤ 10) (hh : bg_hold a3 a4 (24 * side) R)
    (hV : ∀ r, r ∈ R → bg_V l own sf r) (hx : ∀ r, r ∈ R → ∀ c, c < 3 → r.1 c ≤ 1296) (hL : (bg_step l o R).length ≤ 10) (h7 : ∀ j, j < R.length → a7 j = bg_L (bg_slk l o (R.getD j bg_d0)))
    (h5 : bg_hold a5 a6 0 (R.filterMap (bg_kp l o)))
    (H : ∀ b3 b4 b5 b6, bg_hold b3 b4 (24 * side) (bg_step l o R) → bg_fr side a3 b3 a4 b4 → post (fr, fc, nI (bg_step l o R).length, fo, ft, fl, fn, fp, fq, a1, upd a2 side (nI (bg_step l o R).length), b3, b4, b5, b6, a7, a8, a9, a10)) :
    ∃ fu, wX_addChoice_144 post (nI side) (nI (24 * side)) (nI o) (nI R.length) fu 0 fr fc (nI (R.filterMap (bg_kp l o)).length) fo ft fl fn fp fq a1 a2 a3 a4 a5 a6 a7 a8 a9 a10 := by
  refine pk_loop (fun n k s => wX_addChoice_144 post (nI side) (nI (24 * side)) (nI o) (nI R.length) n (nI k) fr fc s.1 fo ft fl fn fp fq a1 a2 a3 a4 s.2.1 s.2.2 a7 a8 a9 a10)
    (fun k s => s.1 = nI (R.filterMap (bg_kp l o) ++ (List.range k).flatMap (fun k => (List.range R.length).filterMap (bg_cx l o R k))).length ∧ bg_hold s.2.1 s.2.2 0 (R.filterMap (bg_kp l o) ++ (List.range k).flatMap (fun k => (List.range R.length).filterMap (bg_cx l o R k))))
    R.length 0 (nI (R.filterMap (bg_kp l o)).length, a5, a6) (by omega) ?_ ?_ ?_
  · rw [List.range_zero, List.flatMap_nil, List.append_nil]
    exact ⟨rfl, h5⟩
  · intro n s hI
    obtain ⟨s1, s5, s6⟩ := s
    obtain ⟨e1, hI⟩ := hI
    dsimp only at e1 hI
    subst e1
    refine pk_le R.length R.length (fun _ => ⟨pk_in side 2 hs, nm_r (bg_u (pk_cl side) rfl) ?_⟩) (fun z => absurd z (by omega))
    exact bg_ac237 (M := bg_step l o R) hs (by omega) (bg_step_t64 ho (fun r hr => (hV r hr).2.2.2.2.2.2)) hI (fun b3 b4 g1 g2 => H b3 b4 s5 s6 g1 g2)
  · intro n k s hk hI hw
    refine pk_le R.length k (fun z => absurd z (by omega)) (fun _ => ?_)
    refine pk_loop (fun m j s => wX_addChoice_154 post (wX_addChoice_144 post (nI side) (nI (24 * side)) (nI o) (nI R.length) n) (nI side) (nI (24 * side)) (nI o) (nI R.length) (nI k) m (nI j) fr fc s.1 fo ft fl fn fp fq a1 a2 a3 a4 s.2.1 s.2.2 a7 a8 a9 a10)
      (fun j s => s.1 = nI (R.filterMap (bg_kp l o) ++ (List.range k).flatMap (fun k => (List.range R.length).filterMap (bg_cx l o R k)) ++ (List.range j).filterMap (bg_cx l o R k)).length ∧
        bg_hold s.2.1 s.2.2 0 (R.filterMap (bg_kp l o) ++ (List.range k).flatMap (fun k => (List.range R.length).filterMap (bg_cx l o R k)) ++ (List.range j).filterMap (bg_cx l o R k)))
      R.length 0 s (by omega) ?_ ?_ ?_
    · rw [List.range_zero, List.filterMap_nil, List.append_nil]
      exact hI
    · intro m s hJ
      refine pk_le R.length R.length (fun _ => nm_r (nI_1 k) (hw s ?_)) (fun z => absurd z (by omega))
      rw [List.range_succ, List.flatMap_append, ← List.append_assoc]
      have e : ([k].flatMap (fun k => (List.range R.length).filterMap (bg_cx l o R k))) = (List.range R.length).filterMap (bg_cx l o R k) := by simp
      rw [e]
      exact hJ
    · intro m j s hj hJ hw2
      obtain ⟨s1, s5, s6⟩ := s
      obtain ⟨e1, hJ⟩ := hJ
      dsimp only at e1 hJ
      subst e1
      have mk := bg_getD_mem hk
      have mj := bg_getD_mem hj
      have Vk := hV _ mk
      have Vj := hV _ mj
      have bk := (bg_ray_b hll Vk (hx _ mk)).2 o ho
      have bj := (bg_ray_b hll Vj (hx _ mj)).2 o ho
      have skip : bg_cx l o R k j = none → wX_addChoice_154 post (wX_addChoice_144 post (nI side) (nI (24 * side)) (nI o) (nI R.length) n) (nI side) (nI (24 * side)) (nI o) (nI R.length) (nI k) m (nI (j + 1)) fr fc (nI (R.filterMap (bg_kp l o) ++ (List.range k).flatMap (fun k => (List.range R.length).filterMap (bg_cx l o R k)) ++ (List.range j).filterMap (bg_cx l o R k)).length) fo ft fl fn fp fq a1 a2 a3 a4 s5 s6 a7 a8 a9 a10 := by
        intro hn
        refine hw2 (_, s5, s6) ?_
        rw [List.range_succ, List.filterMap_append]
        rw [bg_fm1n hn, List.append_nil]
        exact ⟨rfl, hJ⟩
      refine pk_le R.length j (fun z => absurd z (by omega)) (fun _ => ⟨pk_in k 24 (by omega), ?_⟩)
      refine ek_if (d := bg_slk l o (R.getD k bg_d0) ≤ 0) (by rw [pk_cl k, h7 k hk, ← bg_L_0, bg_L_le (by omega) (by omega) (by omega) (by omega)]) (fun z => nm_r (nI_1 j) (skip ?_)) (fun z => ⟨pk_in j 24 (by omega), ?_⟩)
      · unfold bg_cx
        rw [if_neg (fun h => by omega)]
      refine ek_if (d := 0 ≤ bg_slk l o (R.getD j bg_d0)) (by rw [pk_cl j, h7 j hj, ← bg_L_0, bg_L_le (by omega) (by omega) (by omega) (by omega)]) (fun z2 => nm_r (nI_1 j) (skip ?_)) (fun z2 => ?_)
      · unfold bg_cx
        rw [if_neg (fun h => by omega)]
      have tl : (R.map (fun r => r.2)).length = R.length := List.length_map _
      have tg : ∀ m, (R.map (fun r => r.2)).getD m 0 = (R.getD m bg_d0).2 := fun m => bg_getD_map (fun r : bg_Ray => r.2) R m bg_d0
      rw [← tl]
      refine bg_areN (base := 24 * side) (ts := R.map (fun r => r.2)) (by rw [tl]; omega) (by rw [tl]; exact hk) (by rw [tl]; exact hj) (fun m hm => ?_) (fun m hm => ?_) (fun hb => ?_) (fun hb => ?_)
      · rw [tg]
        rw [tl] at hm
        exact (hV _ (bg_getD_mem hm)).2.2.2.2.2.2
      · rw [tg]
        rw [tl] at hm
        exact (bg_hold_at hh hm).1
      · rw [tl]
        refine br_t rfl (nm_r (nI_1 j) (skip ?_))
        unfold bg_cx
        rw [if_neg (fun h => by rw [hb] at h; exact absurd h.2.2 (by decide))]
      · rw [tl]
        refine br_f (by decide) ?_
        have hcx : bg_cx l o R k j = some (bg_cr l o (R.getD k bg_d0) (R.getD j bg_d0)) := by
          unfold bg_cx
          rw [if_pos ⟨by omega, by omega, hb⟩]
        have hnew : (List.range (j + 1)).filterMap (bg_cx l o R k) = (List.range j).filterMap (bg_cx l o R k) ++ [bg_cr l o (R.getD k bg_d0) (R.getD j bg_d0)] := by
          rw [List.range_succ, List.filterMap_append, bg_fm1s hcx]
        have hlen := bg_part_le (l := l) (o := o) hk (show j + 1 ≤ R.length by omega)
        rw [hnew, ← List.append_assoc, List.length_append] at hlen
        have hlen1 : ([bg_cr l o (R.getD k bg_d0) (R.getD j bg_d0)] : List bg_Ray).length = 1 := rfl
        rw [hlen1] at hlen
        have atk := bg_hold_at hh hk
        have atj := bg_hold_at hh hj
        rw [bg_more_all o ho]
        refine bg_cross (p := R.getD k bg_d0) (q := R.getD j bg_d0) (l := l) (o := o) (by omega) (by omega) (by omega) (by omega) (by omega) ho atk.2 atj.2 atk.1 atj.1 Vk.2.2.2.2.2.2 Vj.2.2.2.2.2.2 (h7 k hk) (h7 j hj) (by omega) (by omega)
          (bg_cm_b hll Vk Vj (hx _ mk) (hx _ mj) ho) (bg_cr_eq (q := R.getD j bg_d0) Vk (by omega) (by omega)).1 (fun b5 hp => nm_r (nI_1 j) (hw2 (_, b5, _) ⟨?_, ?_⟩))
        · rw [hnew, ← List.append_assoc]
          exact congrArg nI (List.length_append (bs := [bg_cr l o (R.getD k bg_d0) (R.getD j bg_d0)])).symm
        · rw [hnew, ← List.append_assoc]
          have := bg_hold_snoc (r := bg_cr l o (R.getD k bg_d0) (R.getD j bg_d0)) hJ (by rw [Nat.zero_add]; exact hp)
          rw [Nat.zero_add] at this
          exact this
theorem bg_addChoice {fr fc fm fo ft fl fn : Int32} {fp fq : Int64} {a1 a2 : Nat → Int32} {a3 : Nat → Int64} {a4 : Nat → Int32} {a5 : Nat → Int64} {a6 : Nat → Int32} {a7 : Nat → Int64} {a8 a9 a10 : Nat → Int32} {post : St1 → Prop} {side o own sf : Nat} {l : Nat → Nat → Nat} {R : List bg_Ray} (hs : side < 2) (ho : o < 3) (hl : bg_lm l a8) (hll : bg_lo l) (h2 : a2 side = nI R.length) (hR : R.length ≤ 10) (hh : bg_hold a3 a4 (24 * side) R)
    (hV : ∀ r, r ∈ R → bg_V l own sf r) (hx : ∀ r, r ∈ R → ∀ c, c < 3 → r.1 c ≤ 1296) (hL : (bg_step l o R).length ≤ 10)
    (H : ∀ km b3 b4 b5 b6 b7, bg_hold b3 b4 (24 * side) (bg_step l o R) → bg_fr side a3 b3 a4 b4 → post (fr, fc, km, fo, ft, fl, fn, fp, fq, a1, upd a2 side (nI (bg_step l o R).length), b3, b4, b5, b6, b7, a8, a9, a10)) :
    wpX_addChoice post (fr, fc, fm, fo, ft, fl, fn, fp, fq, a1, a2, a3, a4, a5, a6, a7, a8, a9, a10) (nI side) (nI (24 * side)) (nI o) := by
  unfold wpX_addChoice
  refine ⟨pk_in side 2 hs, nm_r (by rw [pk_cl side, h2]) ?_⟩
  refine pk_loop (fun n k s => wX_addChoice_16 post (nI side) (nI (24 * side)) (nI o) (nI R.length) n (nI k) fr fc s.1 fo ft fl fn fp fq a1 a2 a3 a4 s.2.1 s.2.2.1 s.2.2.2 a8 a9 a10)
    (fun k s => s.1 = nI ((R.take k).filterMap (bg_kp l o)).length ∧ bg_hold s.2.1 s.2.2.1 0 ((R.take k).filterMap (bg_kp l o)) ∧ ∀ j, j < k → s.2.2.2 j = bg_L (bg_slk l o (R.getD j bg_d0)))
    R.length 0 (nI 0, a5, a6, a7) (by omega) ⟨rfl, bg_hold_nil _ _ _, fun j h => absurd h (by omega)⟩ ?_ ?_
  · intro n s hI
    obtain ⟨s1, s5, s6, s7⟩ := s
    obtain ⟨e1, hI, h7⟩ := hI
    dsimp only at e1 hI h7
    subst e1
    refine pk_le R.length R.length (fun _ => ?_) (fun z => absurd z (by omega))
    rw [List.take_length] at hI ⊢
    exact bg_ac144 hs ho hll hR hh hV hx hL h7 hI (fun b3 b4 b5 b6 g1 g2 => H _ b3 b4 b5 b6 s7 g1 g2)
  · intro n k s hk hI hw
    obtain ⟨s1, s5, s6, s7⟩ := s
    obtain ⟨e1, hI, h7⟩ := hI
    dsimp only at e1 hI h7
    subst e1
    have mk := bg_getD_mem hk
    have Vk := hV _ mk
    have bk := (bg_ray_b hll Vk (hx _ mk)).2 o ho
    have atk := bg_hold_at hh hk
    have x : nI (24 * side) + nI k = nI (24 * side + k) := nI_add _ _
    have x3 : 4 * nI (24 * side + k) + 3 = nI (4 * (24 * side + k) + 3) := bg_ix4 _ 3
    have hkl := bg_kept_le (l := l) (o := o) (R := R) (k := k + 1)
    have hts := bg_take_s (bg_get hk)
    refine pk_le R.length k (fun z => absurd z (by omega)) (fun _ => nm_r x ⟨pk_in _ 192 (by omega) x3, pk_in k 24 (by omega), nm_r (bg_uL (x' := lN ((R.getD k bg_d0).1 3)) (pk_cl k) (by rw [pk_cl _ x3]; exact atk.2 3 (by omega))) ?_⟩)
    have h7' : ∀ b7 : Nat → Int64, b7 k = bg_L (bg_slk l o (R.getD k bg_d0)) → (∀ j, j ≠ k → b7 j = vp_updL s7 k (lN ((R.getD k bg_d0).1 3)) j) → ∀ j, j < k + 1 → b7 j = bg_L (bg_slk l o (R.getD j bg_d0)) := by
      intro b7 g1 g2 j hj
      by_cases e : j = k
      · rw [e]; exact g1
      · rw [g2 j e, pk_uLn e]
        exact h7 j (by omega)
    have keep : ∀ (b7 : Nat → Int64) (m : Nat), b7 k = bg_L (bg_slk l o (R.getD k bg_d0)) → (∀ j, j ≠ k → b7 j = vp_updL s7 k (lN ((R.getD k bg_d0).1 3)) j) → 0 ≤ bg_slk l o (R.getD k bg_d0) →
        (if bg_slk l o (R.getD k bg_d0) = 0 then (R.getD k bg_d0).2 ||| 2 ^ (3 + o) else (R.getD k bg_d0).2) = (R.getD k bg_d0).2 ||| m → m < 64 →
        wX_addChoice_132 post (wX_addChoice_16 post (nI side) (nI (24 * side)) (nI o) (nI R.length) n) (nI side) (nI (24 * side)) (nI o) (nI R.length) (nI k) (nI m) (nI (24 * side + k)) fr fc (nI ((R.take k).filterMap (bg_kp l o)).length) fo ft fl fn fp fq a1 a2 a3 a4 s5 s6 b7 a8 a9 a10 := by
      intro b7 m g1 g2 g3 g4 g5
      have hk1 : bg_kp l o (R.getD k bg_d0) = some ((R.getD k bg_d0).1, (R.getD k bg_d0).2 ||| m) := by
        unfold bg_kp
        rw [if_neg (by omega), g4]
      have hnew : (R.take (k + 1)).filterMap (bg_kp l o) = (R.take k).filterMap (bg_kp l o) ++ [((R.getD k bg_d0).1, (R.getD k bg_d0).2 ||| m)] := by
        rw [hts, List.filterMap_append, bg_fm1s hk1]
      have hl1 : ([((R.getD k bg_d0).1, (R.getD k bg_d0).2 ||| m)] : List bg_Ray).length = 1 := rfl
      rw [hnew, List.length_append, hl1] at hkl
      have ht6 : (R.getD k bg_d0).2 ||| m < 2 ^ 6 := Nat.or_lt_two_pow Vk.2.2.2.2.2.2 g5
      unfold wX_addChoice_132
      refine bg_keepEdge (by omega) (by omega) (by omega) atk.2 atk.1 (fun b5 hp => nm_r (nI_1 k) (hw (_, b5, _, b7) ⟨?_, ?_, h7' b7 g1 g2⟩))
      · rw [hnew, List.length_append]
        rfl
      · rw [hnew]
        have := bg_hold_snoc (r := ((R.getD k bg_d0).1, (R.getD k bg_d0).2 ||| m)) hI (by rw [Nat.zero_add]; exact hp)
        rw [Nat.zero_add] at this
        exact this
    have h26 : 2 ^ (3 + o) < 2 ^ 6 := Nat.pow_lt_pow_right (by omega) (by omega)
    refine bg_ac50 hs (by omega) ho hl hll atk.2 pk_uLs ⟨by omega, by omega⟩ (fun b7 g1 g2 g3 => ?_) (fun b7 g1 g2 g3 => ?_) (fun b7 g1 g2 g3 => ?_)
    · have hk0 : bg_kp l o (R.getD k bg_d0) = none := by
        unfold bg_kp
        rw [if_pos g3]
      refine hw (_, s5, s6, b7) ⟨?_, ?_, h7' b7 g1 g2⟩
      · rw [hts, List.filterMap_append, bg_fm1n hk0, List.append_nil]
      · rw [hts, List.filterMap_append, bg_fm1n hk0, List.append_nil]
        exact hI
    · exact keep b7 (2 ^ (3 + o)) g1 g2 (by omega) (by rw [if_pos g3]) (by omega)
    · exact keep b7 0 g1 g2 (by omega) (by rw [if_neg (by omega), Nat.or_zero]) (by omega)
end
end
section
section
theorem bg_dropLast {fr fc fm fo ft fl fn : Int32} {fp fq : Int64} {a1 a2 : Nat → Int32} {a3 : Nat → Int64} {a4 : Nat → Int32} {a5 : Nat → Int64} {a6 : Nat → Int32} {a7 : Nat → Int64} {a8 a9 a10 : Nat → Int32} {post : St1 → Prop} {side : Nat} {R : List bg_Ray} (hs : side < 2) (h2 : a2 side = nI R.length) (hR : R.length ≤ 24) (hh : bg_hold a3 a4 (24 * side) R) (ht : ∀ r, r ∈ R → r.2 < 64) (hb : ∀ r, r ∈ R → bg_S r < 2 ^ 62)
    (H : ∀ b3 b4, bg_hold b3 b4 (24 * side) (R.filter (fun r => !(bg_S r == 0))) → bg_fr side a3 b3 a4 b4 → post (fr, fc, fm, fo, ft, fl, fn, fp, fq, a1, upd a2 side (nI (R.filter (fun r => !(bg_S r == 0))).length), b3, b4, a5, a6, a7, a8, a9, a10)) :
    wpX_dropLast post (fr, fc, fm, fo, ft, fl, fn, fp, fq, a1, a2, a3, a4, a5, a6, a7, a8, a9, a10) (nI side) (nI (24 * side)) := by
  unfold wpX_dropLast
  refine pk_loop (fun n k s => wX_dropLast_5 post (nI side) (nI (24 * side)) fr fc fm fo ft fl fn fp fq n s.1 (nI k) a1 a2 s.2.1 s.2.2 a5 a6 a7 a8 a9 a10)
    (fun k s => s.1 = nI ((R.take k).filter (fun r => !(bg_S r == 0))).length ∧ bg_hold s.2.1 s.2.2 (24 * side) ((R.take k).filter (fun r => !(bg_S r == 0))) ∧
      (∀ j, k ≤ j → j < R.length → s.2.2 (24 * side + j) = nI (R.getD j bg_d0).2 ∧ ∀ i, i < 4 → s.2.1 (4 * (24 * side + j) + i) = lN ((R.getD j bg_d0).1 i)) ∧ bg_fr side a3 s.2.1 a4 s.2.2)
    R.length 0 (nI 0, a3, a4) (by omega) ⟨rfl, bg_hold_nil _ _ _, fun j _ hj => bg_hold_at hh hj, bg_fr_0 _ _ _⟩ ?_ ?_
  · intro n s hI
    obtain ⟨s1, s3, s4⟩ := s
    obtain ⟨e1, hI, _, hf⟩ := hI
    dsimp only at e1 hI hf
    subst e1
    rw [List.take_length] at hI
    refine ⟨pk_in side 2 hs, pk_le R.length R.length (fun _ => ⟨pk_in side 2 hs, nm_r (bg_u (pk_cl side) (by rw [List.take_length])) (H s3 s4 hI hf)⟩) (fun z => absurd z (by omega)) (by rw [pk_cl side, h2]) rfl⟩
  · intro n k s hk hI hw
    obtain ⟨s1, s3, s4⟩ := s
    obtain ⟨e1, hI, hlat, hf⟩ := hI
    dsimp only at e1 hI hlat hf
    subst e1
    have mk := bg_getD_mem hk
    have hts := bg_take_s (bg_get hk)
    have atk := hlat k (Nat.le_refl k) hk
    have hbk := hb _ mk
    have htk := ht _ mk
    have hKl : ((R.take k).filter (fun r => !(bg_S r == 0))).length ≤ k := by
      have h1 := List.length_filter_le (fun r => !(bg_S r == 0)) (R.take k)
      rw [List.length_take] at h1
      omega
    refine ⟨pk_in side 2 hs, pk_le R.length k (fun z => absurd z (by omega)) (fun _ => nm_r (nI_add _ _) ?_) (by rw [pk_cl side, h2]) rfl⟩
    refine bg_sumOf (r := R.getD k bg_d0) (by omega) atk.2 ?_
    refine ek_if (d := bg_S (R.getD k bg_d0) = 0) ?_ (fun z => nm_r (nI_1 k) (hw (_, s3, s4) ?_)) (fun z => ?_)
    · show lN (bg_S (R.getD k bg_d0)) = lN 0 ↔ _
      rw [pk_lEQ (by omega) (by omega)]
    · have hnew : (R.take (k + 1)).filter (fun r => !(bg_S r == 0)) = (R.take k).filter (fun r => !(bg_S r == 0)) := by
        rw [hts, List.filter_append, List.filter_cons_of_neg (by rw [z]; decide), List.filter_nil, List.append_nil]
      rw [hnew]
      exact ⟨rfl, hI, fun j h1 h2 => hlat j (by omega) h2, hf⟩
    · have hnew : (R.take (k + 1)).filter (fun r => !(bg_S r == 0)) = (R.take k).filter (fun r => !(bg_S r == 0)) ++ [R.getD k bg_d0] := by
        rw [hts, List.filter_append, List.filter_cons_of_pos (by rw [beq_eq_false_iff_ne.mpr z]; rfl), List.filter_nil]
      generalize hK : (R.take k).filter (fun r => !(bg_S r == 0)) = K at hI hKl hnew ⊢
      refine pk_loop (fun m i s => wX_dropLast_39 post (wX_dropLast_5 post (nI side) (nI (24 * side)) fr fc fm fo ft fl fn fp fq n) (nI side) (nI (24 * side)) (nI K.length) (nI k) (nI (24 * side + k)) fr fc fm fo ft fl fn fp fq m (nI i) a1 a2 s s4 a5 a6 a7 a8 a9 a10)
        (fun i s => bg_put s3 s (24 * side + K.length) (R.getD k bg_d0).1 i ∧ ∀ i', i' < 4 → s (4 * (24 * side + k) + i') = lN ((R.getD k bg_d0).1 i')) 4 0 s3 (by omega) ⟨bg_put_0 _ _ _, atk.2⟩ ?_ ?_
      · intro m s hP
        have x : nI (24 * side) + nI K.length = nI (24 * side + K.length) := nI_add _ _
        refine pk_le 4 4 (fun _ => ⟨pk_in (24 * side + k) 48 (by omega), pk_in _ 48 (by omega) x, nm_r (bg_u (x' := nI (R.getD k bg_d0).2) (pk_cl _ x) ?_) (nm_r (nI_1 K.length) (nm_r (nI_1 k) (hw (_, s, upd s4 (24 * side + K.length) (nI (R.getD k bg_d0).2)) ⟨?_, ?_, fun j h1 h2 => ⟨?_, fun i hi => ?_⟩, bg_fr_s hf (by omega) hP.1⟩)))⟩) (fun z => absurd z (by omega))
        · rw [pk_cl (24 * side + k), atk.1]
          exact bg_nar (by omega)
        · rw [hnew]
          exact congrArg nI (List.length_append (bs := [R.getD k bg_d0])).symm
        · rw [hnew]
          exact bg_hold_snoc hI hP.1
        · show upd s4 (24 * side + K.length) (nI (R.getD k bg_d0).2) (24 * side + j) = _
          rw [pk_un (by omega)]
          exact (hlat j (by omega) h2).1
        · show s (4 * (24 * side + j) + i) = _
          rw [hP.1.2 _ (by omega)]
          exact (hlat j (by omega) h2).2 i hi
      · intro m i s hi hP hw2
        have x1 := bg_ix4 (24 * side + k) i
        have x2 : 4 * (nI (24 * side) + nI K.length) + nI i = nI (4 * (24 * side + K.length) + i) := by rw [nI_add]; exact bg_ix4 _ i
        refine pk_le 4 i (fun z => absurd z (by omega)) (fun _ => ⟨pk_in _ 192 (by omega) x1, pk_in _ 192 (by omega) x2, nm_r (bg_uL (x' := lN ((R.getD k bg_d0).1 i)) (pk_cl _ x2) ?_) (nm_r (nI_1 i) (hw2 _ ⟨bg_put_s hP.1 hi rfl, fun i' hi' => ?_⟩))⟩)
        · rw [pk_cl _ x1]
          exact hP.2 i hi
        · by_cases e : 4 * (24 * side + k) + i' = 4 * (24 * side + K.length) + i
          · rw [e, pk_uLs]
            have : i' = i := by omega
            rw [this]
          · rw [pk_uLn e]
            exact hP.2 i' hi'
theorem bg_bits_all : ∀ own, own < 8 → ∀ c, c < 3 → ∀ st, st < 3 → own.testBit c = true → ((nI own &&& (((1 : Int32) <<< (nI c &&& 31)) ^^^ (-1))) ||| ((8 : Int32) <<< (nI st &&& 31))) = nI ((own ^^^ 2 ^ c) ||| 2 ^ (3 + st)) := by decide +kernel
theorem bg_os3_all : ∀ n, n < 8 → (List.range 3).filter (fun o => n.testBit o) = bg_os n := by decide +kernel
theorem bg_split_all : ∀ n, n < 8 → 0 < n → ∀ o, o < 4 → bg_hd n < o → (bg_os n).tail = (List.range o).filter (fun o' => Nat.blt (bg_hd n) o' && n.testBit o') ++ (List.range 3).filter (fun o' => Nat.ble o o' && n.testBit o') := by decide +kernel
theorem bg_split1_all : ∀ n, n < 8 → ∀ o, o < 3 → (0 < n ∧ bg_hd n < o ∧ n.testBit o = true) → (List.range 3).filter (fun o' => Nat.ble o o' && n.testBit o') = o :: (List.range 3).filter (fun o' => Nat.ble (o + 1) o' && n.testBit o') := by decide +kernel
theorem bg_split3_all : ∀ n, n < 8 → (List.range 3).filter (fun o' => Nat.ble 3 o' && n.testBit o') = [] := by decide +kernel
theorem bg_hold_fr {a3 b3 : Nat → Int64} {a4 b4 : Nat → Int32} {e : Nat} {R : List bg_Ray} (h : bg_hold a3 a4 e R) (h3 : ∀ j, 4 * e ≤ j → j < 4 * (e + R.length) → b3 j = a3 j) (h4 : ∀ j, e ≤ j → j < e + R.length → b4 j = a4 j) : bg_hold b3 b4 e R := by
  intro k r hk
  have hl : k < R.length := by
    rcases Nat.lt_or_ge k R.length with z | z
    · exact z
    · rw [List.getElem?_eq_none z] at hk
      exact absurd hk (by simp)
  have := h k r hk
  refine ⟨?_, fun i hi => ?_⟩
  · rw [h4 _ (by omega) (by omega)]
    exact this.1
  · rw [h3 _ (by omega) (by omega)]
    exact this.2 i hi
theorem bg_mc102 {fr fc fl fn : Int32} {fp fq : Int64} {a1 a2 : Nat → Int32} {a3 : Nat → Int64} {a4 : Nat → Int32} {a5 : Nat → Int64} {a6 : Nat → Int32} {a7 : Nat → Int64} {a8 a9 a10 : Nat → Int32} {fm : Int32} {post : St1 → Prop} {side own other : Nat} {l : Nat → Nat → Nat} (hs : side < 2) (h1 : 0 < own) (h2 : own < 8) (h3 : 0 < other) (h4 : other < 8) (hl : bg_lm l a8) (hll : bg_lo l)
    (ha2 : a2 side = nI (bg_init l own (bg_hd other)).length) (hh : bg_hold a3 a4 (24 * side) (bg_init l own (bg_hd other)))
    (H : ∀ km b2 b3 b4 b5 b6 b7, b2 side = nI (bg_cone l own other).length → (∀ j, j ≠ side → b2 j = a2 j) → bg_hold b3 b4 (24 * side) (bg_cone l own other) → bg_fr side a3 b3 a4 b4 →
      post (fr, fc, km, nI own, nI other, fl, fn, fp, fq, a1, b2, b3, b4, b5, b6, b7, a8, a9, a10)) :
    ∃ fu, wX_makeCone_102 post (nI side) (nI other) (nI (24 * side)) fu (nI (bg_hd other + 1)) fr fc fm (nI own) (nI other) fl fn fp fq a1 a2 a3 a4 a5 a6 a7 a8 a9 a10 := by
  have hst := bg_hd_all other h4 h3
  have hsg := bg_stages hll h1 h2 h3 h4
  refine pk_loop (fun n o s => wX_makeCone_102 post (nI side) (nI other) (nI (24 * side)) n (nI o) fr fc s.1 (nI own) (nI other) fl fn fp fq a1 s.2.1 s.2.2.1 s.2.2.2.1 s.2.2.2.2.1 s.2.2.2.2.2.1 s.2.2.2.2.2.2 a8 a9 a10)
    (fun o s => bg_hd other < o ∧ s.2.1 side = nI (bg_fold l ((List.range o).filter (fun o' => Nat.blt (bg_hd other) o' && other.testBit o')) (bg_init l own (bg_hd other))).length ∧ (∀ j, j ≠ side → s.2.1 j = a2 j) ∧
      bg_hold s.2.2.1 s.2.2.2.1 (24 * side) (bg_fold l ((List.range o).filter (fun o' => Nat.blt (bg_hd other) o' && other.testBit o')) (bg_init l own (bg_hd other))) ∧ bg_fr side a3 s.2.2.1 a4 s.2.2.2.1)
    3 (bg_hd other + 1) (fm, a2, a3, a4, a5, a6, a7) (by omega) ?_ ?_ ?_
  · have e : (List.range (bg_hd other + 1)).filter (fun o' => Nat.blt (bg_hd other) o' && other.testBit o') = [] := by
      rw [List.filter_eq_nil_iff]
      intro x hx hb
      rw [Bool.and_eq_true, Nat.blt_eq] at hb
      have := List.mem_range.mp hx
      omega
    rw [e]
    exact ⟨by omega, ha2, fun _ _ => rfl, hh, bg_fr_0 _ _ _⟩
  · intro n s hI
    obtain ⟨s1, s2, s3, s4, s5, s6, s7⟩ := s
    obtain ⟨_, i2, i3, i4, i5⟩ := hI
    dsimp only at i2 i3 i4 i5
    have e := bg_split_all other h4 h3 3 (by omega) (by omega)
    rw [bg_split3_all other h4, List.append_nil] at e
    rw [← e] at i2 i4
    have st := hsg.1 (bg_os other).tail [] (List.append_nil _).symm
    refine pk_le 3 3 (fun _ => ?_) (fun z => absurd z (by omega))
    refine bg_dropLast (R := bg_pre l own other) hs i2 (by have := bg_St_len st; exact Nat.le_trans this (by omega)) i4 (fun r hr => (hsg.2 r hr).2.2.2.2.2.2) (fun r hr => ?_) (fun b3 b4 g1 g2 => H s1 _ b3 b4 s5 s6 s7 pk_us (fun j hj => ?_) g1 (bg_fr_t i5 g2))
    · have x0 := st.2.2 r hr 0 (by omega)
      have x1 := st.2.2 r hr 1 (by omega)
      have x2 := st.2.2 r hr 2 (by omega)
      unfold bg_S
      omega
    · rw [pk_un hj]
      exact i3 j hj
  · intro n o s ho hI hw
    obtain ⟨s1, s2, s3, s4, s5, s6, s7⟩ := s
    obtain ⟨i1, i2, i3, i4, i5⟩ := hI
    dsimp only at i2 i3 i4 i5
    refine pk_le 3 o (fun z => absurd z (by omega)) (fun _ => ?_)
    refine bg_isIn h4 ho (fun hb => br_t rfl (nm_r (nI_1 o) (hw (s1, s2, s3, s4, s5, s6, s7) ?_))) (fun hb => br_f (by decide) ?_)
    · have e : (List.range (o + 1)).filter (fun o' => Nat.blt (bg_hd other) o' && other.testBit o') = (List.range o).filter (fun o' => Nat.blt (bg_hd other) o' && other.testBit o') := by
        rw [List.range_succ, List.filter_append, List.filter_cons_of_neg (by rw [hb]; simp), List.filter_nil, List.append_nil]
      rw [e]
      exact ⟨by omega, i2, i3, i4, i5⟩
    · have hsp := bg_split_all other h4 h3 o (by omega) i1
      rw [bg_split1_all other h4 o ho ⟨h3, i1, hb⟩] at hsp
      have sA := hsg.1 _ _ hsp
      have hsp2 : (bg_os other).tail = ((List.range o).filter (fun o' => Nat.blt (bg_hd other) o' && other.testBit o') ++ [o]) ++ (List.range 3).filter (fun o' => Nat.ble (o + 1) o' && other.testBit o') := by
        rw [hsp, List.append_assoc]
        rfl
      have sB := hsg.1 _ _ hsp2
      have eF : bg_fold l ((List.range o).filter (fun o' => Nat.blt (bg_hd other) o' && other.testBit o') ++ [o]) (bg_init l own (bg_hd other)) = bg_step l o (bg_fold l ((List.range o).filter (fun o' => Nat.blt (bg_hd other) o' && other.testBit o')) (bg_init l own (bg_hd other))) := by
        unfold bg_fold
        rw [List.foldl_append]
        rfl
      have e : (List.range (o + 1)).filter (fun o' => Nat.blt (bg_hd other) o' && other.testBit o') = (List.range o).filter (fun o' => Nat.blt (bg_hd other) o' && other.testBit o') ++ [o] := by
        rw [List.range_succ, List.filter_append, List.filter_cons_of_pos (by rw [hb, Bool.and_true, Nat.blt_eq]; exact i1), List.filter_nil]
      have lB := bg_St_len sB
      rw [eF] at lB
      have lA := bg_St_len sA
      obtain ⟨sf, hV⟩ := sA.2.1
      refine bg_addChoice hs ho hl hll i2 lA i4 hV sA.2.2 lB (fun km b3 b4 b5 b6 b7 g1 g2 => nm_r (nI_1 o) (hw (km, _, b3, b4, b5, b6, b7) ?_))
      rw [e, eF]
      refine ⟨by omega, pk_us, fun j hj => ?_, g1, bg_fr_t i5 g2⟩
      exact (pk_un hj).trans (i3 j hj)
theorem bg_makeCone {fr fc fm fo ft fl fn : Int32} {fp fq : Int64} {a1 a2 : Nat → Int32} {a3 : Nat → Int64} {a4 : Nat → Int32} {a5 : Nat → Int64} {a6 : Nat → Int32} {a7 : Nat → Int64} {a8 a9 a10 : Nat → Int32} {post : St1 → Prop} {side own other : Nat} {l : Nat → Nat → Nat} (hs : side < 2) (h1 : 0 < own) (h2 : own < 8) (h3 : 0 < other) (h4 : other < 8) (hl : bg_lm l a8) (hll : bg_lo l)
    (H : ∀ km b2 b3 b4 b5 b6 b7, b2 side = nI (bg_cone l own other).length → (∀ j, j ≠ side → b2 j = a2 j) → bg_hold b3 b4 (24 * side) (bg_cone l own other) → bg_fr side a3 b3 a4 b4 →
      post (fr, fc, km, nI own, nI other, fl, fn, fp, fq, a1, b2, b3, b4, b5, b6, b7, a8, a9, a10)) : wpX_makeCone post (fr, fc, fm, fo, ft, fl, fn, fp, fq, a1, a2, a3, a4, a5, a6, a7, a8, a9, a10) (nI side) (nI own) (nI other) := by
  have hst := bg_hd_all other h4 h3
  unfold wpX_makeCone
  refine nm_r (e' := nI (24 * side)) (pk_mul 24 side) ?_
  refine bg_lowestIn h4 h3 ⟨pk_in side 2 hs, nm_r (bg_u (pk_cl side) rfl) ?_⟩
  refine pk_loop (fun n c s => wX_makeCone_33 post (nI side) (nI own) (nI other) (nI (24 * side)) (nI (bg_hd other)) n (nI c) fr fc fm (nI own) (nI other) fl fn fp fq a1 s.1 s.2.1 s.2.2 a5 a6 a7 a8 a9 a10)
    (fun c s => s.1 side = nI (((List.range c).filter (fun c => own.testBit c)).map (bg_ray0 l own (bg_hd other))).length ∧ (∀ j, j ≠ side → s.1 j = a2 j) ∧
      bg_hold s.2.1 s.2.2 (24 * side) (((List.range c).filter (fun c => own.testBit c)).map (bg_ray0 l own (bg_hd other))) ∧ bg_fr side a3 s.2.1 a4 s.2.2)
    3 0 (upd a2 side 0, a3, a4) (by omega) ⟨pk_us, fun j hj => pk_un hj, bg_hold_nil _ _ _, bg_fr_0 _ _ _⟩ ?_ ?_
  · intro n s hI
    obtain ⟨s2, s3, s4⟩ := s
    obtain ⟨i2, i3, i4, i5⟩ := hI
    dsimp only at i2 i3 i4 i5
    rw [bg_os3_all own h2] at i2 i4
    have hlen : ((bg_os own).map (bg_ray0 l own (bg_hd other))).length ≤ 3 := by
      rw [List.length_map]
      exact List.length_filter_le _ _
    refine pk_le 3 3 (fun _ => ?_) (fun z => absurd z (by omega))
    refine bg_addEdge (k := ((bg_os own).map (bg_ray0 l own (bg_hd other))).length) (c := 3) (v := 1) (t := own) hs (by omega) (by omega) (by omega) (by omega) i2 (fun b3 hp => nm_r (nI_1 (bg_hd other)) ?_)
    have hp2 : bg_put s3 b3 (24 * side + ((bg_os own).map (bg_ray0 l own (bg_hd other))).length) (bg_last own).1 4 := by
      refine ⟨fun i hi => ?_, hp.2⟩
      rw [hp.1 i hi]
      show lN (if i = 3 then 1 else if i = 3 then 1 else 0) = lN (if i = 3 then 1 else 0)
      by_cases e : i = 3
      · rw [if_pos e, if_pos e]
      · rw [if_neg e, if_neg e]
    refine bg_mc102 hs h1 h2 h3 h4 hl hll ?_ (bg_hold_snoc i4 hp2) (fun km b2 b3 b4 b5 b6 b7 g1 g2 g3 g4 => H km b2 b3 b4 b5 b6 b7 g1 (fun j hj => ?_) g3 (bg_fr_t (bg_fr_s i5 (by omega) hp) g4))
    · rw [pk_us]
      exact congrArg nI (List.length_append (bs := [bg_last own])).symm
    · rw [g2 j hj, pk_un hj]
      exact i3 j hj
  · intro n c s hc hI hw
    obtain ⟨s2, s3, s4⟩ := s
    obtain ⟨i2, i3, i4, i5⟩ := hI
    dsimp only at i2 i3 i4 i5
    refine pk_le 3 c (fun z => absurd z (by omega)) (fun _ => ?_)
    refine bg_isIn h2 hc (fun hb => br_t rfl (nm_r (nI_1 c) (hw (s2, s3, s4) ?_))) (fun hb => br_f (by decide) ?_)
    · have e : (List.range (c + 1)).filter (fun c => own.testBit c) = (List.range c).filter (fun c => own.testBit c) := by
        rw [List.range_succ, List.filter_append, List.filter_cons_of_neg (by rw [hb]; simp), List.filter_nil, List.append_nil]
      rw [e]
      exact ⟨i2, i3, i4, i5⟩
    · have e : (List.range (c + 1)).filter (fun c => own.testBit c) = (List.range c).filter (fun c => own.testBit c) ++ [c] := by
        rw [List.range_succ, List.filter_append, List.filter_cons_of_pos hb, List.filter_nil]
      have hlen : (((List.range c).filter (fun c => own.testBit c)).map (bg_ray0 l own (bg_hd other))).length ≤ c := by
        rw [List.length_map]
        have := List.length_filter_le (fun c => own.testBit c) (List.range c)
        rw [List.length_range] at this
        exact this
      have x := bg_ix3 c (bg_hd other)
      have hl19 := hll c (bg_hd other) hc hst.1
      have ht6 : (own ^^^ 2 ^ c) ||| 2 ^ (3 + bg_hd other) < 2 ^ 6 := by
        have q1 : 2 ^ (3 + bg_hd other) < 2 ^ 6 := Nat.pow_lt_pow_right (by omega) (by omega)
        have q2 : 2 ^ c < 2 ^ 6 := Nat.pow_lt_pow_right (by omega) (by omega)
        exact Nat.or_lt_two_pow (Nat.xor_lt_two_pow (by omega) q2) q1
      refine ⟨pk_in _ 9 (by omega) x, ?_⟩
      rw [pk_cl _ x, hl c (bg_hd other) hc hst.1, bg_bits_all own h2 c hc (bg_hd other) hst.1 hb]
      refine bg_addEdge (k := (((List.range c).filter (fun c => own.testBit c)).map (bg_ray0 l own (bg_hd other))).length) hs (by omega) (by omega) (by omega) (by omega) i2 (fun b3 hp => nm_r (nI_1 c) (hw (_, b3, _) ?_))
      have hp2 : bg_put s3 b3 (24 * side + (((List.range c).filter (fun c => own.testBit c)).map (bg_ray0 l own (bg_hd other))).length) (bg_ray0 l own (bg_hd other) c).1 4 := by
        refine ⟨fun i hi => ?_, hp.2⟩
        rw [hp.1 i hi]
        show lN (if i = 3 then l c (bg_hd other) else if i = c then 1 else 0) = lN (if i = c then 1 else if i = 3 then l c (bg_hd other) else 0)
        by_cases e : i = 3
        · rw [if_pos e, if_neg (by omega), if_pos e]
        · rw [if_neg e]
          by_cases e2 : i = c
          · rw [if_pos e2, if_pos e2]
          · rw [if_neg e2, if_neg e2, if_neg e]
      rw [e, List.map_append]
      refine ⟨?_, fun j hj => ?_, bg_hold_snoc (r := bg_ray0 l own (bg_hd other) c) i4 hp2, bg_fr_s i5 (by omega) hp⟩
      · show upd s2 side _ side = _
        rw [pk_us]
        exact congrArg nI (List.length_append (bs := [bg_ray0 l own (bg_hd other) c])).symm
      · show upd s2 side _ j = _
        rw [pk_un hj]
        exact i3 j hj
end
end
section
section
def bg_df (x y : bg_Ray) (i : Nat) : Int := (x.1 i : Int) * (bg_S y : Int) - (y.1 i : Int) * (bg_S x : Int)
def bg_cmpF (x y : bg_Ray) : Nat → Nat → Int
  | 0, _ => 0
  | n + 1, i => if bg_df x y i = 0 then bg_cmpF x y n (i + 1) else if 0 ≤ bg_df x y i then 1 else -1
def bg_cmp (x y : bg_Ray) : Int := bg_cmpF x y 3 0
def bg_bef (X Y : List bg_Ray) (p q : Nat × Nat) : Bool :=
  decide ((if bg_cmp (X.getD p.1 bg_d0) (X.getD q.1 bg_d0) = 0 then bg_cmp (Y.getD p.2 bg_d0) (Y.getD q.2 bg_d0) else bg_cmp (X.getD p.1 bg_d0) (X.getD q.1 bg_d0)) < 0)
def bg_pos (f : Nat × Nat → Bool) (E : List (Nat × Nat)) : Nat → Nat
  | 0 => 0
  | a + 1 => if f (E.getD a (0, 0)) = true then bg_pos f E a else a + 1
theorem bg_pos_le (f : Nat × Nat → Bool) (E : List (Nat × Nat)) : ∀ n, bg_pos f E n ≤ n := by
  intro n
  induction n with
  | zero => exact Nat.le_refl 0
  | succ n ih =>
    unfold bg_pos
    split
    · omega
    · exact Nat.le_refl _
def bg_ins (X Y : List bg_Ray) (E : List (Nat × Nat)) (p : Nat × Nat) : List (Nat × Nat) := E.insertIdx (bg_pos (bg_bef X Y p) E E.length) p
theorem bg_ins_len (X Y : List bg_Ray) (E : List (Nat × Nat)) (p : Nat × Nat) : (bg_ins X Y E p).length = E.length + 1 :=
  List.length_insertIdx_of_le_length (bg_pos_le _ E E.length) p
theorem bg_ins_mem (X Y : List bg_Ray) (E : List (Nat × Nat)) (p q : Nat × Nat) : q ∈ bg_ins X Y E p ↔ q = p ∨ q ∈ E :=
  List.mem_insertIdx (bg_pos_le _ E E.length)
def bg_insAll (X Y : List bg_Ray) (E c : List (Nat × Nat)) : List (Nat × Nat) := c.foldl (bg_ins X Y) E
theorem bg_insAll_len (X Y : List bg_Ray) : ∀ (c E : List (Nat × Nat)), (bg_insAll X Y E c).length = E.length + c.length := by
  intro c
  induction c with
  | nil => intro E; rfl
  | cons p c ih =>
    intro E
    show (bg_insAll X Y (bg_ins X Y E p) c).length = _
    rw [ih, bg_ins_len, List.length_cons]
    omega
theorem bg_insAll_mem (X Y : List bg_Ray) (q : Nat × Nat) : ∀ (c E : List (Nat × Nat)), q ∈ bg_insAll X Y E c ↔ q ∈ E ∨ q ∈ c := by
  intro c
  induction c with
  | nil => intro E; simp [bg_insAll]
  | cons p c ih =>
    intro E
    show q ∈ bg_insAll X Y (bg_ins X Y E p) c ↔ _
    rw [ih, bg_ins_mem, List.mem_cons]
    constructor
    · rintro ((h | h) | h)
      · exact Or.inr (Or.inl h)
      · exact Or.inl h
      · exact Or.inr (Or.inr h)
    · rintro (h | h | h)
      · exact Or.inl (Or.inr h)
      · exact Or.inl (Or.inl h)
      · exact Or.inr h
def bg_fp (X Y : List bg_Ray) (R C k l : Nat) : Option (Nat × Nat) := if bg_fit (X.getD k bg_d0).2 (Y.getD l bg_d0).2 R C = true then some (k, l) else none
def bg_cand (X Y : List bg_Ray) (R C : Nat) : List (Nat × Nat) := (List.range X.length).flatMap (fun k => (List.range Y.length).filterMap (bg_fp X Y R C k))
def bg_E (X Y : List bg_Ray) (R C : Nat) : List (Nat × Nat) := bg_insAll X Y [] (bg_cand X Y R C)
theorem bg_cand_mem {X Y : List bg_Ray} {R C k l : Nat} : (k, l) ∈ bg_cand X Y R C ↔ k < X.length ∧ l < Y.length ∧ bg_fit (X.getD k bg_d0).2 (Y.getD l bg_d0).2 R C = true := by
  unfold bg_cand
  rw [List.mem_flatMap]
  constructor
  · rintro ⟨k', hk, h⟩
    obtain ⟨l', hl, e⟩ := List.mem_filterMap.mp h
    unfold bg_fp at e
    split at e
    · rename_i hf
      have := Option.some.inj e
      have e1 : k' = k := congrArg Prod.fst this
      have e2 : l' = l := congrArg Prod.snd this
      rw [e1] at hk hf
      rw [e2] at hl hf
      exact ⟨List.mem_range.mp hk, List.mem_range.mp hl, hf⟩
    · exact absurd e (by simp)
  · rintro ⟨hk, hl, hf⟩
    refine ⟨k, List.mem_range.mpr hk, List.mem_filterMap.mpr ⟨l, List.mem_range.mpr hl, ?_⟩⟩
    unfold bg_fp
    rw [if_pos hf]
theorem bg_E_mem {X Y : List bg_Ray} {R C k l : Nat} : (k, l) ∈ bg_E X Y R C ↔ k < X.length ∧ l < Y.length ∧ bg_fit (X.getD k bg_d0).2 (Y.getD l bg_d0).2 R C = true := by
  unfold bg_E
  rw [bg_insAll_mem, bg_cand_mem]
  simp
theorem bg_E_len (X Y : List bg_Ray) (R C : Nat) : (bg_E X Y R C).length = (bg_cand X Y R C).length := by
  unfold bg_E
  rw [bg_insAll_len]
  simp
theorem bg_fp_len (X Y : List bg_Ray) (R C k : Nat) : ∀ n, n ≤ Y.length → ((List.range n).filterMap (bg_fp X Y R C k)).length = ((Y.take n).filter (fun y => bg_fit (X.getD k bg_d0).2 y.2 R C)).length := by
  intro n
  induction n with
  | zero => intro _; rfl
  | succ n ih =>
    intro h
    rw [List.range_succ, List.filterMap_append, List.length_append, ih (by omega), bg_take_s (bg_get (show n < Y.length by omega)), List.filter_append, List.length_append]
    congr 1
    by_cases hf : bg_fit (X.getD k bg_d0).2 (Y.getD n bg_d0).2 R C = true
    · have h1 : bg_fp X Y R C k n = some (k, n) := by unfold bg_fp; rw [if_pos hf]
      rw [bg_fm1s h1, List.filter_cons_of_pos (p := fun y : bg_Ray => bg_fit (X.getD k bg_d0).2 y.2 R C) hf, List.filter_nil]
      rfl
    · have h1 : bg_fp X Y R C k n = none := by unfold bg_fp; rw [if_neg hf]
      rw [bg_fm1n h1, List.filter_cons_of_neg (p := fun y : bg_Ray => bg_fit (X.getD k bg_d0).2 y.2 R C) hf, List.filter_nil]
      rfl
theorem bg_flat_le {β : Type} (F : Nat → List β) (m : Nat) : ∀ n, (∀ k, k < n → (F k).length ≤ m) → ((List.range n).flatMap F).length ≤ m * n := by
  intro n
  induction n with
  | zero => intro _; simp
  | succ n ih =>
    intro h
    rw [List.range_succ, List.flatMap_append, List.length_append, Nat.mul_succ]
    have h1 := ih (fun k hk => h k (by omega))
    have h2 := h n (by omega)
    have e : [n].flatMap F = F n := by simp
    rw [e]
    omega
theorem bg_filter_le {α : Type} {p q : α → Bool} : ∀ (l : List α), (∀ a, a ∈ l → p a = true → q a = true) → (l.filter p).length ≤ (l.filter q).length := by
  intro l
  induction l with
  | nil => intro _; exact Nat.le_refl _
  | cons a l ih =>
    intro h
    have h1 := ih (fun b hb => h b (List.mem_cons_of_mem _ hb))
    have h2 := h a List.mem_cons_self
    cases hp : p a with
    | false =>
      rw [List.filter_cons_of_neg (by rw [hp]; simp)]
      cases hq : q a with
      | false => rw [List.filter_cons_of_neg (by rw [hq]; simp)]; exact h1
      | true => rw [List.filter_cons_of_pos hq, List.length_cons]; omega
    | true =>
      rw [List.filter_cons_of_pos hp, List.filter_cons_of_pos (h2 hp), List.length_cons, List.length_cons]
      omega
/-- what a fit says: a choice that is played is tight on the other side -/
theorem bg_fit_tight {x y R C i : Nat} (h : bg_fit x y R C = true) (hR : R.testBit i = true) (hx : x.testBit i = false) : y.testBit (3 + i) = true := by
  unfold bg_fit at h
  rw [Bool.and_eq_true, beq_iff_eq, beq_iff_eq] at h
  have h1 : ((x ||| (y >>> 3)) &&& R).testBit i = true := by rw [h.1]; exact hR
  rw [Nat.testBit_and, Nat.testBit_or, hx, Nat.testBit_shiftRight, Bool.false_or, Bool.and_eq_true] at h1
  exact h1.1
theorem bg_fit_sw (x y R C : Nat) : bg_fit x y R C = bg_fit y x C R := by
  unfold bg_fit
  rw [Bool.and_comm]
theorem bg_cand_le {l l' : Nat → Nat → Nat} (hl : bg_lo l) (hl' : bg_lo l') {own other : Nat} (h1 : 0 < own) (h2 : own < 8) (h3 : 0 < other) (h4 : other < 8) :
    (bg_cand (bg_cone l own other) (bg_cone l' other own) own other).length ≤ 63 := by
  have hX := bg_cone_len hl h1 h2 h3 h4
  have hY := bg_cone_len hl' h3 h4 h1 h2
  have key : ∀ k, k < (bg_cone l own other).length → ((List.range (bg_cone l' other own).length).filterMap (bg_fp (bg_cone l own other) (bg_cone l' other own) own other k)).length ≤ 7 := by
    intro k hk
    rw [bg_fp_len _ _ _ _ _ _ (Nat.le_refl _), List.take_length]
    have hm := bg_getD_mem hk
    have V := bg_cone_V hl h1 h2 h3 h4 _ hm
    generalize (bg_cone l own other).getD k bg_d0 = x at V ⊢
    obtain ⟨V, hS, _⟩ := V
    have hc : ∃ c, c < 3 ∧ x.1 c ≠ 0 := by
      by_cases c0 : x.1 0 = 0
      · by_cases c1 : x.1 1 = 0
        · by_cases c2 : x.1 2 = 0
          · exfalso
            unfold bg_S at hS
            omega
          · exact ⟨2, by omega, c2⟩
        · exact ⟨1, by omega, c1⟩
      · exact ⟨0, by omega, c0⟩
    obtain ⟨c, hc, hne⟩ := hc
    have hoc : own.testBit c = true := by
      cases e : own.testBit c with
      | true => rfl
      | false => exact absurd (V.1 c hc e) hne
    have hxc : x.2.testBit c = false := by
      cases e : x.2.testBit c with
      | false => rfl
      | true => exact absurd ((V.2.1 c hc).mp e).2 hne
    exact Nat.le_trans (bg_filter_le _ (fun y _ hf => bg_fit_tight hf hoc hxc)) (hY.2 (3 + c) (by omega))
  have := bg_flat_le (fun k => (List.range (bg_cone l' other own).length).filterMap (bg_fp (bg_cone l own other) (bg_cone l' other own) own other k)) 7 _ key
  have h9 := hX.1
  unfold bg_cand
  omega
/-- the count of fits is the same from either side -/
theorem bg_cnt_sum (f : bg_Ray → bg_Ray → Bool) (X Y : List bg_Ray) : (X.map (fun x => (Y.filter (f x)).length)).sum = (Y.map (fun y => (X.filter (fun x => f x y)).length)).sum := by
  induction X with
  | nil =>
    simp only [List.map_nil, List.sum_nil, List.filter_nil, List.length_nil]
    induction Y with
    | nil => rfl
    | cons y Y ih => rw [List.map_cons, List.sum_cons, ← ih, Nat.add_zero]
  | cons x X ih =>
    rw [List.map_cons, List.sum_cons, ih]
    clear ih
    induction Y with
    | nil => rfl
    | cons y Y ih =>
      rw [List.map_cons, List.sum_cons, List.map_cons, List.sum_cons, ← ih]
      cases h : f x y with
      | true =>
        rw [List.filter_cons_of_pos h, List.filter_cons_of_pos (a := x) h, List.length_cons, List.length_cons]
        omega
      | false =>
        rw [List.filter_cons_of_neg (by rw [h]; simp), List.filter_cons_of_neg (a := x) (by rw [h]; simp)]
        omega
theorem bg_cand_sum (X Y : List bg_Ray) (R C : Nat) : (bg_cand X Y R C).length = (X.map (fun x => (Y.filter (fun y => bg_fit x.2 y.2 R C)).length)).sum := by
  have key : ∀ n, n ≤ X.length → ((List.range n).flatMap (fun k => (List.range Y.length).filterMap (bg_fp X Y R C k))).length = ((X.take n).map (fun x => (Y.filter (fun y => bg_fit x.2 y.2 R C)).length)).sum := by
    intro n
    induction n with
    | zero => intro _; rfl
    | succ n ih =>
      intro h
      rw [List.range_succ, List.flatMap_append, List.length_append, ih (by omega), bg_take_s (bg_get (show n < X.length by omega)), List.map_append, List.sum_append]
      congr 1
      have e : [n].flatMap (fun k => (List.range Y.length).filterMap (bg_fp X Y R C k)) = (List.range Y.length).filterMap (bg_fp X Y R C n) := by simp
      rw [e, bg_fp_len _ _ _ _ _ _ (Nat.le_refl _), List.take_length]
      simp
  have := key X.length (Nat.le_refl _)
  rw [List.take_length] at this
  exact this
theorem bg_E_sw (X Y : List bg_Ray) (R C : Nat) : (bg_E X Y R C).length = (bg_E Y X C R).length := by
  rw [bg_E_len, bg_E_len, bg_cand_sum, bg_cand_sum, bg_cnt_sum (fun x y => bg_fit x.2 y.2 R C)]
  congr 1
  apply List.map_congr_left
  intro y _
  congr 1
  apply List.filter_congr
  intro x _
  exact bg_fit_sw _ _ _ _
end
end
section
section
theorem bg_cmpF_cases (x y : bg_Ray) : ∀ n i, bg_cmpF x y n i = -1 ∨ bg_cmpF x y n i = 0 ∨ bg_cmpF x y n i = 1 := by
  intro n
  induction n with
  | zero => intro i; exact Or.inr (Or.inl rfl)
  | succ n ih =>
    intro i
    unfold bg_cmpF
    split
    · exact ih (i + 1)
    · split
      · exact Or.inr (Or.inr rfl)
      · exact Or.inl rfl
theorem bg_I3 {c : Int} (h : c = -1 ∨ c = 0 ∨ c = 1) : (bg_I c = 0 ↔ c = 0) ∧ (0 ≤ bg_I c ↔ 0 ≤ c) := by
  rcases h with h | h | h <;> subst h <;> decide
theorem bg_S_b {r : bg_Ray} (h : ∀ c, c < 3 → r.1 c ≤ 1296) : bg_S r ≤ 3888 := by
  have h0 := h 0 (by omega)
  have h1 := h 1 (by omega)
  have h2 := h 2 (by omega)
  unfold bg_S
  omega
theorem bg_compare {fr fc fm fo ft fl fn : Int32} {fp fq : Int64} {a1 a2 : Nat → Int32} {a3 : Nat → Int64} {a4 : Nat → Int32} {a5 : Nat → Int64} {a6 : Nat → Int32} {a7 : Nat → Int64} {a8 a9 a10 : Nat → Int32} {post : Int32 → Prop} {e f : Nat} {x y : bg_Ray} (he : e < 48) (hf : f < 48) (hx : ∀ i, i < 4 → a3 (4 * e + i) = lN (x.1 i)) (hy : ∀ i, i < 4 → a3 (4 * f + i) = lN (y.1 i))
    (bx : ∀ c, c < 3 → x.1 c ≤ 1296) (bb : ∀ c, c < 3 → y.1 c ≤ 1296) (H : post (bg_I (bg_cmp x y))) : wpX_compare post (fr, fc, fm, fo, ft, fl, fn, fp, fq, a1, a2, a3, a4, a5, a6, a7, a8, a9, a10) (nI e) (nI f) := by
  unfold wpX_compare
  refine bg_sumOf he hx (bg_sumOf hf hy ?_)
  refine pk_loop (σ := Unit) (fun n i _ => wX_compare_16 post (nI e) (nI f) (lN (bg_S x)) (lN (bg_S y)) fr fc fm fo ft fl fn fp fq a1 a2 a3 a4 a5 a6 a7 a8 a9 a10 n (nI i)) (fun i _ => i ≤ 3 ∧ bg_cmp x y = bg_cmpF x y (3 - i) i) 3 0 () (by omega) ⟨by omega, rfl⟩ ?_ ?_
  · intro n _ hI
    refine pk_le 3 3 (fun _ => ?_) (fun z => absurd z (by omega))
    rw [hI.2] at H
    exact H
  · intro n i _ hi hI hw
    have xe := bg_ix4 e i
    have xf := bg_ix4 f i
    have ed : a3 (4 * nI e + nI i).toNatClampNeg * lN (bg_S y) - a3 (4 * nI f + nI i).toNatClampNeg * lN (bg_S x) = bg_L (bg_df x y i) := by
      rw [pk_cl _ xe, pk_cl _ xf, hx i (by omega), hy i (by omega), bg_L_N, bg_L_N, bg_L_N, bg_L_N, bg_L_mul, bg_L_mul, bg_L_sub]
      rfl
    have bd : -2 ^ 62 ≤ bg_df x y i ∧ bg_df x y i < 2 ^ 62 := by
      have m1 : x.1 i * bg_S y ≤ 1296 * 3888 := Nat.mul_le_mul (bx i hi) (bg_S_b bb)
      have m2 : y.1 i * bg_S x ≤ 1296 * 3888 := Nat.mul_le_mul (bb i hi) (bg_S_b bx)
      unfold bg_df
      rw [← Int.natCast_mul, ← Int.natCast_mul]
      omega
    have e3 : 3 - i = (3 - (i + 1)) + 1 := by omega
    rw [e3] at hI
    unfold bg_cmpF at hI
    refine pk_le 3 i (fun z => absurd z (by omega)) (fun _ => ⟨pk_in _ 192 (by omega) xe, pk_in _ 192 (by omega) xf, nm_r ed ?_⟩)
    refine ek_if (d := bg_df x y i = 0) (by rw [← bg_L_0, bg_L_eq bd.1 bd.2 (by omega) (by omega)]) (fun z => nm_r (nI_1 i) (hw () ?_)) (fun z => ?_)
    · rw [if_pos z] at hI
      exact ⟨by omega, hI.2⟩
    · rw [if_neg z] at hI
      refine ek_if (d := 0 ≤ bg_df x y i) (by rw [← bg_L_0, bg_L_le (by omega) (by omega) bd.1 bd.2]) (fun w => ?_) (fun w => ?_)
      · rw [if_pos w] at hI
        rw [hI.2] at H
        exact H
      · rw [if_neg w] at hI
        rw [hI.2] at H
        exact H
def bg_lh (a b : Nat → Int32) (E : List (Nat × Nat)) : Prop := ∀ j q, E[j]? = some q → a j = nI q.1 ∧ b j = nI q.2
theorem bg_getP {E : List (Nat × Nat)} {k : Nat} (hk : k < E.length) : E[k]? = some (E.getD k (0, 0)) := by
  rw [List.getD_eq_getElem?_getD, List.getElem?_eq_getElem hk]
  rfl
theorem bg_memP {E : List (Nat × Nat)} {k : Nat} (hk : k < E.length) : E.getD k (0, 0) ∈ E := by
  rw [List.getD_eq_getElem?_getD, List.getElem?_eq_getElem hk]
  exact List.getElem_mem hk
theorem bg_isBefore {fr fc fm fo ft fl fn : Int32} {fp fq : Int64} {a1 a2 : Nat → Int32} {a3 : Nat → Int64} {a4 : Nat → Int32} {a5 : Nat → Int64} {a6 : Nat → Int32} {a7 : Nat → Int64} {a8 a9 a10 : Nat → Int32} {post : Int32 → Prop} {X Y : List bg_Ray} {k l m : Nat} {q : Nat × Nat} (hX : X.length ≤ 24) (hY : Y.length ≤ 24) (h0 : bg_hold a3 a4 0 X) (h1 : bg_hold a3 a4 24 Y)
    (bX : ∀ r, r ∈ X → ∀ c, c < 3 → r.1 c ≤ 1296) (bY : ∀ r, r ∈ Y → ∀ c, c < 3 → r.1 c ≤ 1296) (hk : k < X.length) (hl : l < Y.length) (hq : q.1 < X.length ∧ q.2 < Y.length) (hm : m < 64)
    (h9 : a9 m = nI q.1) (h10 : a10 m = nI q.2) (H0 : bg_bef X Y (k, l) q = false → post 0) (H1 : bg_bef X Y (k, l) q = true → post 1) : wpX_isBefore post (fr, fc, fm, fo, ft, fl, fn, fp, fq, a1, a2, a3, a4, a5, a6, a7, a8, a9, a10) (nI k) (nI l) (nI m) := by
  have xk := (bg_hold_at h0 hk).2
  have xq := (bg_hold_at h0 hq.1).2
  have yl := (bg_hold_at h1 hl).2
  have yq := (bg_hold_at h1 hq.2).2
  simp only [Nat.zero_add] at xk xq
  have fin : ∀ c : Int, (c = -1 ∨ c = 0 ∨ c = 1) → (0 ≤ c → bg_bef X Y (k, l) q = false) → (¬ 0 ≤ c → bg_bef X Y (k, l) q = true) → wX_isBefore_37 post (bg_I c) fr fc fm fo ft fl fn fp fq a1 a2 a3 a4 a5 a6 a7 a8 a9 a10 := by
    intro c hc g0 g1
    unfold wX_isBefore_37
    exact ek_if (bg_I3 hc).2 (fun z => H0 (g0 z)) (fun z => H1 (g1 z))
  unfold wpX_isBefore
  refine ⟨pk_in m 64 hm, ?_⟩
  rw [pk_cl m, h9]
  refine bg_compare (x := X.getD k bg_d0) (y := X.getD q.1 bg_d0) (by omega) (by omega) xk xq (bX _ (bg_getD_mem hk)) (bX _ (bg_getD_mem hq.1)) ?_
  have c1 := bg_cmpF_cases (X.getD k bg_d0) (X.getD q.1 bg_d0) 3 0
  have c2 := bg_cmpF_cases (Y.getD l bg_d0) (Y.getD q.2 bg_d0) 3 0
  refine ek_if (bg_I3 c1).1 (fun z => ⟨pk_in m 64 hm, ?_⟩) (fun z => fin _ c1 (fun w => ?_) (fun w => ?_))
  · have z' : bg_cmp (X.getD k bg_d0) (X.getD q.1 bg_d0) = 0 := z
    rw [h10]
    have t1 : 24 + nI l = nI (24 + l) := nI_add 24 l
    have t2 : 24 + nI q.2 = nI (24 + q.2) := nI_add 24 q.2
    rw [t1, t2]
    refine bg_compare (x := Y.getD l bg_d0) (y := Y.getD q.2 bg_d0) (by omega) (by omega) yl yq (bY _ (bg_getD_mem hl)) (bY _ (bg_getD_mem hq.2)) (fin _ c2 (fun w => ?_) (fun w => ?_))
    · unfold bg_bef
      rw [if_pos z', decide_eq_false]
      show ¬ bg_cmp (Y.getD l bg_d0) (Y.getD q.2 bg_d0) < 0
      have w' : 0 ≤ bg_cmp (Y.getD l bg_d0) (Y.getD q.2 bg_d0) := w
      omega
    · unfold bg_bef
      rw [if_pos z', decide_eq_true]
      show bg_cmp (Y.getD l bg_d0) (Y.getD q.2 bg_d0) < 0
      have w' : ¬ 0 ≤ bg_cmp (Y.getD l bg_d0) (Y.getD q.2 bg_d0) := w
      omega
  · have z' : ¬ bg_cmp (X.getD k bg_d0) (X.getD q.1 bg_d0) = 0 := z
    have w' : 0 ≤ bg_cmp (X.getD k bg_d0) (X.getD q.1 bg_d0) := w
    unfold bg_bef
    rw [if_neg z', decide_eq_false]
    show ¬ bg_cmp (X.getD k bg_d0) (X.getD q.1 bg_d0) < 0
    omega
  · have z' : ¬ bg_cmp (X.getD k bg_d0) (X.getD q.1 bg_d0) = 0 := z
    have w' : ¬ 0 ≤ bg_cmp (X.getD k bg_d0) (X.getD q.1 bg_d0) := w
    unfold bg_bef
    rw [if_neg z', decide_eq_true]
    show bg_cmp (X.getD k bg_d0) (X.getD q.1 bg_d0) < 0
    omega
theorem bg_insert {fr fc fm fo ft fl : Int32} {fp fq : Int64} {a1 a2 : Nat → Int32} {a3 : Nat → Int64} {a4 : Nat → Int32} {a5 : Nat → Int64} {a6 : Nat → Int32} {a7 : Nat → Int64} {a8 a9 a10 : Nat → Int32} {post : St1 → Prop} {X Y : List bg_Ray} {E : List (Nat × Nat)} {k l : Nat} (hX : X.length ≤ 24) (hY : Y.length ≤ 24) (h0 : bg_hold a3 a4 0 X) (h1 : bg_hold a3 a4 24 Y)
    (bX : ∀ r, r ∈ X → ∀ c, c < 3 → r.1 c ≤ 1296) (bY : ∀ r, r ∈ Y → ∀ c, c < 3 → r.1 c ≤ 1296) (hk : k < X.length) (hl : l < Y.length) (hE : ∀ q, q ∈ E → q.1 < X.length ∧ q.2 < Y.length) (hn : E.length < 64) (hh : bg_lh a9 a10 E)
    (H : ∀ b9 b10, bg_lh b9 b10 (bg_ins X Y E (k, l)) → post (fr, fc, fm, fo, ft, fl, nI (E.length + 1), fp, fq, a1, a2, a3, a4, a5, a6, a7, a8, b9, b10)) : wpX_insert post (fr, fc, fm, fo, ft, fl, nI E.length, fp, fq, a1, a2, a3, a4, a5, a6, a7, a8, a9, a10) (nI k) (nI l) := by
  have fin : ∀ (at' : Nat) (s9 s10 : Nat → Int32), at' ≤ E.length → (∀ j, j < at' → s9 j = nI (E.getD j (0, 0)).1 ∧ s10 j = nI (E.getD j (0, 0)).2) →
      (∀ j, at' < j → j ≤ E.length → s9 j = nI (E.getD (j - 1) (0, 0)).1 ∧ s10 j = nI (E.getD (j - 1) (0, 0)).2) → bg_pos (bg_bef X Y (k, l)) E E.length = at' →
      wX_insert_55 post (nI k) (nI l) (nI at') fr fc fm fo ft fl (nI E.length) fp fq a1 a2 a3 a4 a5 a6 a7 a8 s9 s10 := by
    intro at' s9 s10 g1 g2 g3 g4
    unfold wX_insert_55
    refine ⟨pk_in at' 64 (by omega), nm_r (bg_u (pk_cl at') (bg_byte_all k (by omega))) ⟨pk_in at' 64 (by omega), nm_r (bg_u (pk_cl at') (bg_byte_all l (by omega))) (nm_r (nI_1 E.length) (H _ _ ?_))⟩⟩
    intro j q hq
    unfold bg_ins at hq
    rw [g4] at hq
    rcases Nat.lt_trichotomy j at' with z | z | z
    · rw [List.getElem?_insertIdx_of_lt z, bg_getP (by omega)] at hq
      have e := Option.some.inj hq
      rw [pk_un (by omega), pk_un (by omega), ← e]
      exact g2 j z
    · rw [z, List.getElem?_insertIdx_self, if_pos g1] at hq
      have e := Option.some.inj hq
      rw [z, pk_us, pk_us, ← e]
      exact ⟨rfl, rfl⟩
    · rw [List.getElem?_insertIdx_of_gt z] at hq
      have hj : j - 1 < E.length := by
        rcases Nat.lt_or_ge (j - 1) E.length with y | y
        · exact y
        · rw [List.getElem?_eq_none y] at hq
          exact absurd hq (by simp)
      rw [bg_getP hj] at hq
      have e := Option.some.inj hq
      rw [pk_un (by omega), pk_un (by omega), ← e]
      exact g3 j z (by omega)
  unfold wpX_insert
  refine ⟨E.length + 1, ?_⟩
  refine pk_loopD (fun n m (s : (Nat → Int32) × (Nat → Int32)) => wX_insert_5 post (nI k) (nI l) fr fc fm fo ft fl (nI E.length) fp fq n (nI m) a1 a2 a3 a4 a5 a6 a7 a8 s.1 s.2)
    (fun m s => m ≤ E.length ∧ (∀ j, j < m → s.1 j = nI (E.getD j (0, 0)).1 ∧ s.2 j = nI (E.getD j (0, 0)).2) ∧ (∀ j, m < j → j ≤ E.length → s.1 j = nI (E.getD (j - 1) (0, 0)).1 ∧ s.2 j = nI (E.getD (j - 1) (0, 0)).2) ∧
      bg_pos (bg_bef X Y (k, l)) E E.length = bg_pos (bg_bef X Y (k, l)) E m) ?_ ?_ E.length (a9, a10) ?_
  · intro n s hI
    exact pk_le 0 0 (fun _ => fin 0 s.1 s.2 (by omega) hI.2.1 hI.2.2.1 hI.2.2.2) (fun z => absurd z (by omega))
  · intro n m s hI hw
    obtain ⟨s9, s10⟩ := s
    obtain ⟨i1, i2, i3, i4⟩ := hI
    dsimp only at i2 i3
    have hpm : bg_pos (bg_bef X Y (k, l)) E (m + 1) = if bg_bef X Y (k, l) (E.getD m (0, 0)) = true then bg_pos (bg_bef X Y (k, l)) E m else m + 1 := rfl
    have hm := i2 m (by omega)
    have hq := hE _ (bg_memP (show m < E.length by omega))
    refine pk_le (m + 1) 0 (fun z => absurd z (by omega)) (fun _ => ?_)
    rw [nI_pred]
    refine bg_isBefore (q := E.getD m (0, 0)) hX hY h0 h1 bX bY hk hl hq (by omega) hm.1 hm.2 (fun hb => br_t rfl (fin (m + 1) s9 s10 i1 i2 i3 ?_)) (fun hb => br_f (by decide) ?_)
    · rw [i4, hpm, hb]
      rfl
    · refine ⟨pk_in m 64 (by omega), pk_in (m + 1) 64 (by omega), nm_r (bg_u (x' := nI (E.getD m (0, 0)).1) (pk_cl (m + 1)) ?_) ⟨pk_in m 64 (by omega), pk_in (m + 1) 64 (by omega), nm_r (bg_u (x' := nI (E.getD m (0, 0)).2) (pk_cl (m + 1)) ?_) (nm_r (pk_m1 m) (hw (_, _) ⟨by omega, fun j hj => ?_, fun j h1 h2 => ?_, ?_⟩))⟩⟩
      · rw [pk_cl m]
        show vp_nar .byte (s9 m) = _
        rw [hm.1]
        exact bg_nar (by omega)
      · rw [pk_cl m]
        show vp_nar .byte (s10 m) = _
        rw [hm.2]
        exact bg_nar (by omega)
      · show upd s9 (m + 1) _ j = _ ∧ upd s10 (m + 1) _ j = _
        rw [pk_un (by omega), pk_un (by omega)]
        exact i2 j (by omega)
      · show upd s9 (m + 1) _ j = _ ∧ upd s10 (m + 1) _ j = _
        by_cases e : j = m + 1
        · rw [e, pk_us, pk_us]
          exact ⟨rfl, rfl⟩
        · rw [pk_un e, pk_un e]
          exact i3 j (by omega) h2
      · rw [i4, hpm, hb]
        rfl
  · refine ⟨Nat.le_refl _, fun j hj => hh j _ (bg_getP hj), fun j h1 h2 => absurd h1 (by omega), rfl⟩
end
end
section
section
def bg_m (R : Nat) : Nat := 2 ^ R - 1
def bg_X (R C : Nat) (A B : Nat → Nat → Int) : List bg_Ray := bg_cone (bg_ls A B 0 0) (bg_m R) (bg_m C)
def bg_Y (R C : Nat) (A B : Nat → Nat → Int) : List bg_Ray := bg_cone (bg_ls A B 1 0) (bg_m C) (bg_m R)
def bg_EE (R C : Nat) (A B : Nat → Nat → Int) : List (Nat × Nat) := bg_E (bg_X R C A B) (bg_Y R C A B) (bg_m R) (bg_m C)
def bg_gm (R C : Nat) (A B : Nat → Nat → Int) : Prop := (1 ≤ R ∧ R ≤ 3) ∧ (1 ≤ C ∧ C ≤ 3) ∧ bg_rg A B
def bg_Lst (R C : Nat) (A B : Nat → Nat → Int) (fn : Int32) (a3 : Nat → Int64) (a4 a9 a10 : Nat → Int32) : Prop :=
  bg_hold a3 a4 0 (bg_X R C A B) ∧ bg_hold a3 a4 24 (bg_Y R C A B) ∧ fn = nI (bg_EE R C A B).length ∧ bg_lh a9 a10 (bg_EE R C A B)
/-- the state of an object that plays the game R, C, A, B -/
def bg_G (R C : Nat) (A B : Nat → Nat → Int) (u : St1) : Prop := match u with
  | (fr, fc, fm, fo, ft, fl, fn, fp, fq, a1, a2, a3, a4, a5, a6, a7, a8, a9, a10) => fr = nI R ∧ fc = nI C ∧ bg_pm A B a1 ∧ (fl = 0 ∨ bg_Lst R C A B fn a3 a4 a9 a10)
/-- and with its equilibria listed -/
def bg_GL (R C : Nat) (A B : Nat → Nat → Int) (u : St1) : Prop := match u with
  | (fr, fc, fm, fo, ft, fl, fn, fp, fq, a1, a2, a3, a4, a5, a6, a7, a8, a9, a10) => fr = nI R ∧ fc = nI C ∧ bg_pm A B a1 ∧ bg_Lst R C A B fn a3 a4 a9 a10
theorem bg_GL_G {R C : Nat} {A B : Nat → Nat → Int} {u : St1} (h : bg_GL R C A B u) : bg_G R C A B u := by
  obtain ⟨fr, fc, fm, fo, ft, fl, fn, fp, fq, a1, a2, a3, a4, a5, a6, a7, a8, a9, a10⟩ := u
  exact ⟨h.1, h.2.1, h.2.2.1, Or.inr h.2.2.2⟩
theorem bg_m_all : ∀ R, R < 4 → 0 < R → ((1 : Int32) <<< (nI R &&& 31)) - 1 = nI (bg_m R) ∧ 0 < bg_m R ∧ bg_m R < 8 ∧ (bg_m R = 1 ∨ bg_m R = 3 ∨ bg_m R = 7) ∧ (∀ i, i < 3 → ((bg_m R).testBit i = true ↔ i < R)) := by decide +kernel
theorem bg_m_full {R C : Nat} (hR : 1 ≤ R ∧ R ≤ 3) (hC : 1 ≤ C ∧ C ≤ 3) : bg_full (bg_m R) (bg_m C) = true := by
  have h1 := (bg_m_all R (by omega) (by omega)).2.2.2.1
  have h2 := (bg_m_all C (by omega) (by omega)).2.2.2.1
  rcases h1 with h1 | h1 | h1 <;> rcases h2 with h2 | h2 | h2 <;> rw [h1, h2] <;> rfl
theorem bg_EE_len {R C : Nat} {A B : Nat → Nat → Int} (hg : bg_gm R C A B) : (bg_EE R C A B).length ≤ 63 := by
  have r := bg_m_all R (by have := hg.1; omega) (by have := hg.1; omega)
  have c := bg_m_all C (by have := hg.2.1; omega) (by have := hg.2.1; omega)
  unfold bg_EE
  rw [bg_E_len]
  exact bg_cand_le (bg_ls_lo hg.2.2 (by omega)) (bg_ls_lo hg.2.2 (by omega)) r.2.1 r.2.2.1 c.2.1 c.2.2.1
theorem bg_insAll_snoc (X Y : List bg_Ray) (E c : List (Nat × Nat)) (p : Nat × Nat) : bg_insAll X Y E (c ++ [p]) = bg_ins X Y (bg_insAll X Y E c) p := by
  unfold bg_insAll
  rw [List.foldl_append]
  rfl
theorem bg_cand_part {X Y : List bg_Ray} {R C k j : Nat} (hk : k < X.length) (hj : j ≤ Y.length) :
    ((List.range k).flatMap (fun k => (List.range Y.length).filterMap (bg_fp X Y R C k)) ++ (List.range j).filterMap (bg_fp X Y R C k)).length ≤ (bg_cand X Y R C).length ∧
    ∀ q, q ∈ (List.range k).flatMap (fun k => (List.range Y.length).filterMap (bg_fp X Y R C k)) ++ (List.range j).filterMap (bg_fp X Y R C k) → q.1 < X.length ∧ q.2 < Y.length := by
  unfold bg_cand
  obtain ⟨m, hm⟩ := bg_range_split (show k + 1 ≤ X.length by omega)
  obtain ⟨m2, hm2⟩ := bg_range_split hj
  have e : ([k].flatMap (fun k => (List.range Y.length).filterMap (bg_fp X Y R C k))) = (List.range Y.length).filterMap (bg_fp X Y R C k) := by simp
  have eq : (List.range X.length).flatMap (fun k => (List.range Y.length).filterMap (bg_fp X Y R C k)) =
      ((List.range k).flatMap (fun k => (List.range Y.length).filterMap (bg_fp X Y R C k)) ++ (List.range j).filterMap (bg_fp X Y R C k)) ++ (m2.filterMap (bg_fp X Y R C k) ++ m.flatMap (fun k => (List.range Y.length).filterMap (bg_fp X Y R C k))) := by
    rw [hm, List.flatMap_append, List.range_succ, List.flatMap_append, e]
    conv => lhs; lhs; rhs; rw [hm2]
    rw [List.filterMap_append]
    simp only [List.append_assoc]
  constructor
  · rw [eq, List.length_append (as := _ ++ _)]
    omega
  · intro q hq
    have hq2 : q ∈ (List.range X.length).flatMap (fun k => (List.range Y.length).filterMap (bg_fp X Y R C k)) := by
      rw [eq]
      exact List.mem_append_left _ hq
    obtain ⟨q1, q2⟩ := q
    have := bg_cand_mem.mp hq2
    exact ⟨this.1, this.2.1⟩
theorem bg_list64 {fr fc fm fo ft fl : Int32} {fp fq : Int64} {a1 a2 : Nat → Int32} {a3 : Nat → Int64} {a4 : Nat → Int32} {a5 : Nat → Int64} {a6 : Nat → Int32} {a7 : Nat → Int64} {a8 a9 a10 : Nat → Int32} {post : St1 → Prop} {X Y : List bg_Ray} {R C : Nat} (hR : R < 8) (hC : C < 8) (hX : X.length ≤ 24) (hY : Y.length ≤ 24) (h0 : bg_hold a3 a4 0 X) (h1 : bg_hold a3 a4 24 Y)
    (bX : ∀ r, r ∈ X → r.2 < 64 ∧ ∀ c, c < 3 → r.1 c ≤ 1296) (bY : ∀ r, r ∈ Y → r.2 < 64 ∧ ∀ c, c < 3 → r.1 c ≤ 1296) (c0 : a2 0 = nI X.length) (c1 : a2 1 = nI Y.length) (hn : (bg_cand X Y R C).length ≤ 64)
    (H : ∀ b9 b10, bg_lh b9 b10 (bg_E X Y R C) → post (fr, fc, fm, fo, ft, fl, nI (bg_E X Y R C).length, fp, fq, a1, a2, a3, a4, a5, a6, a7, a8, b9, b10)) :
    ∃ fu, wX_list_64 post (nI R) (nI C) fu 0 fr fc fm fo ft fl 0 fp fq a1 a2 a3 a4 a5 a6 a7 a8 a9 a10 := by
  refine pk_loop (fun n k s => wX_list_64 post (nI R) (nI C) n (nI k) fr fc fm fo ft fl s.1 fp fq a1 a2 a3 a4 a5 a6 a7 a8 s.2.1 s.2.2)
    (fun k s => s.1 = nI (bg_insAll X Y [] ((List.range k).flatMap (fun k => (List.range Y.length).filterMap (bg_fp X Y R C k)))).length ∧ bg_lh s.2.1 s.2.2 (bg_insAll X Y [] ((List.range k).flatMap (fun k => (List.range Y.length).filterMap (bg_fp X Y R C k)))))
    X.length 0 (0, a9, a10) (by omega) ⟨rfl, fun j q h => by rw [show bg_insAll X Y [] ((List.range 0).flatMap (fun k => (List.range Y.length).filterMap (bg_fp X Y R C k))) = [] from rfl, List.getElem?_nil] at h; exact absurd h (by simp)⟩ ?_ ?_
  · intro n s hI
    obtain ⟨s1, s9, s10⟩ := s
    obtain ⟨e1, hI⟩ := hI
    dsimp only at e1 hI
    subst e1
    exact pk_le X.length X.length (fun _ => H s9 s10 hI) (fun z => absurd z (by omega)) c0 rfl
  · intro n k s hk hI hw
    refine pk_le X.length k (fun z => absurd z (by omega)) (fun _ => ?_) c0 rfl
    refine pk_loop (fun m j s => wX_list_77 post (wX_list_64 post (nI R) (nI C) n) (nI R) (nI C) (nI k) m (nI j) fr fc fm fo ft fl s.1 fp fq a1 a2 a3 a4 a5 a6 a7 a8 s.2.1 s.2.2)
      (fun j s => s.1 = nI (bg_insAll X Y [] ((List.range k).flatMap (fun k => (List.range Y.length).filterMap (bg_fp X Y R C k)) ++ (List.range j).filterMap (bg_fp X Y R C k))).length ∧ bg_lh s.2.1 s.2.2 (bg_insAll X Y [] ((List.range k).flatMap (fun k => (List.range Y.length).filterMap (bg_fp X Y R C k)) ++ (List.range j).filterMap (bg_fp X Y R C k))))
      Y.length 0 s (by omega) ?_ ?_ ?_
    · rw [List.range_zero, List.filterMap_nil, List.append_nil]
      exact hI
    · intro m s hJ
      refine pk_le Y.length Y.length (fun _ => nm_r (nI_1 k) (hw s ?_)) (fun z => absurd z (by omega)) c1 rfl
      rw [List.range_succ, List.flatMap_append]
      have e : ([k].flatMap (fun k => (List.range Y.length).filterMap (bg_fp X Y R C k))) = (List.range Y.length).filterMap (bg_fp X Y R C k) := by simp
      rw [e]
      exact hJ
    · intro m j s hj hJ hw2
      obtain ⟨s1, s9, s10⟩ := s
      obtain ⟨e1, hJ⟩ := hJ
      dsimp only at e1 hJ
      subst e1
      have x : 24 + nI j = nI (24 + j) := nI_add 24 j
      have ak := (bg_hold_at h0 hk).1
      rw [Nat.zero_add] at ak
      have aj := (bg_hold_at h1 hj).1
      refine pk_le Y.length j (fun z => absurd z (by omega)) (fun _ => ⟨pk_in k 48 (by omega), pk_in _ 48 (by omega) x, ?_⟩) c1 rfl
      rw [pk_cl k, pk_cl _ x, ak, aj]
      refine bg_fitW (bX _ (bg_getD_mem hk)).1 (bY _ (bg_getD_mem hj)).1 hR hC (fun hf => br_t rfl (nm_r (nI_1 j) (hw2 (_, s9, s10) ?_))) (fun hf => br_f (by decide) ?_)
      · have hnone : bg_fp X Y R C k j = none := by
          unfold bg_fp
          rw [if_neg (by rw [hf]; decide)]
        rw [List.range_succ, List.filterMap_append, bg_fm1n hnone, List.append_nil]
        exact ⟨rfl, hJ⟩
      · have hsome : bg_fp X Y R C k j = some (k, j) := by
          unfold bg_fp
          rw [if_pos hf]
        have hnew : (List.range k).flatMap (fun k => (List.range Y.length).filterMap (bg_fp X Y R C k)) ++ (List.range (j + 1)).filterMap (bg_fp X Y R C k) = ((List.range k).flatMap (fun k => (List.range Y.length).filterMap (bg_fp X Y R C k)) ++ (List.range j).filterMap (bg_fp X Y R C k)) ++ [(k, j)] := by
          rw [List.range_succ, List.filterMap_append, bg_fm1s hsome, List.append_assoc]
        have hp1 := (bg_cand_part (X := X) (Y := Y) (R := R) (C := C) hk (show j + 1 ≤ Y.length by omega)).1
        rw [hnew] at hp1
        have hp0 := (bg_cand_part (X := X) (Y := Y) (R := R) (C := C) hk (show j ≤ Y.length by omega)).2
        rw [hnew] at hw2
        rw [bg_insAll_snoc, bg_ins_len] at hw2
        generalize (List.range k).flatMap (fun k => (List.range Y.length).filterMap (bg_fp X Y R C k)) ++ (List.range j).filterMap (bg_fp X Y R C k) = L at *
        have hlL : (bg_insAll X Y [] L).length = L.length := by rw [bg_insAll_len]; simp
        have e1 : (L ++ [(k, j)]).length = L.length + 1 := by simp
        refine bg_insert hX hY h0 h1 (fun r hr => (bX r hr).2) (fun r hr => (bY r hr).2) hk hj (fun q hq => ?_) (by omega) hJ (fun b9 b10 g => nm_r (nI_1 j) (hw2 (_, b9, b10) ⟨rfl, g⟩))
        rw [bg_insAll_mem] at hq
        rcases hq with hq | hq
        · exact absurd hq (by simp)
        · exact hp0 q hq
theorem bg_list {R C : Nat} {A B : Nat → Nat → Int} (hg : bg_gm R C A B) {post : St1 → Prop} {u : St1} (hu : bg_G R C A B u) (H : ∀ v, bg_GL R C A B v → post v) : wpX_list post u := by
  obtain ⟨fr, fc, fm, fo, ft, fl, fn, fp, fq, a1, a2, a3, a4, a5, a6, a7, a8, a9, a10⟩ := u
  obtain ⟨e1, e2, e3, e4⟩ := hu
  have r := bg_m_all R (by have := hg.1; omega) (by have := hg.1; omega)
  have c := bg_m_all C (by have := hg.2.1; omega) (by have := hg.2.1; omega)
  have l0 : bg_lo (bg_ls A B 0 0) := bg_ls_lo hg.2.2 (by omega)
  have l1 : bg_lo (bg_ls A B 1 0) := bg_ls_lo hg.2.2 (by omega)
  unfold wpX_list
  refine br_c (fun z => ?_) (fun z => ?_)
  · subst e1 e2
    refine nm_r r.1 (nm_r c.1 ?_)
    refine bg_setLosses e3 hg.2.2 (side := 0) (own := 0) (by omega) (by omega) (fun b8 hb8 => ?_)
    refine bg_makeCone (side := 0) (by omega) r.2.1 r.2.2.1 c.2.1 c.2.2.1 hb8 l0 (fun km b2 b3 b4 b5 b6 b7 g1 g2 g3 g4 => ?_)
    refine bg_setLosses e3 hg.2.2 (side := 1) (own := 0) (by omega) (by omega) (fun c8 hc8 => ?_)
    refine bg_makeCone (side := 1) (by omega) c.2.1 c.2.2.1 r.2.1 r.2.2.1 hc8 l1 (fun kn c2 c3 c4 c5 c6 c7 k1 k2 k3 k4 => ?_)
    have hXl := (bg_cone_len l0 r.2.1 r.2.2.1 c.2.1 c.2.2.1).1
    have hYl := (bg_cone_len l1 c.2.1 c.2.2.1 r.2.1 r.2.2.1).1
    have hX0 : bg_hold c3 c4 0 (bg_X R C A B) := bg_hold_fr g3 (fun j h1 h2 => k4.1 j (by unfold bg_X at *; omega)) (fun j h1 h2 => k4.2 j (by unfold bg_X at *; omega))
    have hEl := bg_EE_len hg
    unfold bg_EE at hEl
    rw [bg_E_len] at hEl
    refine bg_list64 (X := bg_X R C A B) (Y := bg_Y R C A B) r.2.2.1 c.2.2.1 (by unfold bg_X; omega) (by unfold bg_Y; omega) hX0 k3
      (fun x hx => ⟨(bg_cone_V l0 r.2.1 r.2.2.1 c.2.1 c.2.2.1 x hx).1.2.2.2.2.2.2, (bg_cone_V l0 r.2.1 r.2.2.1 c.2.1 c.2.2.1 x hx).2.2⟩)
      (fun x hx => ⟨(bg_cone_V l1 c.2.1 c.2.2.1 r.2.1 r.2.2.1 x hx).1.2.2.2.2.2.2, (bg_cone_V l1 c.2.1 c.2.2.1 r.2.1 r.2.2.1 x hx).2.2⟩)
      ((k2 0 (by omega)).trans g1) k1 (by omega) (fun b9 b10 hl => ?_)
    exact H _ ⟨rfl, rfl, e3, hX0, k3, rfl, hl⟩
  · rcases e4 with e4 | e4
    · exact absurd e4 z
    · exact H _ ⟨e1, e2, e3, e4⟩
theorem bg_equilibria {R C : Nat} {A B : Nat → Nat → Int} (hg : bg_gm R C A B) {post : Int32 → St1 → Prop} {u : St1} (hu : bg_G R C A B u) (H : ∀ v, bg_GL R C A B v → post (nI (bg_EE R C A B).length) v) : wpX_equilibria post u := by
  obtain ⟨fr, fc, fm, fo, ft, fl, fn, fp, fq, a1, a2, a3, a4, a5, a6, a7, a8, a9, a10⟩ := u
  unfold wpX_equilibria
  refine bg_list hg hu (fun v hv => ?_)
  have h := H v hv
  obtain ⟨frx, fcx, fmx, fox, ftx, flx, fnx, fpx, fqx, a1x, a2x, a3x, a4x, a5x, a6x, a7x, a8x, a9x, a10x⟩ := v
  have e : fnx = nI (bg_EE R C A B).length := hv.2.2.2.2.2.1
  rw [← e] at h
  exact h
end
end
section
section
theorem bg_I_toInt {z : Int} (h1 : -2 ^ 30 ≤ z) (h2 : z < 2 ^ 30) : (bg_I z).toInt = z := Int32.toInt_ofInt_of_le (by omega) (by omega)
theorem bg_I_le {a b : Int} (h1 : -2 ^ 30 ≤ a) (h2 : a < 2 ^ 30) (h3 : -2 ^ 30 ≤ b) (h4 : b < 2 ^ 30) : bg_I a ≤ bg_I b ↔ a ≤ b := by
  rw [Int32.le_iff_toInt_le, bg_I_toInt h1 h2, bg_I_toInt h3 h4]
theorem bg_I_byte {z : Int} (h1 : -9 ≤ z) (h2 : z ≤ 9) : (bg_I z).toInt8.toInt32 = bg_I z := by
  have t : ∀ k : Nat, k < 19 → (bg_I ((k : Int) - 9)).toInt8.toInt32 = bg_I ((k : Int) - 9) := by decide +kernel
  have h := t (z + 9).toNat (by omega)
  have e : (((z + 9).toNat : Nat) : Int) - 9 = z := by omega
  rw [e] at h
  exact h
theorem bg_I_nar {z : Int} (h1 : -9 ≤ z) (h2 : z ≤ 9) : vp_nar .byte (bg_I z) = bg_I z := by
  rw [vp_nar_byte]
  exact bg_I_byte h1 h2
theorem bg_isSide {fr fc fm fo ft fl fn : Int32} {fp fq : Int64} {a1 a2 : Nat → Int32} {a3 : Nat → Int64} {a4 : Nat → Int32} {a5 : Nat → Int64} {a6 : Nat → Int32} {a7 : Nat → Int64} {a8 a9 a10 : Nat → Int32} {post : Int32 → Prop} {s : Nat} (hs : s < 2) (H : post 1) : wpX_isSide post (fr, fc, fm, fo, ft, fl, fn, fp, fq, a1, a2, a3, a4, a5, a6, a7, a8, a9, a10) (nI s) := by
  unfold wpX_isSide
  exact pk_eq s 0 (fun _ => H) (fun z => pk_eq s 1 (fun _ => H) (fun w => absurd hs (by omega)))
theorem bg_isPlace {fm fo ft fl fn : Int32} {fp fq : Int64} {a1 a2 : Nat → Int32} {a3 : Nat → Int64} {a4 : Nat → Int32} {a5 : Nat → Int64} {a6 : Nat → Int32} {a7 : Nat → Int64} {a8 a9 a10 : Nat → Int32} {post : Int32 → Prop} {R C m : Nat} (hR : R ≤ 3) (hC : C ≤ 3) (hm : m < 9) (H0 : ¬ (m / 3 < R ∧ m % 3 < C) → post 0) (H1 : m / 3 < R → m % 3 < C → post 1) :
    wpX_isPlace post (nI R, nI C, fm, fo, ft, fl, fn, fp, fq, a1, a2, a3, a4, a5, a6, a7, a8, a9, a10) (nI m) := by
  have e1 : nI m / 3 = nI (m / 3) := pk_div (d := 3) (by omega) (by omega) (by omega)
  have e2 : nI m - nI m / 3 * 3 = nI (m % 3) := pk_rem (d := 3) (by omega) (by omega) (by omega)
  unfold wpX_isPlace
  refine br_f (nI_pos (by omega)) ⟨by decide, ?_⟩
  refine pk_le R (m / 3) (fun z => H0 (by omega)) (fun z => ⟨by decide, ?_⟩) rfl e1
  exact pk_le C (m % 3) (fun w => H0 (by omega)) (fun w => H1 z w) rfl e2
noncomputable def bg_set (A : Nat → Nat → Int) (q : Prop) (m : Nat) (v : Int) : Nat → Nat → Int := fun i j => @ite _ (q ∧ 3 * i + j = m) (Classical.propDecidable _) v (A i j)
theorem bg_pay {R C : Nat} {A B : Nat → Nat → Int} (hg : bg_gm R C A B) {post : Int32 → St1 → Prop} {u : St1} (hu : bg_G R C A B u) {s m : Nat} {v : Int} (hs : s < 2) (hm : m < 9) (h1 : -9 ≤ v) (h2 : v ≤ 9)
    (H : ∀ r w A' B', bg_gm R C A' B' → bg_G R C A' B' w → post r w) : wpX_pay post u (nI s) (nI m) (bg_I v) := by
  obtain ⟨fr, fc, fm, fo, ft, fl, fn, fp, fq, a1, a2, a3, a4, a5, a6, a7, a8, a9, a10⟩ := u
  have hu0 := hu
  obtain ⟨e1, e2, e3, e4⟩ := hu
  subst e1 e2
  unfold wpX_pay
  refine bg_isSide hs (br_f (by decide) ?_)
  refine bg_isPlace hg.1.2 hg.2.1.2 hm (fun _ => br_t rfl (H _ _ A B hg hu0)) (fun p1 p2 => br_f (by decide) ?_)
  have x : 9 * nI s + nI m = nI (9 * s + m) := by
    show nI 9 * nI s + nI m = _
    rw [pk_mul, nI_add]
  have tv := bg_I_toInt (z := v) (by omega) (by omega)
  refine br_f (by rw [Int32.lt_iff_toInt_lt, tv, show (-9 : Int32).toInt = -9 from by decide]; omega) (br_t (by rw [Int32.le_iff_toInt_le, tv, show (9 : Int32).toInt = 9 from by decide]; omega) ⟨pk_in _ 18 (by omega) x, nm_r (bg_u (pk_cl _ x) (bg_I_byte h1 h2)) ?_⟩)
  have hpy : ∀ s' i j, s' < 2 → i < 3 → j < 3 → bg_py (bg_set A (s = 0) m v) (bg_set B (s = 1) m v) s' i j = if s' = s ∧ 3 * i + j = m then v else bg_py A B s' i j := by
    intro s' i j hs' _ _
    unfold bg_py bg_set
    by_cases w : s' = 0
    · rw [if_pos w, if_pos w]
      by_cases q : s = 0 ∧ 3 * i + j = m
      · rw [if_pos q, if_pos ⟨by omega, q.2⟩]
      · rw [if_neg q, if_neg (fun h => q ⟨by omega, h.2⟩)]
    · rw [if_neg w, if_neg w]
      by_cases q : s = 1 ∧ 3 * i + j = m
      · rw [if_pos q, if_pos ⟨by omega, q.2⟩]
      · rw [if_neg q, if_neg (fun h => q ⟨by omega, h.2⟩)]
  refine H _ _ (bg_set A (s = 0) m v) (bg_set B (s = 1) m v) ⟨hg.1, hg.2.1, ?_⟩ ⟨rfl, rfl, ?_, Or.inl rfl⟩
  · intro s' i j a b c
    rw [hpy s' i j a b c]
    split
    · exact ⟨h1, h2⟩
    · exact hg.2.2 s' i j a b c
  · intro s' i j a b c
    rw [hpy s' i j a b c]
    by_cases q : s' = s ∧ 3 * i + j = m
    · rw [if_pos q, show 9 * s' + 3 * i + j = 9 * s + m by omega, pk_us]
    · rw [if_neg q, pk_un (by omega)]
      exact e3 s' i j a b c
theorem bg_bestRow {fc fm fo ft fl fn : Int32} {fp fq : Int64} {a1 a2 : Nat → Int32} {a3 : Nat → Int64} {a4 : Nat → Int32} {a5 : Nat → Int64} {a6 : Nat → Int32} {a7 : Nat → Int64} {a8 a9 a10 : Nat → Int32} {post : Int32 → Prop} {R : Nat} {A B : Nat → Nat → Int} (hR : R ≤ 3) (hp : bg_pm A B a1) (hr : bg_rg A B) {i j : Nat} (hi : i < 3) (hj : j < 3)
    (H0 : ¬ (∀ k, k < R → A k j ≤ A i j) → post 0) (H1 : (∀ k, k < R → A k j ≤ A i j) → post 1) : wpX_isBestRow post (nI R, fc, fm, fo, ft, fl, fn, fp, fq, a1, a2, a3, a4, a5, a6, a7, a8, a9, a10) (nI i) (nI j) := by
  unfold wpX_isBestRow
  refine pk_loop (σ := Unit) (fun n k _ => wX_isBestRow_2 post (nI i) (nI j) (nI R) fc fm fo ft fl fn fp fq a1 a2 a3 a4 a5 a6 a7 a8 a9 a10 n (nI k)) (fun k _ => ∀ k', k' < k → A k' j ≤ A i j) R 0 () (by omega) (fun k' h => absurd h (by omega)) ?_ ?_
  · intro n _ hI
    exact pk_le R R (fun _ => H1 hI) (fun z => absurd z (by omega))
  · intro n k _ hk hI hw
    have b1 := hr 0 k j (by omega) (by omega) hj
    have b2 := hr 0 i j (by omega) hi hj
    refine pk_le R k (fun z => absurd z (by omega)) (fun _ => bg_payment hp (s := 0) (by omega) (by omega) hj (bg_payment hp (s := 0) (by omega) hi hj ?_))
    refine ek_if (d := A k j ≤ A i j) (bg_I_le (a := A k j) (b := A i j) (by have := b1.1; unfold bg_py at this; simp at this; omega) (by have := b1.2; unfold bg_py at this; simp at this; omega) (by have := b2.1; unfold bg_py at this; simp at this; omega) (by have := b2.2; unfold bg_py at this; simp at this; omega)) (fun z => nm_r (nI_1 k) (hw () (fun k' h => ?_))) (fun z => H0 (fun h => z (h k hk)))
    by_cases e : k' = k
    · rw [e]; exact z
    · exact hI k' (by omega)
theorem bg_bestCol {fr fm fo ft fl fn : Int32} {fp fq : Int64} {a1 a2 : Nat → Int32} {a3 : Nat → Int64} {a4 : Nat → Int32} {a5 : Nat → Int64} {a6 : Nat → Int32} {a7 : Nat → Int64} {a8 a9 a10 : Nat → Int32} {post : Int32 → Prop} {C : Nat} {A B : Nat → Nat → Int} (hC : C ≤ 3) (hp : bg_pm A B a1) (hr : bg_rg A B) {i j : Nat} (hi : i < 3) (hj : j < 3)
    (H0 : ¬ (∀ k, k < C → B i k ≤ B i j) → post 0) (H1 : (∀ k, k < C → B i k ≤ B i j) → post 1) : wpX_isBestColumn post (fr, nI C, fm, fo, ft, fl, fn, fp, fq, a1, a2, a3, a4, a5, a6, a7, a8, a9, a10) (nI i) (nI j) := by
  unfold wpX_isBestColumn
  refine pk_loop (σ := Unit) (fun n k _ => wX_isBestColumn_2 post (nI i) (nI j) fr (nI C) fm fo ft fl fn fp fq a1 a2 a3 a4 a5 a6 a7 a8 a9 a10 n (nI k)) (fun k _ => ∀ k', k' < k → B i k' ≤ B i j) C 0 () (by omega) (fun k' h => absurd h (by omega)) ?_ ?_
  · intro n _ hI
    exact pk_le C C (fun _ => H1 hI) (fun z => absurd z (by omega))
  · intro n k _ hk hI hw
    have b1 := hr 1 i k (by omega) hi (by omega)
    have b2 := hr 1 i j (by omega) hi hj
    refine pk_le C k (fun z => absurd z (by omega)) (fun _ => bg_payment hp (s := 1) (by omega) hi (by omega) (bg_payment hp (s := 1) (by omega) hi hj ?_))
    refine ek_if (d := B i k ≤ B i j) (bg_I_le (a := B i k) (b := B i j) (by have := b1.1; unfold bg_py at this; simp at this; omega) (by have := b1.2; unfold bg_py at this; simp at this; omega) (by have := b2.1; unfold bg_py at this; simp at this; omega) (by have := b2.2; unfold bg_py at this; simp at this; omega)) (fun z => nm_r (nI_1 k) (hw () (fun k' h => ?_))) (fun z => H0 (fun h => z (h k hk)))
    by_cases e : k' = k
    · rw [e]; exact z
    · exact hI k' (by omega)
/-- i, j is a pure equilibrium -/
def bg_nash (R C : Nat) (A B : Nat → Nat → Int) (i j : Nat) : Prop := (∀ k, k < R → A k j ≤ A i j) ∧ (∀ k, k < C → B i k ≤ B i j)
theorem bg_sh9_all : ∀ n, n < 9 → (1 : Int32) <<< (nI n &&& 31) = nI (2 ^ n) := by decide +kernel
theorem bg_or9 {t n : Nat} (ht : t < 512) (hn : n < 9) : t ||| 2 ^ n < 512 := by
  have h : 2 ^ n < 2 ^ 9 := Nat.pow_lt_pow_right (by omega) hn
  exact Nat.or_lt_two_pow (n := 9) ht h
theorem bg_pure {R C : Nat} {A B : Nat → Nat → Int} (hg : bg_gm R C A B) {post : Int32 → Prop} {u : St1} (hu : bg_G R C A B u)
    (H : ∀ t, t < 512 → (∀ b, t.testBit b = true ↔ ∃ i j, i < R ∧ j < C ∧ bg_nash R C A B i j ∧ b = 3 * i + j) → post (nI t)) : wpX_pure post u := by
  obtain ⟨fr, fc, fm, fo, ft, fl, fn, fp, fq, a1, a2, a3, a4, a5, a6, a7, a8, a9, a10⟩ := u
  obtain ⟨e1, e2, e3, e4⟩ := hu
  have hR := hg.1.2
  have hC := hg.2.1.2
  subst e1 e2
  unfold wpX_pure
  refine pk_loop (fun n i s => wX_pure_4 post (nI R) (nI C) fm fo ft fl fn fp fq a1 a2 a3 a4 a5 a6 a7 a8 a9 a10 n s (nI i)) (fun i s => ∃ t, s = nI t ∧ t < 512 ∧ ∀ b, t.testBit b = true ↔ ∃ i' j, i' < i ∧ j < C ∧ bg_nash R C A B i' j ∧ b = 3 * i' + j) R 0 0 (by omega)
    ⟨0, rfl, by omega, fun b => by rw [Nat.zero_testBit]; exact ⟨fun h => absurd h (by decide), fun ⟨i', j, h, _⟩ => absurd h (by omega)⟩⟩ ?_ ?_
  · intro n s hI
    obtain ⟨t, e, ht, hb⟩ := hI
    subst e
    exact pk_le R R (fun _ => H t ht hb) (fun z => absurd z (by omega))
  · intro n i s hi hI hw
    refine pk_le R i (fun z => absurd z (by omega)) (fun _ => ?_)
    refine pk_loop (fun m j s => wX_pure_14 post (wX_pure_4 post (nI R) (nI C) fm fo ft fl fn fp fq a1 a2 a3 a4 a5 a6 a7 a8 a9 a10 n) (nI i) (nI R) (nI C) fm fo ft fl fn fp fq a1 a2 a3 a4 a5 a6 a7 a8 a9 a10 m s (nI j))
      (fun j s => ∃ t, s = nI t ∧ t < 512 ∧ ∀ b, t.testBit b = true ↔ ∃ i' j', (i' < i ∧ j' < C ∨ i' = i ∧ j' < j) ∧ bg_nash R C A B i' j' ∧ b = 3 * i' + j') C 0 s (by omega) ?_ ?_ ?_
    · obtain ⟨t, e, ht, hb⟩ := hI
      refine ⟨t, e, ht, fun b => (hb b).trans ⟨fun ⟨i', j, h1, h2, h3, h4⟩ => ⟨i', j, Or.inl ⟨h1, h2⟩, h3, h4⟩, fun ⟨i', j, h1, h3, h4⟩ => ?_⟩⟩
      rcases h1 with h1 | h1
      · exact ⟨i', j, h1.1, h1.2, h3, h4⟩
      · exact absurd h1.2 (by omega)
    · intro m s hJ
      refine pk_le C C (fun _ => nm_r (nI_1 i) (hw s ?_)) (fun z => absurd z (by omega))
      obtain ⟨t, e, ht, hb⟩ := hJ
      refine ⟨t, e, ht, fun b => (hb b).trans ⟨fun ⟨i', j, h1, h3, h4⟩ => ⟨i', j, by omega, by omega, h3, h4⟩, fun ⟨i', j, h1, h2, h3, h4⟩ => ⟨i', j, ?_, h3, h4⟩⟩⟩
      by_cases q : i' = i
      · exact Or.inr ⟨q, h2⟩
      · exact Or.inl ⟨by omega, h2⟩
    · intro m j s hj hJ hw2
      have skip : ¬ bg_nash R C A B i j → wX_pure_14 post (wX_pure_4 post (nI R) (nI C) fm fo ft fl fn fp fq a1 a2 a3 a4 a5 a6 a7 a8 a9 a10 n) (nI i) (nI R) (nI C) fm fo ft fl fn fp fq a1 a2 a3 a4 a5 a6 a7 a8 a9 a10 m s (nI (j + 1)) := by
        intro hn
        refine hw2 s ?_
        obtain ⟨t, e, ht, hb⟩ := hJ
        refine ⟨t, e, ht, fun b => (hb b).trans ⟨fun ⟨i', j', h1, h3, h4⟩ => ⟨i', j', by omega, h3, h4⟩, fun ⟨i', j', h1, h3, h4⟩ => ⟨i', j', ?_, h3, h4⟩⟩⟩
        by_cases q : i' = i ∧ j' = j
        · rw [q.1, q.2] at h3
          exact absurd h3 hn
        · omega
      refine pk_le C j (fun z => absurd z (by omega)) (fun _ => ?_)
      refine bg_bestRow hR e3 hg.2.2 (by omega) (by omega) (fun h => br_t rfl (nm_r (nI_1 j) (skip (fun q => h q.1)))) (fun h => br_f (by decide) ?_)
      refine bg_bestCol hC e3 hg.2.2 (by omega) (by omega) (fun h2 => br_t rfl (nm_r (nI_1 j) (skip (fun q => h2 q.2)))) (fun h2 => br_f (by decide) ?_)
      obtain ⟨t, e, ht, hb⟩ := hJ
      subst e
      refine nm_r (e' := nI (t ||| 2 ^ (3 * i + j))) (by rw [bg_ix3, bg_sh9_all _ (by omega), bg_nor]) (nm_r (nI_1 j) (hw2 _ ⟨_, rfl, bg_or9 ht (by omega), fun b => ?_⟩))
      rw [Nat.testBit_or, Bool.or_eq_true, hb b, Nat.testBit_two_pow, decide_eq_true_eq]
      constructor
      · rintro (⟨i', j', h1, h3, h4⟩ | h)
        · exact ⟨i', j', by omega, h3, h4⟩
        · exact ⟨i, j, Or.inr ⟨rfl, by omega⟩, ⟨by assumption, by assumption⟩, h.symm⟩
      · rintro ⟨i', j', h1, h3, h4⟩
        by_cases q : i' = i ∧ j' = j
        · right
          rw [h4, q.1, q.2]
        · left
          exact ⟨i', j', by omega, h3, h4⟩
end
end
section
section
def bg_orb (Z : List bg_Ray) : Nat := Z.foldl (fun b r => b ||| r.2) 0
theorem bg_orb_snoc (Z : List bg_Ray) (r : bg_Ray) : bg_orb (Z ++ [r]) = bg_orb Z ||| r.2 := by
  unfold bg_orb
  rw [List.foldl_append]
  rfl
theorem bg_orf_bit {i : Nat} : ∀ (Z : List bg_Ray) (b : Nat), (Z.foldl (fun b r => b ||| r.2) b).testBit i = true ↔ b.testBit i = true ∨ ∃ r, r ∈ Z ∧ r.2.testBit i = true := by
  intro Z
  induction Z with
  | nil => intro b; simp
  | cons r Z ih =>
    intro b
    rw [List.foldl_cons, ih, Nat.testBit_or, Bool.or_eq_true]
    constructor
    · rintro ((h | h) | ⟨s, hs, h⟩)
      · exact Or.inl h
      · exact Or.inr ⟨r, List.mem_cons_self, h⟩
      · exact Or.inr ⟨s, List.mem_cons_of_mem _ hs, h⟩
    · rintro (h | ⟨s, hs, h⟩)
      · exact Or.inl (Or.inl h)
      · rcases List.mem_cons.mp hs with e | hs
        · rw [e] at h; exact Or.inl (Or.inr h)
        · exact Or.inr ⟨s, hs, h⟩
theorem bg_orf_lt : ∀ (Z : List bg_Ray) (b : Nat), b < 64 → (∀ r, r ∈ Z → r.2 < 64) → Z.foldl (fun b r => b ||| r.2) b < 64 := by
  intro Z
  induction Z with
  | nil => intro b hb _; exact hb
  | cons r Z ih =>
    intro b hb h
    rw [List.foldl_cons]
    exact ih _ (Nat.or_lt_two_pow (n := 6) hb (h r List.mem_cons_self)) (fun s hs => h s (List.mem_cons_of_mem _ hs))
def bg_rep (A B : Nat → Nat → Int) (rs cs side : Nat) : Nat :=
  (bg_orb (bg_cone (bg_ls A B (1 - side) 0) (if side = 0 then cs else rs) (if side = 0 then rs else cs)) >>> 3) &&& (if side = 0 then rs else cs)
def bg_G0 (R C : Nat) (A B : Nat → Nat → Int) (u : St1) : Prop := match u with
  | (fr, fc, fm, fo, ft, fl, fn, fp, fq, a1, a2, a3, a4, a5, a6, a7, a8, a9, a10) => fr = nI R ∧ fc = nI C ∧ bg_pm A B a1 ∧ fl = 0
theorem bg_G0_G {R C : Nat} {A B : Nat → Nat → Int} {u : St1} (h : bg_G0 R C A B u) : bg_G R C A B u := by
  obtain ⟨fr, fc, fm, fo, ft, fl, fn, fp, fq, a1, a2, a3, a4, a5, a6, a7, a8, a9, a10⟩ := u
  exact ⟨h.1, h.2.1, h.2.2.1, Or.inl h.2.2.2⟩
theorem bg_rep50 {fr fc fl fn : Int32} {fp fq : Int64} {a1 a2 : Nat → Int32} {a3 : Nat → Int64} {a4 : Nat → Int32} {a5 : Nat → Int64} {a6 : Nat → Int32} {a7 : Nat → Int64} {a8 a9 a10 : Nat → Int32} {fm fo ft : Int32} {post : Int32 → St1 → Prop} {mx other : Nat} {Z : List bg_Ray} (hm : mx < 2) (ho : other < 8) (hZ : Z.length ≤ 24) (hh : bg_hold a3 a4 (24 * mx) Z) (ht : ∀ r, r ∈ Z → r.2 < 64) (h2 : a2 mx = nI Z.length)
    (H : post (nI ((bg_orb Z >>> 3) &&& other)) (fr, fc, fm, fo, ft, fl, fn, fp, fq, a1, a2, a3, a4, a5, a6, a7, a8, a9, a10)) : ∃ fu, wX_repliesAmong_50 post (nI mx) (nI other) fr fc fm fo ft fl fn fp fq a1 a2 a3 a4 a5 a6 a7 a8 a9 a10 fu 0 0 := by
  have ht2 : ∀ k, bg_orb (Z.take k) < 64 := fun k => bg_orf_lt _ 0 (by omega) (fun r hr => ht r (List.mem_of_mem_take hr))
  refine pk_loop (fun n k s => wX_repliesAmong_50 post (nI mx) (nI other) fr fc fm fo ft fl fn fp fq a1 a2 a3 a4 a5 a6 a7 a8 a9 a10 n s (nI k)) (fun k s => s = nI (bg_orb (Z.take k))) Z.length 0 0 (by omega) rfl ?_ ?_
  · intro n s hI
    subst hI
    refine ⟨pk_in mx 2 hm, pk_le Z.length Z.length (fun _ => ?_) (fun z => absurd z (by omega)) (by rw [pk_cl mx, h2]) rfl⟩
    have hb := ht2 Z.length
    rw [pk_shrN (by omega) _ 3 (by decide), bg_nand, ← Nat.shiftRight_eq_div_pow, List.take_length]
    exact H
  · intro n k s hk hI hw
    subst hI
    have x : 24 * nI mx + nI k = nI (24 * mx + k) := by
      show nI 24 * nI mx + nI k = _
      rw [pk_mul, nI_add]
    refine ⟨pk_in mx 2 hm, pk_le Z.length k (fun z => absurd z (by omega)) (fun _ => ⟨pk_in _ 48 (by omega) x, nm_r (e' := nI (bg_orb (Z.take (k + 1)))) ?_ (nm_r (nI_1 k) (hw _ rfl))⟩) (by rw [pk_cl mx, h2]) rfl⟩
    rw [pk_cl _ x, (bg_hold_at hh hk).1, bg_nor, bg_take_s (bg_get hk), bg_orb_snoc]
theorem bg_repl {R C : Nat} {A B : Nat → Nat → Int} (hg : bg_gm R C A B) {post : Int32 → St1 → Prop} {u : St1} (hu : bg_G0 R C A B u) {rs cs side : Nat} (hs : side < 2) (r1 : 0 < rs) (r2 : rs < 8) (c1 : 0 < cs) (c2 : cs < 8)
    (H : ∀ v, bg_G0 R C A B v → post (nI (bg_rep A B rs cs side)) v) : wpX_repliesAmong post u (nI rs) (nI cs) (nI side) := by
  obtain ⟨fr, fc, fm, fo, ft, fl, fn, fp, fq, a1, a2, a3, a4, a5, a6, a7, a8, a9, a10⟩ := u
  obtain ⟨e1, e2, e3, e4⟩ := hu
  have ll : bg_lo (bg_ls A B (1 - side) 0) := bg_ls_lo hg.2.2 (by omega)
  have key : ∀ own other : Nat, 0 < own → own < 8 → 0 < other → other < 8 → (∀ v, bg_G0 R C A B v → post (nI ((bg_orb (bg_cone (bg_ls A B (1 - side) 0) own other) >>> 3) &&& other)) v) →
      ∀ b8, bg_lm (bg_ls A B (1 - side) 0) b8 → wX_repliesAmong_32 post (nI (1 - side)) (nI own) (nI other) fr fc fm fo ft fl fn fp fq a1 a2 a3 a4 a5 a6 a7 b8 a9 a10 := by
    intro own other o1 o2 t1 t2 HH b8 hb8
    unfold wX_repliesAmong_32
    refine bg_makeCone (side := 1 - side) (by omega) o1 o2 t1 t2 hb8 ll (fun km b2 b3 b4 b5 b6 b7 g1 g2 g3 g4 => ?_)
    exact bg_rep50 (by omega) t2 (by have := (bg_cone_len ll o1 o2 t1 t2).1; omega) g3 (fun r hr => (bg_cone_V ll o1 o2 t1 t2 r hr).1.2.2.2.2.2.2) g1 (HH _ ⟨e1, e2, e3, e4⟩)
  unfold wpX_repliesAmong
  refine nm_r (bg_m01 hs) ?_
  refine bg_setLosses e3 hg.2.2 (side := 1 - side) (own := 0) (by omega) (by omega) (fun b8 hb8 => ?_)
  unfold bg_rep at H
  refine pk_eq side 0 (fun z => ?_) (fun z => ?_)
  · unfold wX_repliesAmong_21
    rw [if_pos z, if_pos z] at H
    exact pk_eq side 0 (fun _ => key cs rs c1 c2 r1 r2 H b8 hb8) (fun w => absurd z w)
  · unfold wX_repliesAmong_21
    rw [if_neg z, if_neg z] at H
    exact pk_eq side 0 (fun w => absurd w z) (fun _ => key rs cs r1 r2 c1 c2 H b8 hb8)
theorem bg_rep_in {A B : Nat → Nat → Int} (hr : bg_rg A B) {rs cs side : Nat} (r1 : 0 < rs) (r2 : rs < 8) (c1 : 0 < cs) (c2 : cs < 8) :
    0 < bg_rep A B rs cs side ∧ bg_rep A B rs cs side ≤ (if side = 0 then rs else cs) ∧ ∀ b, (bg_rep A B rs cs side).testBit b = true → (if side = 0 then rs else cs).testBit b = true := by
  have ll : bg_lo (bg_ls A B (1 - side) 0) := by
    have : 1 - side < 2 := by omega
    exact bg_ls_lo hr this
  have ho : 0 < (if side = 0 then rs else cs) ∧ (if side = 0 then rs else cs) < 8 := by split <;> constructor <;> assumption
  have hw : 0 < (if side = 0 then cs else rs) ∧ (if side = 0 then cs else rs) < 8 := by split <;> constructor <;> assumption
  unfold bg_rep
  generalize (if side = 0 then rs else cs) = other at ho ⊢
  generalize (if side = 0 then cs else rs) = own at hw ⊢
  refine ⟨?_, Nat.and_le_right, fun b hb => ?_⟩
  · have hh := bg_hd_all own hw.2 hw.1
    obtain ⟨r, hr, _, _⟩ := bg_cone_unit ll hw.1 hw.2 ho.1 ho.2 hh.1 hh.2.1
    have V := bg_cone_V ll hw.1 hw.2 ho.1 ho.2 r hr
    rcases V.1.2.2.2.2.2.1 with z | ⟨o, h3, hb, hz⟩
    · exfalso
      have hS := V.2.1
      unfold bg_S at hS
      rw [z 0 (by omega), z 1 (by omega), z 2 (by omega)] at hS
      omega
    · have t := (V.1.2.2.2.1 o h3).mpr ⟨hb, hz⟩
      have q : ((bg_orb (bg_cone (bg_ls A B (1 - side) 0) own other) >>> 3) &&& other).testBit o = true := by
        rw [Nat.testBit_and, Nat.testBit_shiftRight, hb, Bool.and_true]
        exact (bg_orf_bit _ 0).mpr (Or.inr ⟨r, hr, t⟩)
      rcases Nat.eq_zero_or_pos ((bg_orb (bg_cone (bg_ls A B (1 - side) 0) own other) >>> 3) &&& other) with z | z
      · rw [z, Nat.zero_testBit] at q
        exact absurd q (by decide)
      · exact z
  · rw [Nat.testBit_and, Bool.and_eq_true] at hb
    exact hb.2
def bg_lf (A B : Nat → Nat → Int) : Nat → Nat × Nat → Nat × Nat
  | 0, p => p
  | n + 1, p => if bg_rep A B p.1 p.2 0 = p.1 ∧ bg_rep A B p.1 p.2 1 = p.2 then p else bg_lf A B n (bg_rep A B p.1 p.2 0, bg_rep A B p.1 p.2 1)
theorem bg_left25 {R C : Nat} {A B : Nat → Nat → Int} (hg : bg_gm R C A B) {post : Int32 → St1 → Prop} : ∀ (n : Nat) (p : Nat × Nat), 0 < p.1 → p.1 < 8 → 0 < p.2 → p.2 < 8 → p.1 + p.2 ≤ n →
    (∀ v, bg_G0 R C A B v → post (nI ((bg_lf A B n p).1 ||| ((bg_lf A B n p).2 <<< 3))) v) → ∀ {fr fc fm fo ft fl fn : Int32} {fp fq : Int64} {a1 a2 : Nat → Int32} {a3 : Nat → Int64} {a4 : Nat → Int32} {a5 : Nat → Int64} {a6 : Nat → Int32} {a7 : Nat → Int64} {a8 a9 a10 : Nat → Int32}, bg_G0 R C A B (fr, fc, fm, fo, ft, fl, fn, fp, fq, a1, a2, a3, a4, a5, a6, a7, a8, a9, a10) → wX_left_25 post (n + 1) (nI p.1) (nI p.2) 1 fr fc fm fo ft fl fn fp fq a1 a2 a3 a4 a5 a6 a7 a8 a9 a10 := by
  intro n
  induction n with
  | zero => intro p h1 _ _ _ h; omega
  | succ n ih =>
    intro p h1 h2 h3 h4 hs H fr fc fm fo ft fl fn fp fq a1 a2 a3 a4 a5 a6 a7 a8 a9 a10 hu
    have q0 := bg_rep_in hg.2.2 (side := 0) h1 h2 h3 h4
    have q1 := bg_rep_in hg.2.2 (side := 1) h1 h2 h3 h4
    have q0l : bg_rep A B p.1 p.2 0 ≤ p.1 := q0.2.1
    have q1l : bg_rep A B p.1 p.2 1 ≤ p.2 := q1.2.1
    unfold wX_left_25
    refine br_f (by decide) ?_
    refine bg_repl hg hu (side := 0) (by omega) h1 h2 h3 h4 (fun v hv => ?_)
    obtain ⟨frx, fcx, fmx, fox, ftx, flx, fnx, fpx, fqx, a1x, a2x, a3x, a4x, a5x, a6x, a7x, a8x, a9x, a10x⟩ := v
    refine bg_repl hg hv (side := 1) (by omega) h1 h2 h3 h4 (fun w hw => ?_)
    obtain ⟨fry, fcy, fmy, foy, fty, fly, fny, fpy, fqy, a1y, a2y, a3y, a4y, a5y, a6y, a7y, a8y, a9y, a10y⟩ := w
    by_cases e : bg_rep A B p.1 p.2 0 = p.1 ∧ bg_rep A B p.1 p.2 1 = p.2
    · have el : bg_lf A B (n + 1) p = p := by
        show (if bg_rep A B p.1 p.2 0 = p.1 ∧ bg_rep A B p.1 p.2 1 = p.2 then p else bg_lf A B n _) = p
        rw [if_pos e]
      rw [el] at H
      refine br_t (congrArg nI e.1) (br_t (congrArg nI e.2) ?_)
      unfold wX_left_25
      refine br_t rfl ?_
      rw [e.1, e.2, pk_shlN _ 3 (by decide) (by omega), bg_nor, ← Nat.shiftLeft_eq]
      exact H _ hw
    · have el : bg_lf A B (n + 1) p = bg_lf A B n (bg_rep A B p.1 p.2 0, bg_rep A B p.1 p.2 1) := by
        show (if bg_rep A B p.1 p.2 0 = p.1 ∧ bg_rep A B p.1 p.2 1 = p.2 then p else bg_lf A B n _) = _
        rw [if_neg e]
      rw [el] at H
      have lt : bg_rep A B p.1 p.2 0 + bg_rep A B p.1 p.2 1 ≤ n := by omega
      have go := ih (bg_rep A B p.1 p.2 0, bg_rep A B p.1 p.2 1) q0.1 (by show bg_rep A B p.1 p.2 0 < 8; omega) q1.1 (by show bg_rep A B p.1 p.2 1 < 8; omega) lt H hw
      refine pk_eq (bg_rep A B p.1 p.2 0) p.1 (fun z => pk_eq (bg_rep A B p.1 p.2 1) p.2 (fun z2 => absurd ⟨z, z2⟩ e) (fun _ => ?_)) (fun _ => ?_)
      · unfold wX_left_59
        exact go
      · unfold wX_left_59
        exact go
def bg_left (R C : Nat) (A B : Nat → Nat → Int) : Nat × Nat := bg_lf A B 14 (bg_m R, bg_m C)
theorem bg_leftW {R C : Nat} {A B : Nat → Nat → Int} (hg : bg_gm R C A B) {post : Int32 → St1 → Prop} {u : St1} (hu : bg_G R C A B u)
    (H : ∀ v, bg_G0 R C A B v → post (nI ((bg_left R C A B).1 ||| ((bg_left R C A B).2 <<< 3))) v) : wpX_left post u := by
  obtain ⟨fr, fc, fm, fo, ft, fl, fn, fp, fq, a1, a2, a3, a4, a5, a6, a7, a8, a9, a10⟩ := u
  obtain ⟨e1, e2, e3, e4⟩ := hu
  have r := bg_m_all R (by have := hg.1; omega) (by have := hg.1; omega)
  have c := bg_m_all C (by have := hg.2.1; omega) (by have := hg.2.1; omega)
  subst e1 e2
  unfold wpX_left
  exact nm_r r.1 (nm_r c.1 ⟨15, bg_left25 hg 14 (bg_m R, bg_m C) r.2.1 r.2.2.1 c.2.1 c.2.2.1 (by show bg_m R + bg_m C ≤ 14; omega) H ⟨rfl, rfl, e3, rfl⟩⟩)
theorem bg_replies {R C : Nat} {A B : Nat → Nat → Int} (hg : bg_gm R C A B) {post : Int32 → St1 → Prop} {u : St1} (hu : bg_G R C A B u) {side : Nat} (hs : side < 2)
    (H : ∀ v, bg_G0 R C A B v → post (nI (bg_rep A B (bg_m R) (bg_m C) side)) v) : wpX_replies post u (nI side) := by
  obtain ⟨fr, fc, fm, fo, ft, fl, fn, fp, fq, a1, a2, a3, a4, a5, a6, a7, a8, a9, a10⟩ := u
  obtain ⟨e1, e2, e3, e4⟩ := hu
  have r := bg_m_all R (by have := hg.1; omega) (by have := hg.1; omega)
  have c := bg_m_all C (by have := hg.2.1; omega) (by have := hg.2.1; omega)
  subst e1 e2
  unfold wpX_replies
  refine bg_isSide hs (br_f (by decide) ?_)
  rw [r.1, c.1]
  refine bg_repl hg (u := (nI R, nI C, fm, fo, ft, 0, fn, fp, fq, a1, a2, a3, a4, a5, a6, a7, a8, a9, a10)) ⟨rfl, rfl, e3, rfl⟩ hs r.2.1 r.2.2.1 c.2.1 c.2.2.1 (fun v hv => ?_)
  obtain ⟨frx, fcx, fmx, fox, ftx, flx, fnx, fpx, fqx, a1x, a2x, a3x, a4x, a5x, a6x, a7x, a8x, a9x, a10x⟩ := v
  exact H _ hv
theorem bg_lf_in {A B : Nat → Nat → Int} (hr : bg_rg A B) : ∀ (n : Nat) (p : Nat × Nat), 0 < p.1 → p.1 < 8 → 0 < p.2 → p.2 < 8 →
    0 < (bg_lf A B n p).1 ∧ (bg_lf A B n p).1 < 8 ∧ 0 < (bg_lf A B n p).2 ∧ (bg_lf A B n p).2 < 8 ∧ (∀ b, (bg_lf A B n p).1.testBit b = true → p.1.testBit b = true) ∧ (∀ b, (bg_lf A B n p).2.testBit b = true → p.2.testBit b = true) := by
  intro n
  induction n with
  | zero => intro p h1 h2 h3 h4; exact ⟨h1, h2, h3, h4, fun _ h => h, fun _ h => h⟩
  | succ n ih =>
    intro p h1 h2 h3 h4
    show 0 < (if bg_rep A B p.1 p.2 0 = p.1 ∧ bg_rep A B p.1 p.2 1 = p.2 then p else bg_lf A B n (bg_rep A B p.1 p.2 0, bg_rep A B p.1 p.2 1)).1 ∧ (if bg_rep A B p.1 p.2 0 = p.1 ∧ bg_rep A B p.1 p.2 1 = p.2 then p else bg_lf A B n (bg_rep A B p.1 p.2 0, bg_rep A B p.1 p.2 1)).1 < 8 ∧ 0 < (if bg_rep A B p.1 p.2 0 = p.1 ∧ bg_rep A B p.1 p.2 1 = p.2 then p else bg_lf A B n (bg_rep A B p.1 p.2 0, bg_rep A B p.1 p.2 1)).2 ∧ (if bg_rep A B p.1 p.2 0 = p.1 ∧ bg_rep A B p.1 p.2 1 = p.2 then p else bg_lf A B n (bg_rep A B p.1 p.2 0, bg_rep A B p.1 p.2 1)).2 < 8 ∧ (∀ b, (if bg_rep A B p.1 p.2 0 = p.1 ∧ bg_rep A B p.1 p.2 1 = p.2 then p else bg_lf A B n (bg_rep A B p.1 p.2 0, bg_rep A B p.1 p.2 1)).1.testBit b = true → p.1.testBit b = true) ∧ (∀ b, (if bg_rep A B p.1 p.2 0 = p.1 ∧ bg_rep A B p.1 p.2 1 = p.2 then p else bg_lf A B n (bg_rep A B p.1 p.2 0, bg_rep A B p.1 p.2 1)).2.testBit b = true → p.2.testBit b = true)
    have q0 := bg_rep_in hr (side := 0) h1 h2 h3 h4
    have q1 := bg_rep_in hr (side := 1) h1 h2 h3 h4
    have q0l : bg_rep A B p.1 p.2 0 ≤ p.1 := q0.2.1
    have q1l : bg_rep A B p.1 p.2 1 ≤ p.2 := q1.2.1
    split
    · exact ⟨h1, h2, h3, h4, fun _ h => h, fun _ h => h⟩
    · have t := ih (bg_rep A B p.1 p.2 0, bg_rep A B p.1 p.2 1) q0.1 (by show bg_rep A B p.1 p.2 0 < 8; omega) q1.1 (by show bg_rep A B p.1 p.2 1 < 8; omega)
      exact ⟨t.1, t.2.1, t.2.2.1, t.2.2.2.1, fun b h => q0.2.2 b (t.2.2.2.2.1 b h), fun b h => q1.2.2 b (t.2.2.2.2.2 b h)⟩
/-- what is left lies among the replies -/
theorem bg_left_in {R C : Nat} {A B : Nat → Nat → Int} (hg : bg_gm R C A B) : 0 < (bg_left R C A B).1 ∧ (bg_left R C A B).1 < 8 ∧ 0 < (bg_left R C A B).2 ∧ (bg_left R C A B).2 < 8 ∧
    (∀ b, (bg_left R C A B).1.testBit b = true → (bg_rep A B (bg_m R) (bg_m C) 0).testBit b = true) ∧ (∀ b, (bg_left R C A B).2.testBit b = true → (bg_rep A B (bg_m R) (bg_m C) 1).testBit b = true) := by
  have r := bg_m_all R (by have := hg.1; omega) (by have := hg.1; omega)
  have c := bg_m_all C (by have := hg.2.1; omega) (by have := hg.2.1; omega)
  have t := bg_lf_in hg.2.2 14 (bg_m R, bg_m C) r.2.1 r.2.2.1 c.2.1 c.2.2.1
  refine ⟨t.1, t.2.1, t.2.2.1, t.2.2.2.1, ?_⟩
  have e : bg_left R C A B = if bg_rep A B (bg_m R) (bg_m C) 0 = bg_m R ∧ bg_rep A B (bg_m R) (bg_m C) 1 = bg_m C then (bg_m R, bg_m C) else bg_lf A B 13 (bg_rep A B (bg_m R) (bg_m C) 0, bg_rep A B (bg_m R) (bg_m C) 1) := rfl
  rw [e]
  split
  · rename_i h
    rw [h.1, h.2]
    exact ⟨fun _ h => h, fun _ h => h⟩
  · have q0 := bg_rep_in hg.2.2 (side := 0) r.2.1 r.2.2.1 c.2.1 c.2.2.1
    have q1 := bg_rep_in hg.2.2 (side := 1) r.2.1 r.2.2.1 c.2.1 c.2.2.1
    have q0l : bg_rep A B (bg_m R) (bg_m C) 0 ≤ bg_m R := q0.2.1
    have q1l : bg_rep A B (bg_m R) (bg_m C) 1 ≤ bg_m C := q1.2.1
    have t := bg_lf_in hg.2.2 13 (bg_rep A B (bg_m R) (bg_m C) 0, bg_rep A B (bg_m R) (bg_m C) 1) q0.1 (by show bg_rep A B (bg_m R) (bg_m C) 0 < 8; omega) q1.1 (by show bg_rep A B (bg_m R) (bg_m C) 1 < 8; omega)
    exact t.2.2.2.2
end
end
section
section
def bg_g3 (x : Nat → Nat) : Nat := Nat.gcd (Nat.gcd (x 0) (x 1)) (x 2)
def bg_edge (R C : Nat) (A B : Nat → Nat → Int) (k side : Nat) : bg_Ray :=
  if side = 0 then (bg_X R C A B).getD ((bg_EE R C A B).getD k (0, 0)).1 bg_d0 else (bg_Y R C A B).getD ((bg_EE R C A B).getD k (0, 0)).2 bg_d0
def bg_cho (R C side : Nat) : Nat := if side = 0 then R else C
theorem bg_cho_in {R C : Nat} (hR : 1 ≤ R ∧ R ≤ 3) (hC : 1 ≤ C ∧ C ≤ 3) (side : Nat) : 1 ≤ bg_cho R C side ∧ bg_cho R C side ≤ 3 := by
  unfold bg_cho
  split <;> assumption
theorem bg_cho_m {R C : Nat} (hR : 1 ≤ R ∧ R ≤ 3) (hC : 1 ≤ C ∧ C ≤ 3) (side : Nat) : ((1 : Int32) <<< (nI (bg_cho R C side) &&& 31)) - 1 = nI (bg_m (bg_cho R C side)) ∧ 0 < bg_m (bg_cho R C side) ∧ bg_m (bg_cho R C side) < 8 := by
  have h := bg_cho_in hR hC side
  have t := bg_m_all _ (show bg_cho R C side < 4 by omega) (by omega)
  exact ⟨t.1, t.2.1, t.2.2.1⟩
theorem bg_EE_at {R C : Nat} {A B : Nat → Nat → Int} {k : Nat} (hk : k < (bg_EE R C A B).length) :
    ((bg_EE R C A B).getD k (0, 0)).1 < (bg_X R C A B).length ∧ ((bg_EE R C A B).getD k (0, 0)).2 < (bg_Y R C A B).length ∧
    bg_fit (bg_edge R C A B k 0).2 (bg_edge R C A B k 1).2 (bg_m R) (bg_m C) = true := by
  have h := bg_memP hk
  unfold bg_edge
  rw [if_pos rfl, if_neg (by decide)]
  generalize (bg_EE R C A B).getD k (0, 0) = q at h ⊢
  obtain ⟨q1, q2⟩ := q
  exact bg_E_mem.mp h
theorem bg_edge_V {R C : Nat} {A B : Nat → Nat → Int} (hg : bg_gm R C A B) {k side : Nat} (hs : side < 2) (hk : k < (bg_EE R C A B).length) :
    bg_V (bg_ls A B side 0) (bg_m (bg_cho R C side)) (bg_m (bg_cho R C (1 - side))) (bg_edge R C A B k side) ∧ 0 < bg_S (bg_edge R C A B k side) ∧ ∀ c, c < 3 → (bg_edge R C A B k side).1 c ≤ 1296 := by
  have r := bg_m_all R (by have := hg.1; omega) (by have := hg.1; omega)
  have c := bg_m_all C (by have := hg.2.1; omega) (by have := hg.2.1; omega)
  have t := bg_EE_at hk
  have hs' : side = 0 ∨ side = 1 := by omega
  rcases hs' with e | e
  · subst e
    exact bg_cone_V (bg_ls_lo hg.2.2 (by omega)) r.2.1 r.2.2.1 c.2.1 c.2.2.1 _ (bg_getD_mem t.1)
  · subst e
    exact bg_cone_V (bg_ls_lo hg.2.2 (by omega)) c.2.1 c.2.2.1 r.2.1 r.2.2.1 _ (bg_getD_mem t.2.1)
theorem bg_edgeFor {fr fc fm fo ft fl fn : Int32} {fp fq : Int64} {a1 a2 : Nat → Int32} {a3 : Nat → Int64} {a4 : Nat → Int32} {a5 : Nat → Int64} {a6 : Nat → Int32} {a7 : Nat → Int64} {a8 a9 a10 : Nat → Int32} {R C : Nat} {A B : Nat → Nat → Int} (hg : bg_gm R C A B) (hL : bg_Lst R C A B fn a3 a4 a9 a10) {k side : Nat} (hs : side < 2) (hk : k < (bg_EE R C A B).length) :
    ∃ idx, idx < 48 ∧ (∀ i, i < 4 → a3 (4 * idx + i) = lN ((bg_edge R C A B k side).1 i)) ∧ (∀ post : Int32 → Prop, post (nI idx) → wpX_edgeFor post (fr, fc, fm, fo, ft, fl, fn, fp, fq, a1, a2, a3, a4, a5, a6, a7, a8, a9, a10) (nI k) (nI side)) ∧
      (side = 0 → a9 k = nI idx) ∧ (side = 1 → 24 + a10 k = nI idx) := by
  obtain ⟨h0, h1, _, h9⟩ := hL
  have n63 := bg_EE_len hg
  have t := bg_EE_at hk
  have a := h9 k _ (bg_getP hk)
  have r := bg_m_all R (by have := hg.1; omega) (by have := hg.1; omega)
  have c := bg_m_all C (by have := hg.2.1; omega) (by have := hg.2.1; omega)
  have hXl := (bg_cone_len (bg_ls_lo hg.2.2 (side := 0) (own := 0) (by omega)) r.2.1 r.2.2.1 c.2.1 c.2.2.1).1
  have hYl := (bg_cone_len (bg_ls_lo hg.2.2 (side := 1) (own := 0) (by omega)) c.2.1 c.2.2.1 r.2.1 r.2.2.1).1
  have hX9 : (bg_X R C A B).length ≤ 9 := hXl
  have hY9 : (bg_Y R C A B).length ≤ 9 := hYl
  have hs' : side = 0 ∨ side = 1 := by omega
  rcases hs' with e | e
  · subst e
    have x := (bg_hold_at h0 t.1).2
    rw [Nat.zero_add] at x
    refine ⟨_, by omega, x, fun post H => ?_, fun _ => a.1, fun z => absurd z (by decide)⟩
    unfold wpX_edgeFor
    refine br_t rfl ⟨pk_in k 64 (by omega), ?_⟩
    rw [pk_cl k, a.1]
    exact H
  · subst e
    have x := (bg_hold_at h1 t.2.1).2
    have y : 24 + nI ((bg_EE R C A B).getD k (0, 0)).2 = nI (24 + ((bg_EE R C A B).getD k (0, 0)).2) := nI_add 24 _
    refine ⟨24 + ((bg_EE R C A B).getD k (0, 0)).2, by omega, x, fun post H => ?_, fun z => absurd z (by decide), fun _ => by rw [a.2]; exact y⟩
    unfold wpX_edgeFor
    refine br_f (by decide) ⟨pk_in k 64 (by omega), ?_⟩
    rw [pk_cl k, a.2, y]
    exact H
theorem bg_mixDiv {fr fc fm fo ft fl fn : Int32} {fp fq : Int64} {a1 a2 : Nat → Int32} {a3 : Nat → Int64} {a4 : Nat → Int32} {a5 : Nat → Int64} {a6 : Nat → Int32} {a7 : Nat → Int64} {a8 a9 a10 : Nat → Int32} {post : Int64 → Prop} {e : Nat} {r : bg_Ray} (he : e < 48) (h : ∀ i, i < 4 → a3 (4 * e + i) = lN (r.1 i)) (hb : ∀ c, c < 3 → r.1 c ≤ 1296) (H : post (lN (bg_g3 r.1))) :
    wpX_mixDivisor post (fr, fc, fm, fo, ft, fl, fn, fp, fq, a1, a2, a3, a4, a5, a6, a7, a8, a9, a10) (nI e) := by
  have x0 : 4 * nI e = nI (4 * e) := pk_mul 4 e
  have x1 : 4 * nI e + 1 = nI (4 * e + 1) := bg_ix4 e 1
  have x2 : 4 * nI e + 2 = nI (4 * e + 2) := bg_ix4 e 2
  have b0 := hb 0 (by omega)
  have b1 := hb 1 (by omega)
  have b2 := hb 2 (by omega)
  have bg : Nat.gcd (r.1 0) (r.1 1) < 2 ^ 62 := by
    rcases Nat.eq_zero_or_pos (r.1 0) with z | z
    · rw [z, Nat.gcd_zero_left]; omega
    · have := Nat.gcd_le_left (r.1 1) z
      omega
  unfold wpX_mixDivisor
  refine ⟨pk_in (4 * e) 192 (by omega) x0, pk_in (4 * e + 1) 192 (by omega) x1, ?_⟩
  rw [pk_cl (4 * e) x0, pk_cl (4 * e + 1) x1, pk_cl (4 * e + 2) x2, h 1 (by omega), h 2 (by omega), show a3 (4 * e) = lN (r.1 0) from h 0 (by omega)]
  exact bg_gcdN (by omega) (by omega) ⟨pk_in (4 * e + 2) 192 (by omega) x2, bg_gcdN bg (by omega) H⟩
theorem bg_g3_pos {r : bg_Ray} (h : 0 < bg_S r) (hb : ∀ c, c < 3 → r.1 c ≤ 1296) : 0 < bg_g3 r.1 ∧ bg_g3 r.1 < 2 ^ 62 ∧ (∀ c, c < 3 → bg_g3 r.1 ∣ r.1 c) := by
  have d2 : bg_g3 r.1 ∣ r.1 2 := Nat.gcd_dvd_right _ _
  have d01 : bg_g3 r.1 ∣ Nat.gcd (r.1 0) (r.1 1) := Nat.gcd_dvd_left _ _
  have d0 := Nat.dvd_trans d01 (Nat.gcd_dvd_left (r.1 0) (r.1 1))
  have d1 := Nat.dvd_trans d01 (Nat.gcd_dvd_right (r.1 0) (r.1 1))
  have b0 := hb 0 (by omega)
  have b1 := hb 1 (by omega)
  have b2 := hb 2 (by omega)
  refine ⟨?_, ?_, fun c hc => ?_⟩
  · rcases Nat.eq_zero_or_pos (bg_g3 r.1) with z | z
    · rw [z] at d0 d1 d2
      have e0 := Nat.eq_zero_of_zero_dvd d0
      have e1 := Nat.eq_zero_of_zero_dvd d1
      have e2 := Nat.eq_zero_of_zero_dvd d2
      unfold bg_S at h
      omega
    · exact z
  · have key : ∀ n, 0 < n → n ≤ 1296 → bg_g3 r.1 ∣ n → bg_g3 r.1 < 2 ^ 62 := fun n h1 h2 h3 => by
      have := Nat.le_of_dvd h1 h3
      omega
    rcases Nat.eq_zero_or_pos (r.1 0) with z0 | z0
    · rcases Nat.eq_zero_or_pos (r.1 1) with z1 | z1
      · exact key (r.1 2) (by unfold bg_S at h; omega) b2 d2
      · exact key (r.1 1) z1 b1 d1
    · exact key (r.1 0) z0 b0 d0
  · match c, hc with
    | 0, _ => exact d0
    | 1, _ => exact d1
    | 2, _ => exact d2
theorem bg_lN_ne {n : Nat} (h : 0 < n) (hn : n < 2 ^ 62) : ¬ lN n = 0 := by
  intro e
  have e2 : lN n = lN 0 := e
  rw [pk_lEQ (by omega) (by omega)] at e2
  omega
theorem bg_whole {R C : Nat} {A B : Nat → Nat → Int} (hg : bg_gm R C A B) {post : Int32 → St1 → Prop} {u : St1} (hu : bg_G R C A B u) {k side : Nat} (hs : side < 2) (hk : k < (bg_EE R C A B).length)
    (H : ∀ v, bg_GL R C A B v → post (nI (bg_S (bg_edge R C A B k side) / bg_g3 (bg_edge R C A B k side).1)) v) : wpX_whole post u (nI k) (nI side) := by
  obtain ⟨fr, fc, fm, fo, ft, fl, fn, fp, fq, a1, a2, a3, a4, a5, a6, a7, a8, a9, a10⟩ := u
  unfold wpX_whole
  refine bg_isSide hs (br_f (by decide) ?_)
  refine bg_list hg hu (fun v hv => ?_)
  have h := H v hv
  obtain ⟨frx, fcx, fmx, fox, ftx, flx, fnx, fpx, fqx, a1x, a2x, a3x, a4x, a5x, a6x, a7x, a8x, a9x, a10x⟩ := v
  have n63 := bg_EE_len hg
  have hL := hv.2.2.2
  obtain ⟨_, hS, hb⟩ := bg_edge_V hg hs hk
  obtain ⟨idx, hi, h3, hE, _⟩ := bg_edgeFor (fr := frx) (fc := fcx) (fm := fmx) (fo := fox) (ft := ftx) (fl := flx) (fn := fnx) (fp := fpx) (fq := fqx) (a1 := a1x) (a2 := a2x) (a3 := a3x) (a4 := a4x) (a5 := a5x) (a6 := a6x) (a7 := a7x) (a8 := a8x) (a9 := a9x) (a10 := a10x) hg hL hs hk
  have g3 := bg_g3_pos hS hb
  have hSb := bg_S_b hb
  refine br_f (nI_pos (by omega)) (br_t (by rw [hL.2.2.1]; exact nI_lt hk (by omega)) ?_)
  refine hE _ (bg_mixDiv hi h3 hb (bg_sumOf hi h3 ⟨bg_lN_ne g3.1 g3.2.1, ?_⟩))
  rw [pk_lDiv (by omega) g3.1 (by omega), lN_i]
  exact h
theorem bg_part {R C : Nat} {A B : Nat → Nat → Int} (hg : bg_gm R C A B) {post : Int32 → St1 → Prop} {u : St1} (hu : bg_G R C A B u) {k side i : Nat} (hs : side < 2) (hi3 : i < 3) (hk : k < (bg_EE R C A B).length)
    (H : ∀ v, bg_GL R C A B v → post (nI ((bg_edge R C A B k side).1 i / bg_g3 (bg_edge R C A B k side).1)) v) : wpX_part post u (nI k) (nI side) (nI i) := by
  obtain ⟨fr, fc, fm, fo, ft, fl, fn, fp, fq, a1, a2, a3, a4, a5, a6, a7, a8, a9, a10⟩ := u
  unfold wpX_part
  refine bg_isSide hs (br_f (by decide) ?_)
  refine bg_list hg hu (fun v hv => ?_)
  have h := H v hv
  obtain ⟨frx, fcx, fmx, fox, ftx, flx, fnx, fpx, fqx, a1x, a2x, a3x, a4x, a5x, a6x, a7x, a8x, a9x, a10x⟩ := v
  have n63 := bg_EE_len hg
  have hL := hv.2.2.2
  obtain ⟨V, hS, hb⟩ := bg_edge_V hg hs hk
  obtain ⟨idx, hi, h3, hE, _⟩ := bg_edgeFor (fr := frx) (fc := fcx) (fm := fmx) (fo := fox) (ft := ftx) (fl := flx) (fn := fnx) (fp := fpx) (fq := fqx) (a1 := a1x) (a2 := a2x) (a3 := a3x) (a4 := a4x) (a5 := a5x) (a6 := a6x) (a7 := a7x) (a8 := a8x) (a9 := a9x) (a10 := a10x) hg hL hs hk
  have g3 := bg_g3_pos hS hb
  have hci := bg_cho_in hg.1 hg.2.1 side
  have hx := hb i hi3
  refine br_f (nI_pos (by omega)) (br_t (by rw [hL.2.2.1]; exact nI_lt hk (by omega)) (br_f (nI_pos (by omega)) ?_))
  have e1 : frx = nI R := hv.1
  have e2 : fcx = nI C := hv.2.1
  have fin : ∀ c : Nat, c = bg_cho R C side → (nI i < nI c → wpX_edgeFor (fun r_48 => (wpX_mixDivisor (fun r_49 => (vp_in ((4 * r_48) + nI i) 192 ∧ (¬ r_49 = 0 ∧ (post (((a3x ((4 * r_48) + nI i).toNatClampNeg) / r_49).toInt32) (frx, fcx, fmx, fox, ftx, flx, fnx, fpx, fqx, a1x, a2x, a3x, a4x, a5x, a6x, a7x, a8x, a9x, a10x))))) (frx, fcx, fmx, fox, ftx, flx, fnx, fpx, fqx, a1x, a2x, a3x, a4x, a5x, a6x, a7x, a8x, a9x, a10x) r_48)) (frx, fcx, fmx, fox, ftx, flx, fnx, fpx, fqx, a1x, a2x, a3x, a4x, a5x, a6x, a7x, a8x, a9x, a10x) (nI k) (nI side)) ∧ (¬ nI i < nI c → post 0 (frx, fcx, fmx, fox, ftx, flx, fnx, fpx, fqx, a1x, a2x, a3x, a4x, a5x, a6x, a7x, a8x, a9x, a10x)) := by
    intro c ec
    subst ec
    refine pk_lt i (bg_cho R C side) (fun z => ?_) (fun z => ?_)
    · have x := bg_ix4 idx i
      refine hE _ (bg_mixDiv hi h3 hb ⟨pk_in _ 192 (by omega) x, bg_lN_ne g3.1 g3.2.1, ?_⟩)
      rw [pk_cl _ x, h3 i (by omega), pk_lDiv (by omega) g3.1 (by omega), lN_i]
      exact h
    · have hz : (bg_edge R C A B k side).1 i = 0 := by
        apply V.1 i hi3
        have t := (bg_m_all _ (show bg_cho R C side < 4 by omega) (by omega)).2.2.2.2 i hi3
        cases q : (bg_m (bg_cho R C side)).testBit i with
        | false => rfl
        | true => exact absurd (t.mp q) (by omega)
      rw [hz, Nat.zero_div] at h
      exact h
  unfold wpX_choicesOf
  refine pk_eq side 0 (fun z => ?_) (fun z => ?_)
  · have := fin R (by unfold bg_cho; rw [if_pos z])
    rw [e1] at this ⊢
    exact this
  · have := fin C (by unfold bg_cho; rw [if_neg z])
    rw [e2] at this ⊢
    exact this
end
end
section
section
def bg_q (z : Int) (b : Nat) : Nat := Nat.gcd z.natAbs b
theorem bg_q_pos {z : Int} {b : Nat} (hb : 0 < b) : 0 < bg_q z b := Nat.gcd_pos_of_pos_right _ hb
theorem bg_q_le {z : Int} {b : Nat} (hb : 0 < b) : bg_q z b ≤ b := Nat.gcd_le_right _ hb
theorem bg_q_dvd (z : Int) (b : Nat) : ((bg_q z b : Nat) : Int) ∣ z := by
  have h : bg_q z b ∣ z.natAbs := Nat.gcd_dvd_left _ _
  exact Int.ofNat_dvd_left.mpr h
theorem bg_L_div {z : Int} {g : Nat} (h1 : -2 ^ 62 ≤ z) (h2 : z < 2 ^ 62) (hg : g < 2 ^ 62) (hd : (g : Int) ∣ z) : bg_L z / lN g = bg_L (z / (g : Int)) := by
  rw [← Int.tdiv_eq_ediv_of_dvd hd]
  have a1 : Int64.minValue.toInt = -9223372036854775808 := by decide
  have a2 : Int64.maxValue.toInt = 9223372036854775807 := by decide
  exact (Int64.ofInt_tdiv (a := z) (b := (g : Int)) (by omega) (by omega) (by omega) (by omega)).symm
theorem bg_shorten {fr fc fm fo ft fl fn : Int32} {a1 a2 : Nat → Int32} {a3 : Nat → Int64} {a4 : Nat → Int32} {a5 : Nat → Int64} {a6 : Nat → Int32} {a7 : Nat → Int64} {a8 a9 a10 : Nat → Int32} {post : St1 → Prop} {z : Int} {b : Nat} (h1 : -2 ^ 62 ≤ z) (h2 : z < 2 ^ 62) (b1 : 0 < b) (b2 : b < 2 ^ 62)
    (H : post (fr, fc, fm, fo, ft, fl, fn, bg_L (z / ((bg_q z b : Nat) : Int)), lN (b / bg_q z b), a1, a2, a3, a4, a5, a6, a7, a8, a9, a10)) : wpX_shorten post (fr, fc, fm, fo, ft, fl, fn, bg_L z, lN b, a1, a2, a3, a4, a5, a6, a7, a8, a9, a10) := by
  have g1 := bg_q_pos (z := z) b1
  have g2 := bg_q_le (z := z) b1
  have ne := bg_lN_ne g1 (by omega)
  unfold wpX_shorten
  refine bg_gcd (z := z) (w := (b : Int)) h1 h2 (by omega) (by omega) ?_
  have e : Nat.gcd z.natAbs (b : Int).natAbs = bg_q z b := by rw [Int.natAbs_natCast]; rfl
  rw [e]
  exact ⟨ne, nm_r (bg_L_div h1 h2 (by omega) (bg_q_dvd z b)) ⟨ne, nm_r (pk_lDiv (by omega) g1 (by omega)) H⟩⟩
def bg_rs (f : Nat → Int) : Nat → Int
  | 0 => 0
  | n + 1 => bg_rs f n + f n
theorem bg_rs_b {f : Nat → Int} {M : Nat} : ∀ n, (∀ i, i < n → -(M : Int) ≤ f i ∧ f i ≤ M) → -((M * n : Nat) : Int) ≤ bg_rs f n ∧ bg_rs f n ≤ ((M * n : Nat) : Int) := by
  intro n
  induction n with
  | zero => intro _; exact ⟨by simp [bg_rs], by simp [bg_rs]⟩
  | succ n ih =>
    intro h
    have h1 := ih (fun i hi => h i (by omega))
    have h2 := h n (by omega)
    show -((M * (n + 1) : Nat) : Int) ≤ bg_rs f n + f n ∧ bg_rs f n + f n ≤ ((M * (n + 1) : Nat) : Int)
    rw [Nat.mul_succ]
    omega
def bg_gT (R C : Nat) (A B : Nat → Nat → Int) (s : Nat) (x y : bg_Ray) : Int := bg_rs (fun i => bg_rs (fun j => ((x.1 i : Int) * (y.1 j : Int)) * bg_py A B s i j) C) R
theorem bg_gT_b {R C : Nat} {A B : Nat → Nat → Int} (hg : bg_gm R C A B) {s : Nat} (hs : s < 2) {x y : bg_Ray} (bx : ∀ c, c < 3 → x.1 c ≤ 1296) (bb : ∀ c, c < 3 → y.1 c ≤ 1296) :
    -136048896 ≤ bg_gT R C A B s x y ∧ bg_gT R C A B s x y ≤ 136048896 := by
  have hR := hg.1
  have hC := hg.2.1
  have t : ∀ i, i < R → -((15116544 * C : Nat) : Int) ≤ bg_rs (fun j => ((x.1 i : Int) * (y.1 j : Int)) * bg_py A B s i j) C ∧ bg_rs (fun j => ((x.1 i : Int) * (y.1 j : Int)) * bg_py A B s i j) C ≤ ((15116544 * C : Nat) : Int) := by
    intro i hi
    apply bg_rs_b
    intro j hj
    have p := hg.2.2 s i j hs (by omega) (by omega)
    have m : x.1 i * y.1 j ≤ 1296 * 1296 := Nat.mul_le_mul (bx i (by omega)) (bb j (by omega))
    rw [← Int.natCast_mul]
    generalize x.1 i * y.1 j = w at m ⊢
    generalize bg_py A B s i j = z at p ⊢
    have u1 : (w : Int) * z ≤ (w : Int) * 9 := Int.mul_le_mul_of_nonneg_left p.2 (by omega)
    have u2 : (w : Int) * (-9) ≤ (w : Int) * z := Int.mul_le_mul_of_nonneg_left p.1 (by omega)
    omega
  have h := bg_rs_b (f := fun i => bg_rs (fun j => ((x.1 i : Int) * (y.1 j : Int)) * bg_py A B s i j) C) (M := 15116544 * C) R t
  unfold bg_gT
  have k : 15116544 * C * R ≤ 15116544 * 3 * 3 := Nat.mul_le_mul (Nat.mul_le_mul (Nat.le_refl _) hC.2) hR.2
  omega
theorem bg_I64 {z : Int} (h1 : -2 ^ 30 ≤ z) (h2 : z < 2 ^ 30) : (bg_I z).toInt64 = bg_L z := by
  apply Int64.toInt_inj.mp
  rw [bg_L_toInt (by omega) (by omega), Int32.toInt_toInt64, bg_I_toInt h1 h2]
theorem bg_findGets {fr fc fm fo ft fl fn : Int32} {fq : Int64} {a1 a2 : Nat → Int32} {a3 : Nat → Int64} {a4 : Nat → Int32} {a5 : Nat → Int64} {a6 : Nat → Int32} {a7 : Nat → Int64} {a8 a9 a10 : Nat → Int32} {post : St1 → Prop} {R C : Nat} {A B : Nat → Nat → Int} (hg : bg_gm R C A B) (er : fr = nI R) (ec : fc = nI C) (hp : bg_pm A B a1) (hL : bg_Lst R C A B fn a3 a4 a9 a10) {k s : Nat} (hs : s < 2) (hk : k < (bg_EE R C A B).length)
    {x y : bg_Ray} (ex : x = bg_edge R C A B k 0) (ey : y = bg_edge R C A B k 1)
    (H : post (fr, fc, fm, fo, ft, fl, fn, bg_L (bg_gT R C A B s x y / ((bg_q (bg_gT R C A B s x y) (bg_S x * bg_S y) : Nat) : Int)), lN ((bg_S x * bg_S y) / bg_q (bg_gT R C A B s x y) (bg_S x * bg_S y)), a1, a2, a3, a4, a5, a6, a7, a8, a9, a10)) {fp : Int64} : wpX_findGets post (fr, fc, fm, fo, ft, fl, fn, fp, fq, a1, a2, a3, a4, a5, a6, a7, a8, a9, a10) (nI k) (nI s) := by
  have n63 := bg_EE_len hg
  have hR := hg.1
  have hC := hg.2.1
  obtain ⟨Vx, Sx, bx⟩ := bg_edge_V hg (side := 0) (by omega) hk
  obtain ⟨Vy, Sy, bb⟩ := bg_edge_V hg (side := 1) (by omega) hk
  rw [← ex] at Vx Sx bx
  rw [← ey] at Vy Sy bb
  obtain ⟨ix, hix, x3, _, x9, _⟩ := bg_edgeFor (fr := fr) (fc := fc) (fm := fm) (fo := fo) (ft := ft) (fl := fl) (fn := fn) (fp := fp) (fq := fq) (a1 := a1) (a2 := a2) (a3 := a3) (a4 := a4) (a5 := a5) (a6 := a6) (a7 := a7) (a8 := a8) (a9 := a9) (a10 := a10) hg hL (side := 0) (by omega) hk
  obtain ⟨iy, hiy, y3, _, _, y10⟩ := bg_edgeFor (fr := fr) (fc := fc) (fm := fm) (fo := fo) (ft := ft) (fl := fl) (fn := fn) (fp := fp) (fq := fq) (a1 := a1) (a2 := a2) (a3 := a3) (a4 := a4) (a5 := a5) (a6 := a6) (a7 := a7) (a8 := a8) (a9 := a9) (a10 := a10) hg hL (side := 1) (by omega) hk
  rw [← ex] at x3
  rw [← ey] at y3
  subst er ec
  unfold wpX_findGets
  refine ⟨pk_in k 64 (by omega), nm_r (e' := nI ix) (by rw [pk_cl k]; exact x9 rfl) ⟨pk_in k 64 (by omega), nm_r (e' := nI iy) (by rw [pk_cl k]; exact y10 rfl) ?_⟩⟩
  refine pk_loop (fun n i t => wX_findGets_26 post (nI s) (nI ix) (nI iy) (nI R) (nI C) fm fo ft fl fn fq a1 a2 a3 a4 a5 a6 a7 a8 a9 a10 n (nI i) t) (fun i t => t = bg_L (bg_rs (fun i => bg_rs (fun j => ((x.1 i : Int) * (y.1 j : Int)) * bg_py A B s i j) C) i)) R 0 0 (by omega) rfl ?_ ?_
  · intro n t hI
    subst hI
    have tb := bg_gT_b hg hs bx bb
    have m1 : bg_S x * bg_S y ≤ 3888 * 3888 := Nat.mul_le_mul (bg_S_b bx) (bg_S_b bb)
    have m0 : 0 < bg_S x * bg_S y := Nat.mul_pos Sx Sy
    exact pk_le R R (fun _ => bg_sumOf hix x3 (bg_sumOf hiy y3 (nm_r (lN_mul _ _) (bg_shorten (z := bg_gT R C A B s x y) (by omega) (by omega) m0 (by omega) H)))) (fun z => absurd z (by omega))
  · intro n i t hi hI hw
    refine pk_le R i (fun z => absurd z (by omega)) (fun _ => ?_)
    subst hI
    refine pk_loop (fun m j t => wX_findGets_38 post (wX_findGets_26 post (nI s) (nI ix) (nI iy) (nI R) (nI C) fm fo ft fl fn fq a1 a2 a3 a4 a5 a6 a7 a8 a9 a10 n) (nI s) (nI ix) (nI iy) (nI i) (nI R) (nI C) fm fo ft fl fn fq a1 a2 a3 a4 a5 a6 a7 a8 a9 a10 m (nI j) t)
      (fun j t => t = bg_L (bg_rs (fun i => bg_rs (fun j => ((x.1 i : Int) * (y.1 j : Int)) * bg_py A B s i j) C) i + bg_rs (fun j => ((x.1 i : Int) * (y.1 j : Int)) * bg_py A B s i j) j)) C 0 _ (by omega) ?_ ?_ ?_
    · exact congrArg bg_L (Int.add_zero _).symm
    · intro m t hJ
      subst hJ
      exact pk_le C C (fun _ => nm_r (nI_1 i) (hw _ rfl)) (fun z => absurd z (by omega))
    · intro m j t hj hJ hw2
      subst hJ
      have q1 := bg_ix4 ix i
      have q2 := bg_ix4 iy j
      have pr := hg.2.2 s i j hs (by omega) (by omega)
      refine pk_le C j (fun z => absurd z (by omega)) (fun _ => ⟨pk_in _ 192 (by omega) q1, pk_in _ 192 (by omega) q2, bg_payment hp hs (by omega) (by omega) (nm_r ?_ (nm_r (nI_1 j) (hw2 _ rfl)))⟩)
      rw [pk_cl _ q1, pk_cl _ q2, x3 i (by omega), y3 j (by omega), bg_I64 (by omega) (by omega), bg_L_N, bg_L_N, bg_L_mul, bg_L_mul, bg_L_add]
      congr 1
      show _ = _ + (_ + _)
      rw [Int.add_assoc]
/-- what a side gets at the k-th equilibrium, above and below -/
def bg_gtT (R C : Nat) (A B : Nat → Nat → Int) (k s : Nat) : Int :=
  bg_gT R C A B s (bg_edge R C A B k 0) (bg_edge R C A B k 1) / ((bg_q (bg_gT R C A B s (bg_edge R C A B k 0) (bg_edge R C A B k 1)) (bg_S (bg_edge R C A B k 0) * bg_S (bg_edge R C A B k 1)) : Nat) : Int)
def bg_gtB (R C : Nat) (A B : Nat → Nat → Int) (k s : Nat) : Nat :=
  (bg_S (bg_edge R C A B k 0) * bg_S (bg_edge R C A B k 1)) / bg_q (bg_gT R C A B s (bg_edge R C A B k 0) (bg_edge R C A B k 1)) (bg_S (bg_edge R C A B k 0) * bg_S (bg_edge R C A B k 1))
theorem bg_getsTop {R C : Nat} {A B : Nat → Nat → Int} (hg : bg_gm R C A B) {post : Int32 → St1 → Prop} {u : St1} (hu : bg_G R C A B u) {k s : Nat} (hs : s < 2) (hk : k < (bg_EE R C A B).length)
    (H : ∀ v, bg_GL R C A B v → post (bg_I (bg_gtT R C A B k s)) v) : wpX_getsTop post u (nI k) (nI s) := by
  obtain ⟨fr, fc, fm, fo, ft, fl, fn, fp, fq, a1, a2, a3, a4, a5, a6, a7, a8, a9, a10⟩ := u
  unfold wpX_getsTop
  refine bg_isSide hs (br_f (by decide) ?_)
  refine bg_list hg hu (fun v hv => ?_)
  obtain ⟨frx, fcx, fmx, fox, ftx, flx, fnx, fpx, fqx, a1x, a2x, a3x, a4x, a5x, a6x, a7x, a8x, a9x, a10x⟩ := v
  have n63 := bg_EE_len hg
  refine br_f (nI_pos (by omega)) (br_t (by rw [hv.2.2.2.2.2.1]; exact nI_lt hk (by omega)) ?_)
  refine bg_findGets hg hv.1 hv.2.1 hv.2.2.1 hv.2.2.2 hs hk rfl rfl ?_
  have e : ∀ z, (bg_L z).toInt32 = bg_I z := fun z => Int64.toInt32_ofInt
  have h := H (frx, fcx, fmx, fox, ftx, flx, fnx, bg_L (bg_gtT R C A B k s), lN (bg_gtB R C A B k s), a1x, a2x, a3x, a4x, a5x, a6x, a7x, a8x, a9x, a10x) hv
  rw [← e] at h
  exact h
theorem bg_getsBottom {R C : Nat} {A B : Nat → Nat → Int} (hg : bg_gm R C A B) {post : Int32 → St1 → Prop} {u : St1} (hu : bg_G R C A B u) {k s : Nat} (hs : s < 2) (hk : k < (bg_EE R C A B).length)
    (H : ∀ v, bg_GL R C A B v → post (nI (bg_gtB R C A B k s)) v) : wpX_getsBottom post u (nI k) (nI s) := by
  obtain ⟨fr, fc, fm, fo, ft, fl, fn, fp, fq, a1, a2, a3, a4, a5, a6, a7, a8, a9, a10⟩ := u
  unfold wpX_getsBottom
  refine bg_isSide hs (br_f (by decide) ?_)
  refine bg_list hg hu (fun v hv => ?_)
  obtain ⟨frx, fcx, fmx, fox, ftx, flx, fnx, fpx, fqx, a1x, a2x, a3x, a4x, a5x, a6x, a7x, a8x, a9x, a10x⟩ := v
  have n63 := bg_EE_len hg
  refine br_f (nI_pos (by omega)) (br_t (by rw [hv.2.2.2.2.2.1]; exact nI_lt hk (by omega)) ?_)
  refine bg_findGets hg hv.1 hv.2.1 hv.2.2.1 hv.2.2.2 hs hk rfl rfl ?_
  have h := H (frx, fcx, fmx, fox, ftx, flx, fnx, bg_L (bg_gtT R C A B k s), lN (bg_gtB R C A B k s), a1x, a2x, a3x, a4x, a5x, a6x, a7x, a8x, a9x, a10x) hv
  rw [← lN_i] at h
  exact h
def bg_Z (R C : Nat) (A B : Nat → Nat → Int) (side : Nat) : List bg_Ray := bg_cone (bg_ls A B side 1) (bg_m (bg_cho R C side)) (bg_m (bg_cho R C (1 - side)))
def bg_bst (Z : List bg_Ray) : Nat → Nat
  | 0 => 0
  | n + 1 => if (Z.getD (bg_bst Z n) bg_d0).1 3 * bg_S (Z.getD n bg_d0) ≤ (Z.getD n bg_d0).1 3 * bg_S (Z.getD (bg_bst Z n) bg_d0) then bg_bst Z n else n
theorem bg_bst_lt (Z : List bg_Ray) : ∀ n, 0 < n → bg_bst Z n < n := by
  intro n
  induction n with
  | zero => intro h; omega
  | succ n ih =>
    intro _
    unfold bg_bst
    split
    · rcases Nat.eq_zero_or_pos n with z | z
      · rw [z]; exact Nat.lt_succ_self 0
      · have := ih z; omega
    · omega
def bg_zb (R C : Nat) (A B : Nat → Nat → Int) (side : Nat) : bg_Ray := (bg_Z R C A B side).getD (bg_bst (bg_Z R C A B side) (bg_Z R C A B side).length) bg_d0
def bg_sT (R C : Nat) (A B : Nat → Nat → Int) (side : Nat) : Int := 10 * (bg_S (bg_zb R C A B side) : Int) - ((bg_zb R C A B side).1 3 : Int)
def bg_suT (R C : Nat) (A B : Nat → Nat → Int) (side : Nat) : Int := bg_sT R C A B side / ((bg_q (bg_sT R C A B side) (bg_S (bg_zb R C A B side)) : Nat) : Int)
def bg_suB (R C : Nat) (A B : Nat → Nat → Int) (side : Nat) : Nat := bg_S (bg_zb R C A B side) / bg_q (bg_sT R C A B side) (bg_S (bg_zb R C A B side))
theorem bg_Z_V {R C : Nat} {A B : Nat → Nat → Int} (hg : bg_gm R C A B) {side : Nat} (hs : side < 2) : ∀ r, r ∈ bg_Z R C A B side → bg_V (bg_ls A B side 1) (bg_m (bg_cho R C side)) (bg_m (bg_cho R C (1 - side))) r ∧ 0 < bg_S r ∧ ∀ c, c < 3 → r.1 c ≤ 1296 := by
  have p := bg_cho_m hg.1 hg.2.1 side
  have q := bg_cho_m hg.1 hg.2.1 (1 - side)
  exact bg_cone_V (bg_ls_lo hg.2.2 hs) p.2.1 p.2.2 q.2.1 q.2.2
theorem bg_Z_len {R C : Nat} {A B : Nat → Nat → Int} (hg : bg_gm R C A B) {side : Nat} (hs : side < 2) : 0 < (bg_Z R C A B side).length ∧ (bg_Z R C A B side).length ≤ 9 := by
  have p := bg_cho_m hg.1 hg.2.1 side
  have q := bg_cho_m hg.1 hg.2.1 (1 - side)
  have hh := bg_hd_all _ p.2.2 p.2.1
  obtain ⟨r, hr, _⟩ := bg_cone_unit (bg_ls_lo hg.2.2 (own := 1) hs) p.2.1 p.2.2 q.2.1 q.2.2 hh.1 hh.2.1
  refine ⟨List.length_pos_of_mem hr, (bg_cone_len (bg_ls_lo hg.2.2 hs) p.2.1 p.2.2 q.2.1 q.2.2).1⟩
theorem bg_zb_V {R C : Nat} {A B : Nat → Nat → Int} (hg : bg_gm R C A B) {side : Nat} (hs : side < 2) : bg_V (bg_ls A B side 1) (bg_m (bg_cho R C side)) (bg_m (bg_cho R C (1 - side))) (bg_zb R C A B side) ∧ 0 < bg_S (bg_zb R C A B side) ∧ ∀ c, c < 3 → (bg_zb R C A B side).1 c ≤ 1296 :=
  bg_Z_V hg hs _ (bg_getD_mem (bg_bst_lt _ _ (bg_Z_len hg hs).1))
theorem bg_fs52 {fr fc fm fo ft fl fn : Int32} {fp fq : Int64} {a1 a2 : Nat → Int32} {a3 : Nat → Int64} {a4 : Nat → Int32} {a5 : Nat → Int64} {a6 : Nat → Int32} {a7 : Nat → Int64} {a8 a9 a10 : Nat → Int32} {post : St1 → Prop} {side : Nat} {Z : List bg_Ray} (hs : side < 2) (hZ : Z.length ≤ 9) (h1 : 0 < Z.length) (hh : bg_hold a3 a4 (24 * side) Z) (h2 : a2 side = nI Z.length)
    (hb : ∀ r, r ∈ Z → 0 < bg_S r ∧ (∀ c, c < 3 → r.1 c ≤ 1296) ∧ r.1 3 ≤ 73873) {w : bg_Ray} (hw : w = Z.getD (bg_bst Z Z.length) bg_d0)
    (H : post (fr, fc, fm, fo, ft, fl, fn, bg_L ((10 * (bg_S w : Int) - (w.1 3 : Int)) / ((bg_q (10 * (bg_S w : Int) - (w.1 3 : Int)) (bg_S w) : Nat) : Int)), lN (bg_S w / bg_q (10 * (bg_S w : Int) - (w.1 3 : Int)) (bg_S w)), a1, a2, a3, a4, a5, a6, a7, a8, a9, a10)) :
    ∃ fu, wX_findSure_52 post (nI side) fr fc fm fo ft fl fn fp fq a1 a2 a3 a4 a5 a6 a7 a8 a9 a10 fu (nI (24 * side)) (nI (24 * side + 1)) := by
  have xc : 24 * nI side + a2 (nI side).toNatClampNeg = nI (24 * side + Z.length) := by
    rw [pk_cl side, h2]
    show nI 24 * nI side + nI Z.length = _
    rw [pk_mul, nI_add]
  have go : ∃ n, (fun n i (_ : Unit) => wX_findSure_52 post (nI side) fr fc fm fo ft fl fn fp fq a1 a2 a3 a4 a5 a6 a7 a8 a9 a10 n (nI (24 * side + bg_bst Z i)) (nI (24 * side + i))) n 1 () := by
    refine pk_loop (σ := Unit) (fun n i _ => wX_findSure_52 post (nI side) fr fc fm fo ft fl fn fp fq a1 a2 a3 a4 a5 a6 a7 a8 a9 a10 n (nI (24 * side + bg_bst Z i)) (nI (24 * side + i))) (fun i _ => 0 < i) Z.length 1 () (by omega) (by omega) ?_ ?_
    · intro n _ _
      have hlt := bg_bst_lt Z Z.length h1
      have at' := (bg_hold_at hh hlt).2
      rw [← hw] at at'
      have hm := hb w (by rw [hw]; exact bg_getD_mem hlt)
      have hSb := bg_S_b hm.2.1
      have x3 : 4 * nI (24 * side + bg_bst Z Z.length) + 3 = nI (4 * (24 * side + bg_bst Z Z.length) + 3) := bg_ix4 _ 3
      refine ⟨pk_in side 2 hs, pk_le (24 * side + Z.length) (24 * side + Z.length) (fun _ => ?_) (fun z => absurd z (by omega)) xc rfl⟩
      refine bg_sumOf (by omega) at' ⟨pk_in _ 192 (by omega) x3, nm_r (e' := bg_L (10 * (bg_S w : Int) - (w.1 3 : Int))) ?_ (bg_shorten (by omega) (by omega) hm.1 (by omega) H)⟩
      rw [pk_cl _ x3, at' 3 (by omega), bg_L_N, bg_L_N]
      show bg_L 10 * bg_L _ - bg_L _ = _
      rw [bg_L_mul, bg_L_sub]
    · intro n i _ hi h0 hwk
      have hlt := bg_bst_lt Z i h0
      have ab := (bg_hold_at hh (show bg_bst Z i < Z.length by omega)).2
      have ai := (bg_hold_at hh hi).2
      have mb := hb _ (bg_getD_mem (show bg_bst Z i < Z.length by omega))
      have mi := hb _ (bg_getD_mem hi)
      have sb := bg_S_b mb.2.1
      have si := bg_S_b mi.2.1
      have xb : 4 * nI (24 * side + bg_bst Z i) + 3 = nI (4 * (24 * side + bg_bst Z i) + 3) := bg_ix4 _ 3
      have xi : 4 * nI (24 * side + i) + 3 = nI (4 * (24 * side + i) + 3) := bg_ix4 _ 3
      have next := hwk () (show 0 < i + 1 by omega)
      have eb : bg_bst Z (i + 1) = if (Z.getD (bg_bst Z i) bg_d0).1 3 * bg_S (Z.getD i bg_d0) ≤ (Z.getD i bg_d0).1 3 * bg_S (Z.getD (bg_bst Z i) bg_d0) then bg_bst Z i else i := rfl
      have m1 : (Z.getD (bg_bst Z i) bg_d0).1 3 * bg_S (Z.getD i bg_d0) ≤ 73873 * 3888 := Nat.mul_le_mul mb.2.2 si
      have m2 : (Z.getD i bg_d0).1 3 * bg_S (Z.getD (bg_bst Z i) bg_d0) ≤ 73873 * 3888 := Nat.mul_le_mul mi.2.2 sb
      refine ⟨pk_in side 2 hs, pk_le (24 * side + Z.length) (24 * side + i) (fun z => absurd z (by omega)) (fun _ => ⟨pk_in _ 192 (by omega) xi, ?_⟩) xc rfl⟩
      refine bg_sumOf (by omega) ab ⟨pk_in _ 192 (by omega) xb, bg_sumOf (by omega) ai ?_⟩
      refine ek_if (d := (Z.getD (bg_bst Z i) bg_d0).1 3 * bg_S (Z.getD i bg_d0) ≤ (Z.getD i bg_d0).1 3 * bg_S (Z.getD (bg_bst Z i) bg_d0)) ?_ (fun z => nm_r (nI_1 _) ?_) (fun z => nm_r (nI_1 _) ?_)
      · rw [pk_cl _ xb, pk_cl _ xi, ab 3 (by omega), ai 3 (by omega), lN_mul, lN_mul, pk_lLE (by omega) (by omega)]
      · rw [eb, if_pos z] at next
        exact next
      · rw [eb, if_neg z] at next
        exact next
  obtain ⟨n, hn⟩ := go
  have e0 : bg_bst Z 1 = 0 := by
    have := bg_bst_lt Z 1 (by omega)
    omega
  rw [e0] at hn
  exact ⟨n, hn⟩
theorem bg_findSure {R C : Nat} {A B : Nat → Nat → Int} (hg : bg_gm R C A B) {post : St1 → Prop} {u : St1} (hu : bg_G R C A B u) {side : Nat} (hs : side < 2)
    (H : ∀ v, bg_G0 R C A B v → v.2.2.2.2.2.2.2.1 = bg_L (bg_suT R C A B side) → v.2.2.2.2.2.2.2.2.1 = lN (bg_suB R C A B side) → post v) : wpX_findSure post u (nI side) := by
  obtain ⟨fr, fc, fm, fo, ft, fl, fn, fp, fq, a1, a2, a3, a4, a5, a6, a7, a8, a9, a10⟩ := u
  obtain ⟨e1, e2, e3, e4⟩ := hu
  have p := bg_cho_m hg.1 hg.2.1 side
  have q := bg_cho_m hg.1 hg.2.1 (1 - side)
  have ll : bg_lo (bg_ls A B side 1) := bg_ls_lo hg.2.2 hs
  subst e1 e2
  unfold wpX_findSure
  refine bg_setLosses e3 hg.2.2 (own := 1) hs (by omega) (fun b8 hb8 => ?_)
  have ch : ∀ (s : Nat) (post' : Int32 → Prop) (w : St1), s < 2 → w.1 = nI R → w.2.1 = nI C → post' (nI (bg_cho R C s)) → wpX_choicesOf post' w (nI s) := by
    intro s post' w h h1 h2 hh
    obtain ⟨frx, fcx, fmx, fox, ftx, flx, fnx, fpx, fqx, a1x, a2x, a3x, a4x, a5x, a6x, a7x, a8x, a9x, a10x⟩ := w
    dsimp only at h1 h2
    unfold wpX_choicesOf
    unfold bg_cho at hh
    refine pk_eq s 0 (fun z => ?_) (fun z => ?_)
    · rw [if_pos z] at hh
      rw [h1]; exact hh
    · rw [if_neg z] at hh
      rw [h2]; exact hh
  refine ch side _ _ hs rfl rfl (nm_r p.1 ?_)
  rw [bg_m01 hs]
  refine ch (1 - side) _ _ (by omega) rfl rfl (nm_r q.1 ?_)
  refine bg_makeCone hs p.2.1 p.2.2 q.2.1 q.2.2 hb8 ll (fun km b2 b3 b4 b5 b6 b7 g1 g2 g3 g4 => nm_r (e' := nI (24 * side)) (pk_mul 24 side) (nm_r (nI_1 _) ?_))
  have zl := bg_Z_len hg hs
  exact bg_fs52 (Z := bg_Z R C A B side) (w := bg_zb R C A B side) hs zl.2 zl.1 g3 g1 (fun r hr => by
    have t := bg_Z_V hg hs r hr
    exact ⟨t.2.1, t.2.2, (bg_ray_b ll t.1 t.2.2).1 3 (by omega)⟩) rfl (H _ ⟨rfl, rfl, e3, rfl⟩ rfl rfl)
theorem bg_sureTop {R C : Nat} {A B : Nat → Nat → Int} (hg : bg_gm R C A B) {post : Int32 → St1 → Prop} {u : St1} (hu : bg_G R C A B u) {side : Nat} (hs : side < 2)
    (H : ∀ v, bg_G0 R C A B v → post (bg_I (bg_suT R C A B side)) v) : wpX_sureTop post u (nI side) := by
  obtain ⟨fr, fc, fm, fo, ft, fl, fn, fp, fq, a1, a2, a3, a4, a5, a6, a7, a8, a9, a10⟩ := u
  unfold wpX_sureTop
  refine bg_isSide hs (br_f (by decide) ?_)
  refine bg_findSure hg hu hs (fun v hv h1 _ => ?_)
  have h := H v hv
  obtain ⟨frx, fcx, fmx, fox, ftx, flx, fnx, fpx, fqx, a1x, a2x, a3x, a4x, a5x, a6x, a7x, a8x, a9x, a10x⟩ := v
  dsimp only at h1
  have e : ∀ z, (bg_L z).toInt32 = bg_I z := fun z => Int64.toInt32_ofInt
  rw [← e, ← h1] at h
  exact h
theorem bg_sureBottom {R C : Nat} {A B : Nat → Nat → Int} (hg : bg_gm R C A B) {post : Int32 → St1 → Prop} {u : St1} (hu : bg_G R C A B u) {side : Nat} (hs : side < 2)
    (H : ∀ v, bg_G0 R C A B v → post (nI (bg_suB R C A B side)) v) : wpX_sureBottom post u (nI side) := by
  obtain ⟨fr, fc, fm, fo, ft, fl, fn, fp, fq, a1, a2, a3, a4, a5, a6, a7, a8, a9, a10⟩ := u
  unfold wpX_sureBottom
  refine bg_isSide hs (br_f (by decide) ?_)
  refine bg_findSure hg hu hs (fun v hv _ h1 => ?_)
  have h := H v hv
  obtain ⟨frx, fcx, fmx, fox, ftx, flx, fnx, fpx, fqx, a1x, a2x, a3x, a4x, a5x, a6x, a7x, a8x, a9x, a10x⟩ := v
  dsimp only at h1
  rw [← lN_i, ← h1] at h
  exact h
end
end
section
section
def bg_pdv (R C : Nat) (A B : Nat → Nat → Int) (side m : Nat) : Int32 := if m / 3 < R ∧ m % 3 < C then bg_I (bg_py A B side (m / 3) (m % 3)) else -1000000
theorem bg_paid {fm fo ft fl fn : Int32} {fp fq : Int64} {a1 a2 : Nat → Int32} {a3 : Nat → Int64} {a4 : Nat → Int32} {a5 : Nat → Int64} {a6 : Nat → Int32} {a7 : Nat → Int64} {a8 a9 a10 : Nat → Int32} {post : Int32 → Prop} {R C : Nat} {A B : Nat → Nat → Int} (hg : bg_gm R C A B) (hp : bg_pm A B a1) {side m : Nat} (hs : side < 2) (hm : m < 9) (H : post (bg_pdv R C A B side m)) :
    wpX_paid post (nI R, nI C, fm, fo, ft, fl, fn, fp, fq, a1, a2, a3, a4, a5, a6, a7, a8, a9, a10) (nI side) (nI m) := by
  unfold bg_pdv at H
  unfold wpX_paid
  refine bg_isSide hs (br_f (by decide) ?_)
  refine bg_isPlace hg.1.2 hg.2.1.2 hm (fun z => br_t rfl ?_) (fun z1 z2 => br_f (by decide) ?_)
  · rw [if_neg z] at H
    exact H
  · rw [if_pos ⟨z1, z2⟩] at H
    have x : 9 * nI side + nI m = nI (9 * side + m) := by
      show nI 9 * nI side + nI m = _
      rw [pk_mul, nI_add]
    refine ⟨pk_in _ 18 (by omega) x, ?_⟩
    have h := hp side (m / 3) (m % 3) hs (by omega) (by omega)
    rw [show 9 * side + 3 * (m / 3) + m % 3 = 9 * side + m by omega] at h
    rw [pk_cl _ x, h]
    exact H
def bg_hs (R C : Nat) (A B : Nat → Nat → Int) (side : Nat) (h : Int32) : Nat → Int32
  | 0 => h
  | n + 1 => 31 * bg_hs R C A B side h n + bg_pdv R C A B side n
def bg_sum (R C : Nat) (A B : Nat → Nat → Int) (side : Nat) : Int32 :=
  bg_hs R C A B side ((bg_I (bg_suT R C A B side) + 3 * nI (bg_suB R C A B side)) + 7 * nI (bg_rep A B (bg_m R) (bg_m C) side)) 9
theorem bg_sumL {R C : Nat} {A B : Nat → Nat → Int} (hg : bg_gm R C A B) {post : Int32 → St1 → Prop} {u : St1} (hu : bg_G R C A B u) {side : Nat} (hs : side < 2)
    (H : ∀ v, bg_G0 R C A B v → post (bg_sum R C A B side) v) : wpL_sum post u (nI side) := by
  obtain ⟨fr, fc, fm, fo, ft, fl, fn, fp, fq, a1, a2, a3, a4, a5, a6, a7, a8, a9, a10⟩ := u
  unfold wpL_sum
  refine bg_sureTop hg hu hs (fun v hv => ?_)
  obtain ⟨frx, fcx, fmx, fox, ftx, flx, fnx, fpx, fqx, a1x, a2x, a3x, a4x, a5x, a6x, a7x, a8x, a9x, a10x⟩ := v
  refine bg_sureBottom hg (bg_G0_G hv) hs (fun v hv => ?_)
  obtain ⟨fry, fcy, fmy, foy, fty, fly, fny, fpy, fqy, a1y, a2y, a3y, a4y, a5y, a6y, a7y, a8y, a9y, a10y⟩ := v
  refine bg_replies hg (bg_G0_G hv) hs (fun v hv => ?_)
  have h := H v hv
  obtain ⟨frz, fcz, fmz, foz, ftz, flz, fnz, fpz, fqz, a1z, a2z, a3z, a4z, a5z, a6z, a7z, a8z, a9z, a10z⟩ := v
  obtain ⟨e1, e2, e3, e4⟩ := hv
  subst e1 e2
  refine nm_e ?_
  refine pk_loop (fun n m t => wL_sum_25 post (nI side) (nI R) (nI C) fmz foz ftz flz fnz fpz fqz a1z a2z a3z a4z a5z a6z a7z a8z a9z a10z n t (nI m))
    (fun m t => t = bg_hs R C A B side ((bg_I (bg_suT R C A B side) + 3 * nI (bg_suB R C A B side)) + 7 * nI (bg_rep A B (bg_m R) (bg_m C) side)) m) 9 0 _ (by omega) rfl ?_ ?_
  · intro n t hI
    subst hI
    exact pk_le 9 9 (fun _ => h) (fun z => absurd z (by omega))
  · intro n m t hm hI hw
    subst hI
    exact pk_le 9 m (fun z => absurd z (by omega)) (fun _ => bg_paid hg e3 hs hm (nm_e (nm_r (nI_1 m) (hw _ rfl))))
def bg_tr (A : Nat → Nat → Int) : Nat → Nat → Int := fun i j => A j i
theorem bg_gm_tr {R C : Nat} {A B : Nat → Nat → Int} (hg : bg_gm R C A B) : bg_gm C R (bg_tr B) (bg_tr A) := by
  refine ⟨hg.2.1, hg.1, ?_⟩
  intro s i j hs hi hj
  have h0 := hg.2.2 (1 - s) j i (by omega) hj hi
  unfold bg_py at h0 ⊢
  unfold bg_tr
  by_cases z : s = 0
  · rw [if_neg (by omega)] at h0
    rw [if_pos z]
    exact h0
  · rw [if_pos (by omega)] at h0
    rw [if_neg z]
    exact h0
theorem bg_exchangeAt {fr fc fm fo ft fl fn : Int32} {fp fq : Int64} {a1 a2 : Nat → Int32} {a3 : Nat → Int64} {a4 : Nat → Int32} {a5 : Nat → Int64} {a6 : Nat → Int32} {a7 : Nat → Int64} {a8 a9 a10 : Nat → Int32} {post : St1 → Prop} {A B A' B' : Nat → Nat → Int} (hp : bg_pm A B a1) (hr : bg_rg A B) {i j : Nat} (hi : i < 3) (hj : j < 3)
    (hA : ∀ a b, a < 3 → b < 3 → A' a b = if a = i ∧ b = j then B j i else A a b) (hB : ∀ a b, a < 3 → b < 3 → B' a b = if a = j ∧ b = i then A i j else B a b)
    (H : ∀ b1, bg_pm A' B' b1 → post (fr, fc, fm, fo, ft, fl, fn, fp, fq, b1, a2, a3, a4, a5, a6, a7, a8, a9, a10)) : wpX_exchangeAt post (fr, fc, fm, fo, ft, fl, fn, fp, fq, a1, a2, a3, a4, a5, a6, a7, a8, a9, a10) (nI i) (nI j) := by
  have x := bg_ix3 i j
  have y : 9 + 3 * nI j + nI i = nI (9 + 3 * j + i) := by
    show nI 9 + nI 3 * nI j + nI i = _
    rw [pk_mul, nI_add, nI_add]
  have v0 := hp 0 i j (by omega) hi hj
  have v1 := hp 1 j i (by omega) hj hi
  have r0 := hr 0 i j (by omega) hi hj
  have r1 := hr 1 j i (by omega) hj hi
  have w0 : bg_py A B 0 i j = A i j := rfl
  have w1 : bg_py A B 1 j i = B j i := rfl
  rw [w0] at v0 r0
  rw [w1] at v1 r1
  rw [show 9 * 0 + 3 * i + j = 3 * i + j by omega] at v0
  rw [show 9 * 1 + 3 * j + i = 9 + 3 * j + i by omega] at v1
  unfold wpX_exchangeAt
  refine ⟨pk_in _ 18 (by omega) x, nm_r (e' := bg_I (A i j)) (by rw [pk_cl _ x]; exact v0) ⟨pk_in _ 18 (by omega) y, pk_in _ 18 (by omega) x, nm_r (bg_u (x' := bg_I (B j i)) (pk_cl _ x) ?_) ⟨pk_in _ 18 (by omega) y, nm_r (bg_u (pk_cl _ y) (bg_I_nar r0.1 r0.2)) (H _ ?_)⟩⟩⟩
  · rw [pk_cl _ y, v1]
    exact bg_I_nar r1.1 r1.2
  · intro s a b hs ha hb
    by_cases z : s = 0
    · subst z
      rw [pk_un (by omega), show bg_py A' B' 0 a b = A' a b from rfl, hA a b ha hb]
      by_cases q : a = i ∧ b = j
      · rw [if_pos q, show 9 * 0 + 3 * a + b = 3 * i + j by omega, pk_us]
      · rw [if_neg q, pk_un (by omega)]
        exact hp 0 a b (by omega) ha hb
    · have e : s = 1 := by omega
      subst e
      rw [show bg_py A' B' 1 a b = B' a b from rfl, hB a b ha hb]
      by_cases q : a = j ∧ b = i
      · rw [if_pos q, show 9 * 1 + 3 * a + b = 9 + 3 * j + i by omega, pk_us]
      · rw [if_neg q, pk_un (by omega), pk_un (by omega)]
        exact hp 1 a b (by omega) ha hb
/-- which places have changed sides, ahead of i, j -/
def bg_dn2 (i j a b : Nat) : Bool := decide ((a < i ∨ b < i) ∨ ((a = i ∧ i ≤ b ∧ b < j) ∨ (b = i ∧ i ≤ a ∧ a < j)))
def bg_AD (A B : Nat → Nat → Int) (i j : Nat) : Nat → Nat → Int := fun a b => if bg_dn2 i j a b = true then B b a else A a b
def bg_BD (A B : Nat → Nat → Int) (i j : Nat) : Nat → Nat → Int := fun a b => if bg_dn2 i j b a = true then A b a else B a b
theorem bg_pm_c {A B A' B' : Nat → Nat → Int} {a : Nat → Int32} (h : bg_pm A B a) (hA : ∀ i j, i < 3 → j < 3 → A' i j = A i j) (hB : ∀ i j, i < 3 → j < 3 → B' i j = B i j) : bg_pm A' B' a := by
  intro s i j hs hi hj
  rw [h s i j hs hi hj]
  unfold bg_py
  split
  · rw [hA i j hi hj]
  · rw [hB i j hi hj]
theorem bg_AD_rg {A B : Nat → Nat → Int} (hr : bg_rg A B) (i j : Nat) : bg_rg (bg_AD A B i j) (bg_BD A B i j) := by
  intro s a b hs ha hb
  have h0 := hr 0 a b (by omega) ha hb
  have h1 := hr 1 a b (by omega) ha hb
  have h2 := hr 0 b a (by omega) hb ha
  have h3 := hr 1 b a (by omega) hb ha
  have e0 : bg_py A B 0 a b = A a b := rfl
  have e1 : bg_py A B 1 a b = B a b := rfl
  have e2 : bg_py A B 0 b a = A b a := rfl
  have e3 : bg_py A B 1 b a = B b a := rfl
  rw [e0] at h0
  rw [e1] at h1
  rw [e2] at h2
  rw [e3] at h3
  unfold bg_py bg_AD bg_BD
  split
  · split <;> assumption
  · split <;> assumption
theorem bg_exch14 {fr fc fm fo ft fl fn : Int32} {fp fq : Int64} {a2 : Nat → Int32} {a3 : Nat → Int64} {a4 : Nat → Int32} {a5 : Nat → Int64} {a6 : Nat → Int32} {a7 : Nat → Int64} {a8 a9 a10 : Nat → Int32} {post : St1 → Prop} {A B : Nat → Nat → Int} (hr : bg_rg A B) {J7} {i : Nat} (hi : i < 3)
    (HJ : ∀ b1, bg_pm (bg_AD A B (i + 1) 0) (bg_BD A B (i + 1) 0) b1 → J7 (nI (i + 1)) fr fc fm fo ft fl fn fp fq b1 a2 a3 a4 a5 a6 a7 a8 a9 a10) {a1 : Nat → Int32} (hp : bg_pm (bg_AD A B i 0) (bg_BD A B i 0) a1) :
    ∃ fu, wX_exchange_14 post J7 (nI i) fu 0 fr fc fm fo ft fl fn fp fq a1 a2 a3 a4 a5 a6 a7 a8 a9 a10 := by
  refine pk_loop (fun n j s => wX_exchange_14 post J7 (nI i) n (nI j) fr fc fm fo ft fl fn fp fq s a2 a3 a4 a5 a6 a7 a8 a9 a10) (fun j s => bg_pm (bg_AD A B i j) (bg_BD A B i j) s) 3 0 a1 (by omega) hp ?_ ?_
  · intro n s hI
    refine pk_le 3 3 (fun _ => nm_r (nI_1 i) (HJ s (bg_pm_c hI (fun a b ha hb => ?_) (fun a b ha hb => ?_)))) (fun z => absurd z (by omega))
    · unfold bg_AD
      have e : bg_dn2 (i + 1) 0 a b = bg_dn2 i 3 a b := by
        unfold bg_dn2
        apply decide_eq_decide.mpr
        omega
      rw [e]
    · unfold bg_BD
      have e : bg_dn2 (i + 1) 0 b a = bg_dn2 i 3 b a := by
        unfold bg_dn2
        apply decide_eq_decide.mpr
        omega
      rw [e]
  · intro n j s hj hI hw
    refine pk_le 3 j (fun z => absurd z (by omega)) (fun _ => ?_)
    refine pk_le i j (fun z => ?_) (fun z => nm_r (nI_1 j) (hw s (bg_pm_c hI (fun a b ha hb => ?_) (fun a b ha hb => ?_))))
    · -- the place i, j and the one across it
      have dn0 : bg_dn2 i j i j = false := by
        unfold bg_dn2
        apply decide_eq_false
        omega
      have eA : ∀ a b, a < 3 → b < 3 → (fun a b => if a = i ∧ b = j then B j i else bg_AD A B i j a b) a b = if a = i ∧ b = j then bg_BD A B i j j i else bg_AD A B i j a b := by
        intro a b _ _
        have : bg_BD A B i j j i = B j i := by
          unfold bg_BD
          rw [dn0, if_neg (by decide)]
        rw [this]
      have eB : ∀ a b, a < 3 → b < 3 → (fun a b => if a = j ∧ b = i then A i j else bg_BD A B i j a b) a b = if a = j ∧ b = i then bg_AD A B i j i j else bg_BD A B i j a b := by
        intro a b _ _
        have : bg_AD A B i j i j = A i j := by
          unfold bg_AD
          rw [dn0, if_neg (by decide)]
        rw [this]
      refine bg_exchangeAt hI (bg_AD_rg hr i j) hi hj eA eB (fun b1 hb1 => ?_)
      refine pk_eq i j (fun q => nm_r (nI_1 j) (hw b1 (bg_pm_c hb1 (fun a b ha hb => ?_) (fun a b ha hb => ?_)))) (fun q => ?_)
      · show bg_AD A B i (j + 1) a b = if a = i ∧ b = j then B j i else bg_AD A B i j a b
        unfold bg_AD
        by_cases w : a = i ∧ b = j
        · have e : bg_dn2 i (j + 1) a b = true := by
            unfold bg_dn2
            apply decide_eq_true
            omega
          rw [if_pos w, e, if_pos rfl, w.1, w.2]
        · have e : bg_dn2 i (j + 1) a b = bg_dn2 i j a b := by
            unfold bg_dn2
            apply decide_eq_decide.mpr
            omega
          rw [if_neg w, e]
      · show bg_BD A B i (j + 1) a b = if a = j ∧ b = i then A i j else bg_BD A B i j a b
        unfold bg_BD
        by_cases w : a = j ∧ b = i
        · have e : bg_dn2 i (j + 1) b a = true := by
            unfold bg_dn2
            apply decide_eq_true
            omega
          rw [if_pos w, e, if_pos rfl, w.1, w.2]
        · have e : bg_dn2 i (j + 1) b a = bg_dn2 i j b a := by
            unfold bg_dn2
            apply decide_eq_decide.mpr
            omega
          rw [if_neg w, e]
      · have hr1 : bg_rg (fun a b => if a = i ∧ b = j then B j i else bg_AD A B i j a b) (fun a b => if a = j ∧ b = i then A i j else bg_BD A B i j a b) := by
          intro s a b hs ha hb
          have h0 := bg_AD_rg hr i j s a b hs ha hb
          have h1 := hr 1 j i (by omega) hj hi
          have h2 := hr 0 i j (by omega) hi hj
          have e1 : bg_py A B 1 j i = B j i := rfl
          have e2 : bg_py A B 0 i j = A i j := rfl
          rw [e1] at h1
          rw [e2] at h2
          unfold bg_py at h0 ⊢
          by_cases z : s = 0
          · rw [if_pos z] at h0 ⊢
            dsimp only
            split <;> assumption
          · rw [if_neg z] at h0 ⊢
            dsimp only
            split <;> assumption
        have dn1 : bg_dn2 i j j i = false := by
          unfold bg_dn2
          apply decide_eq_false
          omega
        refine bg_exchangeAt (A' := bg_AD A B i (j + 1)) (B' := bg_BD A B i (j + 1)) hb1 hr1 hj hi (fun a b ha hb => ?_) (fun a b ha hb => ?_) (fun c1 hc1 => nm_r (nI_1 j) (hw c1 hc1))
        · show bg_AD A B i (j + 1) a b = if a = j ∧ b = i then (if i = j ∧ j = i then A i j else bg_BD A B i j i j) else (if a = i ∧ b = j then B j i else bg_AD A B i j a b)
          have e0 : bg_BD A B i j i j = B i j := by
            unfold bg_BD
            rw [dn1, if_neg (by decide)]
          rw [if_neg (c := i = j ∧ j = i) (fun h => q h.1), e0]
          unfold bg_AD
          by_cases w : a = j ∧ b = i
          · have e : bg_dn2 i (j + 1) a b = true := by
              unfold bg_dn2
              apply decide_eq_true
              omega
            rw [if_pos w, e, if_pos rfl, w.1, w.2]
          · rw [if_neg w]
            by_cases w2 : a = i ∧ b = j
            · have e : bg_dn2 i (j + 1) a b = true := by
                unfold bg_dn2
                apply decide_eq_true
                omega
              rw [if_pos w2, e, if_pos rfl, w2.1, w2.2]
            · have e : bg_dn2 i (j + 1) a b = bg_dn2 i j a b := by
                unfold bg_dn2
                apply decide_eq_decide.mpr
                omega
              rw [if_neg w2, e]
        · show bg_BD A B i (j + 1) a b = if a = i ∧ b = j then (if j = i ∧ i = j then B j i else bg_AD A B i j j i) else (if a = j ∧ b = i then A i j else bg_BD A B i j a b)
          have e0 : bg_AD A B i j j i = A j i := by
            unfold bg_AD
            rw [dn1, if_neg (by decide)]
          rw [if_neg (c := j = i ∧ i = j) (fun h => q h.2), e0]
          unfold bg_BD
          by_cases w : a = i ∧ b = j
          · have e : bg_dn2 i (j + 1) b a = true := by
              unfold bg_dn2
              apply decide_eq_true
              omega
            rw [if_pos w, e, if_pos rfl, w.1, w.2]
          · rw [if_neg w]
            by_cases w2 : a = j ∧ b = i
            · have e : bg_dn2 i (j + 1) b a = true := by
                unfold bg_dn2
                apply decide_eq_true
                omega
              rw [if_pos w2, e, if_pos rfl, w2.1, w2.2]
            · have e : bg_dn2 i (j + 1) b a = bg_dn2 i j b a := by
                unfold bg_dn2
                apply decide_eq_decide.mpr
                omega
              rw [if_neg w2, e]
    · unfold bg_AD
      have e : bg_dn2 i (j + 1) a b = bg_dn2 i j a b := by
        unfold bg_dn2
        apply decide_eq_decide.mpr
        omega
      rw [e]
    · unfold bg_BD
      have e : bg_dn2 i (j + 1) b a = bg_dn2 i j b a := by
        unfold bg_dn2
        apply decide_eq_decide.mpr
        omega
      rw [e]
theorem bg_exchange {R C : Nat} {A B : Nat → Nat → Int} (hg : bg_gm R C A B) {post : St1 → Prop} {u : St1} (hu : bg_G R C A B u) (H : ∀ v, bg_G0 C R (bg_tr B) (bg_tr A) v → post v) : wpX_exchange post u := by
  obtain ⟨fr, fc, fm, fo, ft, fl, fn, fp, fq, a1, a2, a3, a4, a5, a6, a7, a8, a9, a10⟩ := u
  obtain ⟨e1, e2, e3, e4⟩ := hu
  subst e1 e2
  unfold wpX_exchange
  refine pk_loop (fun n i s => wX_exchange_7 post n (nI i) (nI R) (nI C) fm fo ft 0 fn fp fq s a2 a3 a4 a5 a6 a7 a8 a9 a10) (fun i s => bg_pm (bg_AD A B i 0) (bg_BD A B i 0) s) 3 0 a1 (by omega) ?_ ?_ ?_
  · refine bg_pm_c e3 (fun a b _ _ => ?_) (fun a b _ _ => ?_)
    · unfold bg_AD
      have e : bg_dn2 0 0 a b = false := by
        unfold bg_dn2
        apply decide_eq_false
        omega
      rw [e, if_neg (by decide)]
    · unfold bg_BD
      have e : bg_dn2 0 0 b a = false := by
        unfold bg_dn2
        apply decide_eq_false
        omega
      rw [e, if_neg (by decide)]
  · intro n s hI
    refine pk_le 3 3 (fun _ => H _ ⟨rfl, rfl, bg_pm_c hI (fun a b ha hb => ?_) (fun a b ha hb => ?_), rfl⟩) (fun z => absurd z (by omega))
    · unfold bg_AD bg_tr
      have e : bg_dn2 3 0 a b = true := by
        unfold bg_dn2
        apply decide_eq_true
        omega
      rw [e, if_pos rfl]
    · unfold bg_BD bg_tr
      have e : bg_dn2 3 0 b a = true := by
        unfold bg_dn2
        apply decide_eq_true
        omega
      rw [e, if_pos rfl]
  · intro n i s hi hI hw
    exact pk_le 3 i (fun z => absurd z (by omega)) (fun _ => bg_exch14 hg.2.2 hi (fun b1 hb1 => hw b1 hb1) hI)
theorem bg_tr_ls (A B : Nat → Nat → Int) (own : Nat) : bg_ls (bg_tr B) (bg_tr A) 0 own = bg_ls A B 1 own ∧ bg_ls (bg_tr B) (bg_tr A) 1 own = bg_ls A B 0 own := by
  constructor
  · funext c o
    unfold bg_ls
    split <;> rfl
  · funext c o
    unfold bg_ls
    split <;> rfl
theorem bg_tr_len (R C : Nat) (A B : Nat → Nat → Int) : (bg_EE C R (bg_tr B) (bg_tr A)).length = (bg_EE R C A B).length := by
  have e1 : bg_X C R (bg_tr B) (bg_tr A) = bg_Y R C A B := by
    unfold bg_X bg_Y
    rw [(bg_tr_ls A B 0).1]
  have e2 : bg_Y C R (bg_tr B) (bg_tr A) = bg_X R C A B := by
    unfold bg_X bg_Y
    rw [(bg_tr_ls A B 0).2]
  unfold bg_EE
  rw [e1, e2]
  exact bg_E_sw _ _ _ _
theorem bg_tr_rep (A B : Nat → Nat → Int) (rs cs : Nat) : bg_rep (bg_tr B) (bg_tr A) rs cs 0 = bg_rep A B cs rs 1 ∧ bg_rep (bg_tr B) (bg_tr A) rs cs 1 = bg_rep A B cs rs 0 := by
  constructor
  · show (bg_orb (bg_cone (bg_ls (bg_tr B) (bg_tr A) 1 0) cs rs) >>> 3) &&& rs = (bg_orb (bg_cone (bg_ls A B 0 0) cs rs) >>> 3) &&& rs
    rw [(bg_tr_ls A B 0).2]
  · show (bg_orb (bg_cone (bg_ls (bg_tr B) (bg_tr A) 0 0) rs cs) >>> 3) &&& cs = (bg_orb (bg_cone (bg_ls A B 1 0) rs cs) >>> 3) &&& cs
    rw [(bg_tr_ls A B 0).1]
theorem bg_tr_lf (A B : Nat → Nat → Int) : ∀ (n : Nat) (p : Nat × Nat), bg_lf (bg_tr B) (bg_tr A) n (p.2, p.1) = ((bg_lf A B n p).2, (bg_lf A B n p).1) := by
  intro n
  induction n with
  | zero => intro p; rfl
  | succ n ih =>
    intro p
    show (if bg_rep (bg_tr B) (bg_tr A) p.2 p.1 0 = p.2 ∧ bg_rep (bg_tr B) (bg_tr A) p.2 p.1 1 = p.1 then (p.2, p.1) else bg_lf (bg_tr B) (bg_tr A) n (bg_rep (bg_tr B) (bg_tr A) p.2 p.1 0, bg_rep (bg_tr B) (bg_tr A) p.2 p.1 1)) =
      ((if bg_rep A B p.1 p.2 0 = p.1 ∧ bg_rep A B p.1 p.2 1 = p.2 then p else bg_lf A B n (bg_rep A B p.1 p.2 0, bg_rep A B p.1 p.2 1)).2, (if bg_rep A B p.1 p.2 0 = p.1 ∧ bg_rep A B p.1 p.2 1 = p.2 then p else bg_lf A B n (bg_rep A B p.1 p.2 0, bg_rep A B p.1 p.2 1)).1)
    rw [(bg_tr_rep A B p.2 p.1).1, (bg_tr_rep A B p.2 p.1).2]
    by_cases e : bg_rep A B p.1 p.2 0 = p.1 ∧ bg_rep A B p.1 p.2 1 = p.2
    · rw [if_pos e, if_pos ⟨e.2, e.1⟩]
    · rw [if_neg e, if_neg (fun h => e ⟨h.2, h.1⟩)]
      exact ih (bg_rep A B p.1 p.2 0, bg_rep A B p.1 p.2 1)
theorem bg_tr_left (R C : Nat) (A B : Nat → Nat → Int) : bg_left C R (bg_tr B) (bg_tr A) = ((bg_left R C A B).2, (bg_left R C A B).1) :=
  bg_tr_lf A B 14 (bg_m R, bg_m C)
end
end
section
section
theorem bg_mem_getD {R : List bg_Ray} {r : bg_Ray} (h : r ∈ R) : ∃ k, k < R.length ∧ R.getD k bg_d0 = r := by
  obtain ⟨k, hk, e⟩ := List.getElem_of_mem h
  refine ⟨k, hk, ?_⟩
  rw [List.getD_eq_getElem?_getD, List.getElem?_eq_getElem hk]
  exact e
theorem bg_memP_getD {E : List (Nat × Nat)} {q : Nat × Nat} (h : q ∈ E) : ∃ k, k < E.length ∧ E.getD k (0, 0) = q := by
  obtain ⟨k, hk, e⟩ := List.getElem_of_mem h
  refine ⟨k, hk, ?_⟩
  rw [List.getD_eq_getElem?_getD, List.getElem?_eq_getElem hk]
  exact e
/-- there is an equilibrium -/
theorem bg_EE_pos {R C : Nat} {A B : Nat → Nat → Int} (hg : bg_gm R C A B) : 0 < (bg_EE R C A B).length := by
  obtain ⟨x, hx, y, hy, hf⟩ := bg_cone_fit (bg_ls_lo hg.2.2 (side := 0) (own := 0) (by omega)) (bg_ls_lo hg.2.2 (side := 1) (own := 0) (by omega)) (bg_m_full hg.1 hg.2.1)
  obtain ⟨k, hk, ek⟩ := bg_mem_getD hx
  obtain ⟨l, hl, el⟩ := bg_mem_getD hy
  have : (k, l) ∈ bg_EE R C A B := bg_E_mem.mpr ⟨hk, hl, by
    show bg_fit ((bg_cone (bg_ls A B 0 0) (bg_m R) (bg_m C)).getD k bg_d0).2 ((bg_cone (bg_ls A B 1 0) (bg_m C) (bg_m R)).getD l bg_d0).2 (bg_m R) (bg_m C) = true
    rw [ek, el]
    exact hf⟩
  exact List.length_pos_of_mem this
theorem bg_tN {z : Int} (h : -9 ≤ z) : (((10 + z).toNat : Nat) : Int) = 10 + z := by omega
theorem bg_tM {z : Int} (h : z ≤ 9) : (((10 - z).toNat : Nat) : Int) = 10 - z := by omega
theorem bg_sl00 {A B : Nat → Nat → Int} (hr : bg_rg A B) {o : Nat} (ho : o < 3) (r : bg_Ray) : bg_slk (bg_ls A B 0 0) o r = (r.1 3 : Int) - ((r.1 0 : Int) * (10 + B 0 o) + (r.1 1 : Int) * (10 + B 1 o) + (r.1 2 : Int) * (10 + B 2 o)) := by
  have h0 : -9 ≤ B 0 o := (hr 1 0 o (by omega) (by omega) ho).1
  have h1 : -9 ≤ B 1 o := (hr 1 1 o (by omega) (by omega) ho).1
  have h2 : -9 ≤ B 2 o := (hr 1 2 o (by omega) (by omega) ho).1
  unfold bg_slk bg_dot
  rw [Int.natCast_add, Int.natCast_add, Int.natCast_mul, Int.natCast_mul, Int.natCast_mul]
  rw [show bg_ls A B 0 0 0 o = (10 + B 0 o).toNat from rfl, show bg_ls A B 0 0 1 o = (10 + B 1 o).toNat from rfl, show bg_ls A B 0 0 2 o = (10 + B 2 o).toNat from rfl, bg_tN h0, bg_tN h1, bg_tN h2]
theorem bg_sl10 {A B : Nat → Nat → Int} (hr : bg_rg A B) {o : Nat} (ho : o < 3) (r : bg_Ray) : bg_slk (bg_ls A B 1 0) o r = (r.1 3 : Int) - ((r.1 0 : Int) * (10 + A o 0) + (r.1 1 : Int) * (10 + A o 1) + (r.1 2 : Int) * (10 + A o 2)) := by
  have h0 : -9 ≤ A o 0 := (hr 0 o 0 (by omega) ho (by omega)).1
  have h1 : -9 ≤ A o 1 := (hr 0 o 1 (by omega) ho (by omega)).1
  have h2 : -9 ≤ A o 2 := (hr 0 o 2 (by omega) ho (by omega)).1
  unfold bg_slk bg_dot
  rw [Int.natCast_add, Int.natCast_add, Int.natCast_mul, Int.natCast_mul, Int.natCast_mul]
  rw [show bg_ls A B 1 0 0 o = (10 + A o 0).toNat from rfl, show bg_ls A B 1 0 1 o = (10 + A o 1).toNat from rfl, show bg_ls A B 1 0 2 o = (10 + A o 2).toNat from rfl, bg_tN h0, bg_tN h1, bg_tN h2]
theorem bg_sl01 {A B : Nat → Nat → Int} (hr : bg_rg A B) {o : Nat} (ho : o < 3) (r : bg_Ray) : bg_slk (bg_ls A B 0 1) o r = (r.1 3 : Int) - ((r.1 0 : Int) * (10 - A 0 o) + (r.1 1 : Int) * (10 - A 1 o) + (r.1 2 : Int) * (10 - A 2 o)) := by
  have h0 : A 0 o ≤ 9 := (hr 0 0 o (by omega) (by omega) ho).2
  have h1 : A 1 o ≤ 9 := (hr 0 1 o (by omega) (by omega) ho).2
  have h2 : A 2 o ≤ 9 := (hr 0 2 o (by omega) (by omega) ho).2
  unfold bg_slk bg_dot
  rw [Int.natCast_add, Int.natCast_add, Int.natCast_mul, Int.natCast_mul, Int.natCast_mul]
  rw [show bg_ls A B 0 1 0 o = (10 - A 0 o).toNat from rfl, show bg_ls A B 0 1 1 o = (10 - A 1 o).toNat from rfl, show bg_ls A B 0 1 2 o = (10 - A 2 o).toNat from rfl, bg_tM h0, bg_tM h1, bg_tM h2]
theorem bg_sl11 {A B : Nat → Nat → Int} (hr : bg_rg A B) {o : Nat} (ho : o < 3) (r : bg_Ray) : bg_slk (bg_ls A B 1 1) o r = (r.1 3 : Int) - ((r.1 0 : Int) * (10 - B o 0) + (r.1 1 : Int) * (10 - B o 1) + (r.1 2 : Int) * (10 - B o 2)) := by
  have h0 : B o 0 ≤ 9 := (hr 1 o 0 (by omega) ho (by omega)).2
  have h1 : B o 1 ≤ 9 := (hr 1 o 1 (by omega) ho (by omega)).2
  have h2 : B o 2 ≤ 9 := (hr 1 o 2 (by omega) ho (by omega)).2
  unfold bg_slk bg_dot
  rw [Int.natCast_add, Int.natCast_add, Int.natCast_mul, Int.natCast_mul, Int.natCast_mul]
  rw [show bg_ls A B 1 1 0 o = (10 - B o 0).toNat from rfl, show bg_ls A B 1 1 1 o = (10 - B o 1).toNat from rfl, show bg_ls A B 1 1 2 o = (10 - B o 2).toNat from rfl, bg_tM h0, bg_tM h1, bg_tM h2]
theorem bg_out {l : Nat → Nat → Nat} {R sf : Nat} (hR : 1 ≤ R ∧ R ≤ 3) {r : bg_Ray} (V : bg_V l (bg_m R) sf r) {i : Nat} (hi : i < 3) (h : R ≤ i) : r.1 i = 0 := by
  apply V.1 i hi
  have t := (bg_m_all R (by omega) (by omega)).2.2.2.2 i hi
  cases q : (bg_m R).testBit i with
  | false => rfl
  | true => exact absurd (t.mp q) (by omega)
theorem bg_bitm {R i : Nat} (hR : 1 ≤ R ∧ R ≤ 3) (hi : i < 3) (h : i < R) : (bg_m R).testBit i = true := ((bg_m_all R (by omega) (by omega)).2.2.2.2 i hi).mpr h
theorem bg_gT9 {R C : Nat} {A B : Nat → Nat → Int} (hR : 1 ≤ R ∧ R ≤ 3) (hC : 1 ≤ C ∧ C ≤ 3) {s : Nat} {x y : bg_Ray} (hx : ∀ i, i < 3 → R ≤ i → x.1 i = 0) (hy : ∀ i, i < 3 → C ≤ i → y.1 i = 0) :
    bg_gT R C A B s x y = (x.1 0 : Int) * y.1 0 * bg_py A B s 0 0 + (x.1 0 : Int) * y.1 1 * bg_py A B s 0 1 + (x.1 0 : Int) * y.1 2 * bg_py A B s 0 2 + (x.1 1 : Int) * y.1 0 * bg_py A B s 1 0 + (x.1 1 : Int) * y.1 1 * bg_py A B s 1 1 + (x.1 1 : Int) * y.1 2 * bg_py A B s 1 2 + (x.1 2 : Int) * y.1 0 * bg_py A B s 2 0 + (x.1 2 : Int) * y.1 1 * bg_py A B s 2 1 + (x.1 2 : Int) * y.1 2 * bg_py A B s 2 2 := by
  unfold bg_gT
  have hC' : C = 1 ∨ C = 2 ∨ C = 3 := by omega
  have inner : ∀ i, bg_rs (fun j => ((x.1 i : Int) * (y.1 j : Int)) * bg_py A B s i j) C = (x.1 i : Int) * y.1 0 * bg_py A B s i 0 + (x.1 i : Int) * y.1 1 * bg_py A B s i 1 + (x.1 i : Int) * y.1 2 * bg_py A B s i 2 := by
    intro i
    rcases hC' with e | e | e
    · subst e
      have z1 := hy 1 (by omega) (by omega)
      have z2 := hy 2 (by omega) (by omega)
      simp [bg_rs, z1, z2]
    · subst e
      have z2 := hy 2 (by omega) (by omega)
      simp [bg_rs, z2]
    · subst e
      simp [bg_rs]
  have e : (fun i => bg_rs (fun j => ((x.1 i : Int) * (y.1 j : Int)) * bg_py A B s i j) C) = fun i => (x.1 i : Int) * y.1 0 * bg_py A B s i 0 + (x.1 i : Int) * y.1 1 * bg_py A B s i 1 + (x.1 i : Int) * y.1 2 * bg_py A B s i 2 := funext inner
  rw [e]
  have hR' : R = 1 ∨ R = 2 ∨ R = 3 := by omega
  rcases hR' with e | e | e
  · subst e
    have z1 := hx 1 (by omega) (by omega)
    have z2 := hx 2 (by omega) (by omega)
    simp [bg_rs, z1, z2]
  · subst e
    have z2 := hx 2 (by omega) (by omega)
    simp [bg_rs, z2, Int.add_assoc]
  · subst e
    simp [bg_rs, Int.add_assoc]
/-- a choice that is played is tight on the other side's mix -/
theorem bg_play {lx ly : Nat → Nat → Nat} {R C : Nat} {x y : bg_Ray} (Vx : bg_V lx (bg_m R) (bg_m C) x) (Vy : bg_V ly (bg_m C) (bg_m R) y) (hf : bg_fit x.2 y.2 (bg_m R) (bg_m C) = true) {i : Nat} (hi : i < 3) :
    x.1 i = 0 ∨ bg_slk ly i y = 0 := by
  by_cases z : x.1 i = 0
  · exact Or.inl z
  · right
    have ho : (bg_m R).testBit i = true := by
      cases e : (bg_m R).testBit i with
      | true => rfl
      | false => exact absurd (Vx.1 i hi e) z
    have hx : x.2.testBit i = false := by
      cases e : x.2.testBit i with
      | false => rfl
      | true => exact absurd ((Vx.2.1 i hi).mp e).2 z
    exact ((Vy.2.2.2.1 i hi).mp (bg_fit_tight hf ho hx)).2
theorem bg_nonneg_or {l : Nat → Nat → Nat} {R C : Nat} (hR : 1 ≤ R ∧ R ≤ 3) {ly : Nat → Nat → Nat} {z y : bg_Ray} {sf : Nat} (Vz : bg_V l (bg_m R) sf z) (Vy : bg_V ly (bg_m C) (bg_m R) y) {i : Nat} (hi : i < 3) : 0 ≤ (z.1 i : Int) * bg_slk ly i y := by
  rcases Nat.lt_or_ge i R with h | h
  · exact Int.mul_nonneg (by omega) (Vy.2.2.1 i hi (bg_bitm hR hi h))
  · rw [bg_out hR Vz hi h]
    simp
theorem bg_zero_or {n : Nat} {t : Int} (h : n = 0 ∨ t = 0) : (n : Int) * t = 0 := by
  rcases h with h | h
  · rw [h]; simp
  · rw [h]; simp
theorem bg_dual0 {R C : Nat} {A B : Nat → Nat → Int} (hg : bg_gm R C A B) {k : Nat} (hk : k < (bg_EE R C A B).length) :
    bg_sT R C A B 0 * ((bg_S (bg_edge R C A B k 0) * bg_S (bg_edge R C A B k 1) : Nat) : Int) ≤ bg_gT R C A B 0 (bg_edge R C A B k 0) (bg_edge R C A B k 1) * (bg_S (bg_zb R C A B 0) : Int) := by
  have hf := (bg_EE_at hk).2.2
  have Vx := (bg_edge_V hg (side := 0) (by omega) hk).1
  have Vy := (bg_edge_V hg (side := 1) (by omega) hk).1
  have Vz := (bg_zb_V hg (side := 0) (by omega)).1
  unfold bg_sT
  generalize bg_edge R C A B k 0 = x at *
  generalize bg_edge R C A B k 1 = y at *
  generalize bg_zb R C A B 0 = z at *
  have hR := hg.1
  have hC := hg.2.1
  have hr := hg.2.2
  have cx : bg_cho R C 0 = R := rfl
  have cy : bg_cho R C (1 - 0) = C := rfl
  have cz : bg_cho R C 1 = C := rfl
  have cw : bg_cho R C (1 - 1) = R := rfl
  rw [cx, cy] at Vx Vz
  rw [cz, cw] at Vy
  rw [bg_gT9 hR hC (fun i hi h => bg_out hR Vx hi h) (fun i hi h => bg_out hC Vy hi h)]
  have d := bg_dual (x.1 0) (x.1 1) (x.1 2) (y.1 0) (y.1 1) (y.1 2) (z.1 0) (z.1 1) (z.1 2) (y.1 3) (z.1 3) (A 0 0) (A 0 1) (A 0 2) (A 1 0) (A 1 1) (A 1 2) (A 2 0) (A 2 1) (A 2 2) (by omega)
    (by rw [← bg_sl10 hr (by omega) y]; exact bg_zero_or (bg_play Vx Vy hf (by omega)))
    (by rw [← bg_sl10 hr (by omega) y]; exact bg_zero_or (bg_play Vx Vy hf (by omega)))
    (by rw [← bg_sl10 hr (by omega) y]; exact bg_zero_or (bg_play Vx Vy hf (by omega)))
    (by rw [← bg_sl10 hr (by omega) y]; exact bg_nonneg_or hR Vz Vy (by omega))
    (by rw [← bg_sl10 hr (by omega) y]; exact bg_nonneg_or hR Vz Vy (by omega))
    (by rw [← bg_sl10 hr (by omega) y]; exact bg_nonneg_or hR Vz Vy (by omega))
    (by rw [← bg_sl01 hr (by omega) z]; exact bg_nonneg_or hC Vy Vz (by omega))
    (by rw [← bg_sl01 hr (by omega) z]; exact bg_nonneg_or hC Vy Vz (by omega))
    (by rw [← bg_sl01 hr (by omega) z]; exact bg_nonneg_or hC Vy Vz (by omega))
  unfold bg_S
  rw [Int.natCast_mul]
  simp only [Int.natCast_add]
  exact d
theorem bg_dual1 {R C : Nat} {A B : Nat → Nat → Int} (hg : bg_gm R C A B) {k : Nat} (hk : k < (bg_EE R C A B).length) :
    bg_sT R C A B 1 * ((bg_S (bg_edge R C A B k 0) * bg_S (bg_edge R C A B k 1) : Nat) : Int) ≤ bg_gT R C A B 1 (bg_edge R C A B k 0) (bg_edge R C A B k 1) * (bg_S (bg_zb R C A B 1) : Int) := by
  have hf := (bg_EE_at hk).2.2
  have Vx := (bg_edge_V hg (side := 0) (by omega) hk).1
  have Vy := (bg_edge_V hg (side := 1) (by omega) hk).1
  have Vz := (bg_zb_V hg (side := 1) (by omega)).1
  unfold bg_sT
  generalize bg_edge R C A B k 0 = x at *
  generalize bg_edge R C A B k 1 = y at *
  generalize bg_zb R C A B 1 = z at *
  have hR := hg.1
  have hC := hg.2.1
  have hr := hg.2.2
  have cx : bg_cho R C 0 = R := rfl
  have cy : bg_cho R C (1 - 0) = C := rfl
  have cz : bg_cho R C 1 = C := rfl
  have cw : bg_cho R C (1 - 1) = R := rfl
  rw [cx, cy] at Vx
  rw [cz, cw] at Vy Vz
  rw [bg_gT9 hR hC (fun i hi h => bg_out hR Vx hi h) (fun i hi h => bg_out hC Vy hi h)]
  rw [bg_fit_sw] at hf
  have d := bg_dual (y.1 0) (y.1 1) (y.1 2) (x.1 0) (x.1 1) (x.1 2) (z.1 0) (z.1 1) (z.1 2) (x.1 3) (z.1 3) (B 0 0) (B 1 0) (B 2 0) (B 0 1) (B 1 1) (B 2 1) (B 0 2) (B 1 2) (B 2 2) (by omega)
    (by rw [← bg_sl00 hr (by omega) x]; exact bg_zero_or (bg_play Vy Vx hf (by omega)))
    (by rw [← bg_sl00 hr (by omega) x]; exact bg_zero_or (bg_play Vy Vx hf (by omega)))
    (by rw [← bg_sl00 hr (by omega) x]; exact bg_zero_or (bg_play Vy Vx hf (by omega)))
    (by rw [← bg_sl00 hr (by omega) x]; exact bg_nonneg_or hC Vz Vx (by omega))
    (by rw [← bg_sl00 hr (by omega) x]; exact bg_nonneg_or hC Vz Vx (by omega))
    (by rw [← bg_sl00 hr (by omega) x]; exact bg_nonneg_or hC Vz Vx (by omega))
    (by rw [← bg_sl11 hr (by omega) z]; exact bg_nonneg_or hR Vx Vz (by omega))
    (by rw [← bg_sl11 hr (by omega) z]; exact bg_nonneg_or hR Vx Vz (by omega))
    (by rw [← bg_sl11 hr (by omega) z]; exact bg_nonneg_or hR Vx Vz (by omega))
  unfold bg_S
  rw [Int.natCast_mul]
  simp only [Int.natCast_add]
  have p : ∀ i j, bg_py A B 1 i j = B i j := fun i j => rfl
  simp only [p]
  have e1 : ((x.1 0 : Int) + x.1 1 + x.1 2) * ((y.1 0 : Int) + y.1 1 + y.1 2) = ((y.1 0 : Int) + y.1 1 + y.1 2) * ((x.1 0 : Int) + x.1 1 + x.1 2) := Int.mul_comm _ _
  have e2 : (x.1 0 : Int) * y.1 0 * B 0 0 + (x.1 0 : Int) * y.1 1 * B 0 1 + (x.1 0 : Int) * y.1 2 * B 0 2 + (x.1 1 : Int) * y.1 0 * B 1 0 + (x.1 1 : Int) * y.1 1 * B 1 1 + (x.1 1 : Int) * y.1 2 * B 1 2 + (x.1 2 : Int) * y.1 0 * B 2 0 + (x.1 2 : Int) * y.1 1 * B 2 1 + (x.1 2 : Int) * y.1 2 * B 2 2 =
      (y.1 0 : Int) * x.1 0 * B 0 0 + (y.1 0 : Int) * x.1 1 * B 1 0 + (y.1 0 : Int) * x.1 2 * B 2 0 + (y.1 1 : Int) * x.1 0 * B 0 1 + (y.1 1 : Int) * x.1 1 * B 1 1 + (y.1 1 : Int) * x.1 2 * B 2 1 + (y.1 2 : Int) * x.1 0 * B 0 2 + (y.1 2 : Int) * x.1 1 * B 1 2 + (y.1 2 : Int) * x.1 2 * B 2 2 := by grind
  rw [e1, e2]
  exact d
theorem bg_div_mul {z : Int} {b : Nat} (hb : 0 < b) : z / ((bg_q z b : Nat) : Int) * ((bg_q z b : Nat) : Int) = z ∧ b / bg_q z b * bg_q z b = b :=
  ⟨Int.ediv_mul_cancel (bg_q_dvd z b), Nat.div_mul_cancel (Nat.gcd_dvd_right _ _)⟩
theorem bg_red {s g : Int} {a b : Nat} (ha : 0 < a) (hb : 0 < b) (h : s * (a : Int) ≤ g * (b : Int)) :
    s / ((bg_q s b : Nat) : Int) * ((a / bg_q g a : Nat) : Int) ≤ g / ((bg_q g a : Nat) : Int) * ((b / bg_q s b : Nat) : Int) := by
  have h1 := bg_div_mul (z := s) hb
  have h2 := bg_div_mul (z := g) ha
  have p1 := bg_q_pos (z := s) hb
  have p2 := bg_q_pos (z := g) ha
  generalize s / ((bg_q s b : Nat) : Int) = s' at h1 ⊢
  generalize g / ((bg_q g a : Nat) : Int) = g' at h2 ⊢
  generalize a / bg_q g a = a' at h2 ⊢
  generalize b / bg_q s b = b' at h1 ⊢
  generalize bg_q s b = q at h1 p1
  generalize bg_q g a = t at h2 p2
  rw [← h1.1, ← h1.2, ← h2.1, ← h2.2] at h
  rw [Int.natCast_mul, Int.natCast_mul] at h
  have e1 : s' * (q : Int) * ((a' : Int) * (t : Int)) = ((q : Int) * (t : Int)) * (s' * (a' : Int)) := by grind
  have e2 : g' * (t : Int) * ((b' : Int) * (q : Int)) = ((q : Int) * (t : Int)) * (g' * (b' : Int)) := by grind
  rw [e1, e2] at h
  exact Int.le_of_mul_le_mul_left h (Int.mul_pos (by omega) (by omega))
theorem bg_duality {R C : Nat} {A B : Nat → Nat → Int} (hg : bg_gm R C A B) {k s : Nat} (hk : k < (bg_EE R C A B).length) (hs : s < 2) :
    bg_suT R C A B s * (bg_gtB R C A B k s : Int) ≤ bg_gtT R C A B k s * (bg_suB R C A B s : Int) := by
  have Sx := (bg_edge_V hg (side := 0) (by omega) hk).2.1
  have Sy := (bg_edge_V hg (side := 1) (by omega) hk).2.1
  have Sz := (bg_zb_V hg hs).2.1
  unfold bg_suT bg_suB bg_gtT bg_gtB
  refine bg_red (Nat.mul_pos Sx Sy) Sz ?_
  have hs' : s = 0 ∨ s = 1 := by omega
  rcases hs' with e | e
  · subst e; exact bg_dual0 hg hk
  · subst e; exact bg_dual1 hg hk
theorem bg_quot_b {z : Int} {g : Nat} (hg : 0 < g) (hd : (g : Int) ∣ z) {M : Int} (h1 : -M ≤ z) (h2 : z ≤ M) : -M ≤ z / (g : Int) ∧ z / (g : Int) ≤ M := by
  have e := Int.ediv_mul_cancel hd
  generalize z / (g : Int) = q at e ⊢
  have hg' : (1 : Int) ≤ (g : Int) := by omega
  rcases Int.lt_or_le q 0 with c | c
  · have := Int.mul_le_mul_of_nonneg_left hg' (show 0 ≤ -q by omega)
    have e2 : -q * (g : Int) = -(q * (g : Int)) := Int.neg_mul _ _
    rw [e2, e] at this
    omega
  · have := Int.mul_le_mul_of_nonneg_left hg' c
    rw [e] at this
    omega
theorem bg_val_b {R C : Nat} {A B : Nat → Nat → Int} (hg : bg_gm R C A B) {k s : Nat} (hk : k < (bg_EE R C A B).length) (hs : s < 2) :
    (-136048896 ≤ bg_gtT R C A B k s ∧ bg_gtT R C A B k s ≤ 136048896) ∧ bg_gtB R C A B k s ≤ 15116544 ∧ (-136048896 ≤ bg_suT R C A B s ∧ bg_suT R C A B s ≤ 136048896) ∧ bg_suB R C A B s ≤ 15116544 := by
  have X := bg_edge_V hg (side := 0) (by omega) hk
  have Y := bg_edge_V hg (side := 1) (by omega) hk
  have Z := bg_zb_V hg hs
  have hxy : bg_S (bg_edge R C A B k 0) * bg_S (bg_edge R C A B k 1) ≤ 3888 * 3888 := Nat.mul_le_mul (bg_S_b X.2.2) (bg_S_b Y.2.2)
  have hxy0 : 0 < bg_S (bg_edge R C A B k 0) * bg_S (bg_edge R C A B k 1) := Nat.mul_pos X.2.1 Y.2.1
  have hz := bg_S_b Z.2.2
  have hv := (bg_ray_b (bg_ls_lo hg.2.2 hs) Z.1 Z.2.2).1 3 (by omega)
  have gt := bg_gT_b hg hs X.2.2 Y.2.2
  refine ⟨bg_quot_b (bg_q_pos hxy0) (bg_q_dvd _ _) gt.1 gt.2, Nat.le_trans (Nat.div_le_self _ _) hxy, bg_quot_b (bg_q_pos Z.2.1) (bg_q_dvd _ _) ?_ ?_, Nat.le_trans (Nat.div_le_self _ _) (by omega)⟩
  · unfold bg_sT
    omega
  · unfold bg_sT
    omega
end
end
section
section
def bg_ui (r : bg_Ray) : Nat := r.1 1 / bg_g3 r.1 + 2 * (r.1 2 / bg_g3 r.1)
def bg_un (r : bg_Ray) : Prop := bg_S r / bg_g3 r.1 = 1
theorem bg_unit_c {r : bg_Ray} (hS : 0 < bg_S r) (hb : ∀ c, c < 3 → r.1 c ≤ 1296) (h : bg_un r) : ∃ c, c < 3 ∧ 0 < r.1 c ∧ (∀ d, d < 3 → d ≠ c → r.1 d = 0) ∧ bg_ui r = c := by
  obtain ⟨gp, _, gd⟩ := bg_g3_pos hS hb
  obtain ⟨m0, e0⟩ := gd 0 (by omega)
  obtain ⟨m1, e1⟩ := gd 1 (by omega)
  obtain ⟨m2, e2⟩ := gd 2 (by omega)
  unfold bg_un bg_S at h
  unfold bg_ui
  generalize bg_g3 r.1 = g at *
  have q1 : r.1 1 / g = m1 := by rw [e1]; exact Nat.mul_div_cancel_left m1 gp
  have q2 : r.1 2 / g = m2 := by rw [e2]; exact Nat.mul_div_cancel_left m2 gp
  have qs : m0 + m1 + m2 = 1 := by
    rw [e0, e1, e2, ← Nat.mul_add, ← Nat.mul_add, Nat.mul_div_cancel_left _ gp] at h
    exact h
  rw [q1, q2]
  have hc : (m0 = 1 ∧ m1 = 0 ∧ m2 = 0) ∨ (m0 = 0 ∧ m1 = 1 ∧ m2 = 0) ∨ (m0 = 0 ∧ m1 = 0 ∧ m2 = 1) := by omega
  rcases hc with ⟨a, b, c⟩ | ⟨a, b, c⟩ | ⟨a, b, c⟩
  · rw [a, Nat.mul_one] at e0
    rw [b, Nat.mul_zero] at e1
    rw [c, Nat.mul_zero] at e2
    refine ⟨0, by omega, by omega, fun d hd hn => ?_, by omega⟩
    match d, hd with
    | 0, _ => exact absurd rfl hn
    | 1, _ => exact e1
    | 2, _ => exact e2
  · rw [a, Nat.mul_zero] at e0
    rw [b, Nat.mul_one] at e1
    rw [c, Nat.mul_zero] at e2
    refine ⟨1, by omega, by omega, fun d hd hn => ?_, by omega⟩
    match d, hd with
    | 0, _ => exact e0
    | 1, _ => exact absurd rfl hn
    | 2, _ => exact e2
  · rw [a, Nat.mul_zero] at e0
    rw [b, Nat.mul_zero] at e1
    rw [c, Nat.mul_one] at e2
    refine ⟨2, by omega, by omega, fun d hd hn => ?_, by omega⟩
    match d, hd with
    | 0, _ => exact e0
    | 1, _ => exact e1
    | 2, _ => exact absurd rfl hn
theorem bg_only {y : Nat → Nat} {j : Nat} (hj : j < 3) (hz : ∀ d, d < 3 → d ≠ j → y d = 0) (f : Nat → Int) : (y 0 : Int) * f 0 + (y 1 : Int) * f 1 + (y 2 : Int) * f 2 = (y j : Int) * f j := by
  match j, hj with
  | 0, _ =>
    rw [hz 1 (by omega) (by omega), hz 2 (by omega) (by omega)]
    simp
  | 1, _ =>
    rw [hz 0 (by omega) (by omega), hz 2 (by omega) (by omega)]
    simp
  | 2, _ =>
    rw [hz 0 (by omega) (by omega), hz 1 (by omega) (by omega)]
    simp
theorem bg_s10 {A B : Nat → Nat → Int} (hr : bg_rg A B) {o j : Nat} (ho : o < 3) (hj : j < 3) {y : bg_Ray} (hz : ∀ d, d < 3 → d ≠ j → y.1 d = 0) : bg_slk (bg_ls A B 1 0) o y = (y.1 3 : Int) - (y.1 j : Int) * (10 + A o j) := by
  rw [bg_sl10 hr ho y, bg_only hj hz (fun c => 10 + A o c)]
theorem bg_s00 {A B : Nat → Nat → Int} (hr : bg_rg A B) {o j : Nat} (ho : o < 3) (hj : j < 3) {y : bg_Ray} (hz : ∀ d, d < 3 → d ≠ j → y.1 d = 0) : bg_slk (bg_ls A B 0 0) o y = (y.1 3 : Int) - (y.1 j : Int) * (10 + B j o) := by
  rw [bg_sl00 hr ho y, bg_only hj hz (fun c => 10 + B c o)]
theorem bg_le_c {v a b : Int} {y : Nat} (hy : 0 < y) (h1 : v - (y : Int) * (10 + a) = 0) (h2 : 0 ≤ v - (y : Int) * (10 + b)) : b ≤ a := by
  have h : (y : Int) * (10 + b) ≤ (y : Int) * (10 + a) := by omega
  have := Int.le_of_mul_le_mul_left h (by omega)
  omega
theorem bg_T4f {R C : Nat} {A B : Nat → Nat → Int} (hg : bg_gm R C A B) {k : Nat} (hk : k < (bg_EE R C A B).length) (hx : bg_un (bg_edge R C A B k 0)) (hy : bg_un (bg_edge R C A B k 1)) :
    bg_ui (bg_edge R C A B k 0) < R ∧ bg_ui (bg_edge R C A B k 1) < C ∧ bg_nash R C A B (bg_ui (bg_edge R C A B k 0)) (bg_ui (bg_edge R C A B k 1)) := by
  have hf := (bg_EE_at hk).2.2
  obtain ⟨Vx, Sx, bx⟩ := bg_edge_V hg (side := 0) (by omega) hk
  obtain ⟨Vy, Sy, bb⟩ := bg_edge_V hg (side := 1) (by omega) hk
  generalize bg_edge R C A B k 0 = x at *
  generalize bg_edge R C A B k 1 = y at *
  have hR := hg.1
  have hC := hg.2.1
  have hr := hg.2.2
  have cx : bg_cho R C 0 = R := rfl
  have cy : bg_cho R C (1 - 0) = C := rfl
  have cz : bg_cho R C 1 = C := rfl
  have cw : bg_cho R C (1 - 1) = R := rfl
  rw [cx, cy] at Vx
  rw [cz, cw] at Vy
  obtain ⟨i, hi, xi, xz, ei⟩ := bg_unit_c Sx bx hx
  obtain ⟨j, hj, yj, yz, ej⟩ := bg_unit_c Sy bb hy
  rw [ei, ej]
  have iR : i < R := by
    rcases Nat.lt_or_ge i R with z | z
    · exact z
    · have := bg_out hR Vx hi z
      omega
  have jC : j < C := by
    rcases Nat.lt_or_ge j C with z | z
    · exact z
    · have := bg_out hC Vy hj z
      omega
  refine ⟨iR, jC, fun a ha => ?_, fun b hb => ?_⟩
  · have t : bg_slk (bg_ls A B 1 0) i y = 0 := by
      rcases bg_play Vx Vy hf hi with z | z
      · omega
      · exact z
    have n : 0 ≤ bg_slk (bg_ls A B 1 0) a y := Vy.2.2.1 a (by omega) (bg_bitm hR (by omega) ha)
    rw [bg_s10 hr hi hj yz] at t
    rw [bg_s10 hr (by omega) hj yz] at n
    exact bg_le_c yj t n
  · rw [bg_fit_sw] at hf
    have t : bg_slk (bg_ls A B 0 0) j x = 0 := by
      rcases bg_play Vy Vx hf hj with z | z
      · omega
      · exact z
    have n : 0 ≤ bg_slk (bg_ls A B 0 0) b x := Vx.2.2.1 b (by omega) (bg_bitm hC (by omega) hb)
    rw [bg_s00 hr hj hi xz] at t
    rw [bg_s00 hr (by omega) hi xz] at n
    exact bg_le_c xi t n
theorem bg_fit_mk {x y R C : Nat} (hR : R < 8) (hC : C < 8) (h1 : ∀ a, a < 3 → R.testBit a = true → x.testBit a = true ∨ y.testBit (3 + a) = true) (h2 : ∀ a, a < 3 → C.testBit a = true → y.testBit a = true ∨ x.testBit (3 + a) = true) : bg_fit x y R C = true := by
  have key : ∀ (x y R : Nat), R < 8 → (∀ a, a < 3 → R.testBit a = true → x.testBit a = true ∨ y.testBit (3 + a) = true) → (x ||| (y >>> 3)) &&& R = R := by
    intro x y R hR h
    apply Nat.eq_of_testBit_eq
    intro a
    rw [Nat.testBit_and, Nat.testBit_or, Nat.testBit_shiftRight]
    cases hb : R.testBit a with
    | false => simp
    | true =>
      have ha : a < 3 := by
        rcases Nat.lt_or_ge a 3 with z | z
        · exact z
        · rw [bg_own3 hR z] at hb
          exact absurd hb (by decide)
      rcases h a ha hb with q | q
      · rw [q]; simp
      · rw [q]; simp
  unfold bg_fit
  rw [key x y R hR h1, key y x C hC h2]
  simp
theorem bg_un_of {r : bg_Ray} {c : Nat} (hc : c < 3) (h1 : r.1 c = 1) (hz : ∀ d, d < 3 → d ≠ c → r.1 d = 0) : bg_un r ∧ bg_ui r = c := by
  have hS : bg_S r = 1 := by
    unfold bg_S
    match c, hc with
    | 0, _ => rw [h1, hz 1 (by omega) (by omega), hz 2 (by omega) (by omega)]
    | 1, _ => rw [h1, hz 0 (by omega) (by omega), hz 2 (by omega) (by omega)]
    | 2, _ => rw [h1, hz 0 (by omega) (by omega), hz 1 (by omega) (by omega)]
  have hg : bg_g3 r.1 = 1 := by
    unfold bg_g3
    match c, hc with
    | 0, _ => rw [h1, hz 1 (by omega) (by omega), hz 2 (by omega) (by omega)]; rfl
    | 1, _ => rw [h1, hz 0 (by omega) (by omega), hz 2 (by omega) (by omega)]; rfl
    | 2, _ => rw [h1, hz 0 (by omega) (by omega), hz 1 (by omega) (by omega)]; rfl
  constructor
  · unfold bg_un
    rw [hS, hg]
  · unfold bg_ui
    rw [hg]
    match c, hc with
    | 0, _ => rw [hz 1 (by omega) (by omega), hz 2 (by omega) (by omega)]
    | 1, _ => rw [h1, hz 2 (by omega) (by omega)]
    | 2, _ => rw [h1, hz 1 (by omega) (by omega)]
theorem bg_T4b {R C : Nat} {A B : Nat → Nat → Int} (hg : bg_gm R C A B) {i j : Nat} (iR : i < R) (jC : j < C) (hn : bg_nash R C A B i j) :
    ∃ k, k < (bg_EE R C A B).length ∧ bg_un (bg_edge R C A B k 0) ∧ bg_un (bg_edge R C A B k 1) ∧ bg_ui (bg_edge R C A B k 0) = i ∧ bg_ui (bg_edge R C A B k 1) = j := by
  have hR := hg.1
  have hC := hg.2.1
  have hr := hg.2.2
  have r := bg_m_all R (by omega) (by omega)
  have c := bg_m_all C (by omega) (by omega)
  have lx : bg_lo (bg_ls A B 0 0) := bg_ls_lo hr (by omega)
  have ly : bg_lo (bg_ls A B 1 0) := bg_ls_lo hr (by omega)
  obtain ⟨x, mx, xi, xz⟩ := bg_cone_unit lx r.2.1 r.2.2.1 c.2.1 c.2.2.1 (show i < 3 by omega) (bg_bitm hR (by omega) iR)
  obtain ⟨y, my, yj, yz⟩ := bg_cone_unit ly c.2.1 c.2.2.1 r.2.1 r.2.2.1 (show j < 3 by omega) (bg_bitm hC (by omega) jC)
  obtain ⟨Vx, Sx, _⟩ := bg_cone_V lx r.2.1 r.2.2.1 c.2.1 c.2.2.1 x mx
  obtain ⟨Vy, Sy, _⟩ := bg_cone_V ly c.2.1 c.2.2.1 r.2.1 r.2.2.1 y my
  have ty : bg_slk (bg_ls A B 1 0) i y = 0 := by
    rcases Vy.2.2.2.2.2.1 with h | ⟨o, ho, hb, hz⟩
    · exfalso
      have := h j (by omega)
      omega
    · have oR := (r.2.2.2.2 o ho).mp hb
      have n := Vy.2.2.1 i (by omega) (bg_bitm hR (by omega) iR)
      have le := hn.1 o oR
      rw [bg_s10 hr ho (by omega) yz, yj] at hz
      rw [bg_s10 hr (by omega) (by omega) yz, yj] at n ⊢
      omega
  have tx : bg_slk (bg_ls A B 0 0) j x = 0 := by
    rcases Vx.2.2.2.2.2.1 with h | ⟨o, ho, hb, hz⟩
    · exfalso
      have := h i (by omega)
      omega
    · have oC := (c.2.2.2.2 o ho).mp hb
      have n := Vx.2.2.1 j (by omega) (bg_bitm hC (by omega) jC)
      have le := hn.2 o oC
      rw [bg_s00 hr ho (by omega) xz, xi] at hz
      rw [bg_s00 hr (by omega) (by omega) xz, xi] at n ⊢
      omega
  have hf : bg_fit x.2 y.2 (bg_m R) (bg_m C) = true := by
    refine bg_fit_mk r.2.2.1 c.2.2.1 (fun a ha hb => ?_) (fun a ha hb => ?_)
    · by_cases e : a = i
      · right
        rw [e]
        exact (Vy.2.2.2.1 i (by omega)).mpr ⟨bg_bitm hR (by omega) iR, ty⟩
      · left
        exact (Vx.2.1 a ha).mpr ⟨hb, xz a ha e⟩
    · by_cases e : a = j
      · right
        rw [e]
        exact (Vx.2.2.2.1 j (by omega)).mpr ⟨bg_bitm hC (by omega) jC, tx⟩
      · left
        exact (Vy.2.1 a ha).mpr ⟨hb, yz a ha e⟩
  obtain ⟨k0, hk0, ek⟩ := bg_mem_getD mx
  obtain ⟨l0, hl0, el⟩ := bg_mem_getD my
  have hm : (k0, l0) ∈ bg_EE R C A B := bg_E_mem.mpr ⟨hk0, hl0, by
    show bg_fit ((bg_cone (bg_ls A B 0 0) (bg_m R) (bg_m C)).getD k0 bg_d0).2 ((bg_cone (bg_ls A B 1 0) (bg_m C) (bg_m R)).getD l0 bg_d0).2 (bg_m R) (bg_m C) = true
    rw [ek, el]
    exact hf⟩
  obtain ⟨k, hk, e⟩ := bg_memP_getD hm
  have e0 : bg_edge R C A B k 0 = x := by
    unfold bg_edge
    rw [if_pos rfl, e]
    exact ek
  have e1 : bg_edge R C A B k 1 = y := by
    unfold bg_edge
    rw [if_neg (by decide), e]
    exact el
  rw [← e0] at xi xz
  rw [← e1] at yj yz
  have ux := bg_un_of (show i < 3 by omega) xi xz
  have uy := bg_un_of (show j < 3 by omega) yj yz
  exact ⟨k, hk, ux.1, uy.1, ux.2, uy.2⟩
/-- the listed pure equilibria are the pure equilibria -/
theorem bg_T4 {R C : Nat} {A B : Nat → Nat → Int} (hg : bg_gm R C A B) {f t : Nat}
    (hf : ∀ b, f.testBit b = true ↔ ∃ k, k < (bg_EE R C A B).length ∧ bg_un (bg_edge R C A B k 0) ∧ bg_un (bg_edge R C A B k 1) ∧ b = 3 * bg_ui (bg_edge R C A B k 0) + bg_ui (bg_edge R C A B k 1))
    (ht : ∀ b, t.testBit b = true ↔ ∃ i j, i < R ∧ j < C ∧ bg_nash R C A B i j ∧ b = 3 * i + j) : f = t := by
  apply Nat.eq_of_testBit_eq
  intro b
  rw [Bool.eq_iff_iff, hf b, ht b]
  constructor
  · rintro ⟨k, hk, hx, hy, e⟩
    have h := bg_T4f hg hk hx hy
    exact ⟨_, _, h.1, h.2.1, h.2.2, e⟩
  · rintro ⟨i, j, hi, hj, hn, e⟩
    obtain ⟨k, hk, hx, hy, e1, e2⟩ := bg_T4b hg hi hj hn
    exact ⟨k, hk, hx, hy, by rw [e1, e2]; exact e⟩
theorem bg_ui_lt {r : bg_Ray} (hS : 0 < bg_S r) (hb : ∀ c, c < 3 → r.1 c ≤ 1296) (h : bg_un r) : bg_ui r < 3 := by
  obtain ⟨c, hc, _, _, e⟩ := bg_unit_c hS hb h
  omega
end
end
section
section
theorem bg_mul_b {a : Int} {b M N : Nat} (h1 : -(M : Int) ≤ a) (h2 : a ≤ M) (hb : b ≤ N) : -((M * N : Nat) : Int) ≤ a * (b : Int) ∧ a * (b : Int) ≤ ((M * N : Nat) : Int) := by
  have u1 : a * (b : Int) ≤ (M : Int) * (b : Int) := Int.mul_le_mul_of_nonneg_right h2 (by omega)
  have u2 : -(M : Int) * (b : Int) ≤ a * (b : Int) := Int.mul_le_mul_of_nonneg_right h1 (by omega)
  have u3 : M * b ≤ M * N := Nat.mul_le_mul_left M hb
  rw [Int.neg_mul] at u2
  rw [← Int.natCast_mul] at u1 u2
  omega
theorem bg_prod {a : Int} {b : Nat} (h1 : -2 ^ 30 ≤ a) (h2 : a < 2 ^ 30) (hb : b < 2 ^ 31) : (bg_I a).toInt64 * (nI b).toInt64 = bg_L (a * (b : Int)) := by
  rw [bg_I64 h1 h2, nI_l hb, bg_L_N, bg_L_mul]
theorem bg_holds79 {R C : Nat} {A B : Nat → Nat → Int} (hg : bg_gm R C A B) {post : Int32 → St1 → Prop} {J70} {t f k : Nat} (hk : k < (bg_EE R C A B).length)
    (HN : ¬ (bg_un (bg_edge R C A B k 0) ∧ bg_un (bg_edge R C A B k 1)) → ∀ {fr fc fm fo ft fl fn : Int32} {fp fq : Int64} {a1 a2 : Nat → Int32} {a3 : Nat → Int64} {a4 : Nat → Int32} {a5 : Nat → Int64} {a6 : Nat → Int32} {a7 : Nat → Int64} {a8 a9 a10 : Nat → Int32}, bg_G R C A B (fr, fc, fm, fo, ft, fl, fn, fp, fq, a1, a2, a3, a4, a5, a6, a7, a8, a9, a10) → J70 (nI f) (nI (k + 1)) fr fc fm fo ft fl fn fp fq a1 a2 a3 a4 a5 a6 a7 a8 a9 a10)
    (HY : bg_un (bg_edge R C A B k 0) → bg_un (bg_edge R C A B k 1) → ∀ {fr fc fm fo ft fl fn : Int32} {fp fq : Int64} {a1 a2 : Nat → Int32} {a3 : Nat → Int64} {a4 : Nat → Int32} {a5 : Nat → Int64} {a6 : Nat → Int32} {a7 : Nat → Int64} {a8 a9 a10 : Nat → Int32}, bg_G R C A B (fr, fc, fm, fo, ft, fl, fn, fp, fq, a1, a2, a3, a4, a5, a6, a7, a8, a9, a10) → J70 (nI (f ||| 2 ^ (3 * bg_ui (bg_edge R C A B k 0) + bg_ui (bg_edge R C A B k 1)))) (nI (k + 1)) fr fc fm fo ft fl fn fp fq a1 a2 a3 a4 a5 a6 a7 a8 a9 a10)
    (u : St1) (hu : bg_G R C A B u) : ∃ fu, wL_holds_79 post J70 (nI (bg_EE R C A B).length) (nI t) (nI f) (nI k) fu 0 (u.1) (u.2.1) (u.2.2.1) (u.2.2.2.1) (u.2.2.2.2.1) (u.2.2.2.2.2.1) (u.2.2.2.2.2.2.1) (u.2.2.2.2.2.2.2.1) (u.2.2.2.2.2.2.2.2.1) (u.2.2.2.2.2.2.2.2.2.1) (u.2.2.2.2.2.2.2.2.2.2.1) (u.2.2.2.2.2.2.2.2.2.2.2.1) (u.2.2.2.2.2.2.2.2.2.2.2.2.1) (u.2.2.2.2.2.2.2.2.2.2.2.2.2.1) (u.2.2.2.2.2.2.2.2.2.2.2.2.2.2.1) (u.2.2.2.2.2.2.2.2.2.2.2.2.2.2.2.1) (u.2.2.2.2.2.2.2.2.2.2.2.2.2.2.2.2.1) (u.2.2.2.2.2.2.2.2.2.2.2.2.2.2.2.2.2.1) (u.2.2.2.2.2.2.2.2.2.2.2.2.2.2.2.2.2.2) := by
  refine pk_loop (fun m s u => wL_holds_79 post J70 (nI (bg_EE R C A B).length) (nI t) (nI f) (nI k) m (nI s) (u.1) (u.2.1) (u.2.2.1) (u.2.2.2.1) (u.2.2.2.2.1) (u.2.2.2.2.2.1) (u.2.2.2.2.2.2.1) (u.2.2.2.2.2.2.2.1) (u.2.2.2.2.2.2.2.2.1) (u.2.2.2.2.2.2.2.2.2.1) (u.2.2.2.2.2.2.2.2.2.2.1) (u.2.2.2.2.2.2.2.2.2.2.2.1) (u.2.2.2.2.2.2.2.2.2.2.2.2.1) (u.2.2.2.2.2.2.2.2.2.2.2.2.2.1) (u.2.2.2.2.2.2.2.2.2.2.2.2.2.2.1) (u.2.2.2.2.2.2.2.2.2.2.2.2.2.2.2.1) (u.2.2.2.2.2.2.2.2.2.2.2.2.2.2.2.2.1) (u.2.2.2.2.2.2.2.2.2.2.2.2.2.2.2.2.2.1) (u.2.2.2.2.2.2.2.2.2.2.2.2.2.2.2.2.2.2)) (fun _ u => bg_G R C A B u) 2 0 u (by omega) hu ?_ ?_
  · intro m u hu
    obtain ⟨fr, fc, fm, fo, ft, fl, fn, fp, fq, a1, a2, a3, a4, a5, a6, a7, a8, a9, a10⟩ := u
    obtain ⟨_, Sx, bx⟩ := bg_edge_V hg (side := 0) (by omega) hk
    obtain ⟨_, Sy, bb⟩ := bg_edge_V hg (side := 1) (by omega) hk
    have sx := bg_S_b bx
    have sy := bg_S_b bb
    have qx : bg_S (bg_edge R C A B k 0) / bg_g3 (bg_edge R C A B k 0).1 ≤ bg_S (bg_edge R C A B k 0) := Nat.div_le_self _ _
    have qy : bg_S (bg_edge R C A B k 1) / bg_g3 (bg_edge R C A B k 1).1 ≤ bg_S (bg_edge R C A B k 1) := Nat.div_le_self _ _
    refine pk_le 2 2 (fun _ => ?_) (fun z => absurd z (by omega))
    refine bg_whole hg hu (side := 0) (by omega) hk (fun v hv => ?_)
    obtain ⟨frx, fcx, fmx, fox, ftx, flx, fnx, fpx, fqx, a1x, a2x, a3x, a4x, a5x, a6x, a7x, a8x, a9x, a10x⟩ := v
    refine pk_eq (bg_S (bg_edge R C A B k 0) / bg_g3 (bg_edge R C A B k 0).1) 1 (fun z => ?_) (fun z => nm_r (nI_1 k) (HN (fun h => z h.1) (bg_GL_G hv)))
    refine bg_whole hg (bg_GL_G hv) (side := 1) (by omega) hk (fun v hv => ?_)
    obtain ⟨fry, fcy, fmy, foy, fty, fly, fny, fpy, fqy, a1y, a2y, a3y, a4y, a5y, a6y, a7y, a8y, a9y, a10y⟩ := v
    refine pk_eq (bg_S (bg_edge R C A B k 1) / bg_g3 (bg_edge R C A B k 1).1) 1 (fun z2 => ?_) (fun z2 => nm_r (nI_1 k) (HN (fun h => z2 h.2) (bg_GL_G hv)))
    have ux := bg_ui_lt Sx bx z
    have uy := bg_ui_lt Sy bb z2
    have e1 : ∀ a b : Nat, nI a + 2 * nI b = nI (a + 2 * b) := by
      intro a b
      show nI a + nI 2 * nI b = _
      rw [pk_mul, nI_add]
    refine bg_part hg (bg_GL_G hv) (side := 0) (i := 1) (by omega) (by omega) hk (fun v hv => ?_)
    obtain ⟨frz, fcz, fmz, foz, ftz, flz, fnz, fpz, fqz, a1z, a2z, a3z, a4z, a5z, a6z, a7z, a8z, a9z, a10z⟩ := v
    refine bg_part hg (bg_GL_G hv) (side := 0) (i := 2) (by omega) (by omega) hk (fun v hv => ?_)
    obtain ⟨frw, fcw, fmw, fow, ftw, flw, fnw, fpw, fqw, a1w, a2w, a3w, a4w, a5w, a6w, a7w, a8w, a9w, a10w⟩ := v
    refine nm_r (e' := nI (bg_ui (bg_edge R C A B k 0))) (e1 _ _) ?_
    refine bg_part hg (bg_GL_G hv) (side := 1) (i := 1) (by omega) (by omega) hk (fun v hv => ?_)
    obtain ⟨frq, fcq, fmq, foq, ftq, flq, fnq, fpq, fqq, a1q, a2q, a3q, a4q, a5q, a6q, a7q, a8q, a9q, a10q⟩ := v
    refine bg_part hg (bg_GL_G hv) (side := 1) (i := 2) (by omega) (by omega) hk (fun v hv => ?_)
    obtain ⟨frp, fcp, fmp, fop, ftp, flp, fnp, fpp, fqp, a1p, a2p, a3p, a4p, a5p, a6p, a7p, a8p, a9p, a10p⟩ := v
    refine nm_r (e' := nI (bg_ui (bg_edge R C A B k 1))) (e1 _ _) ?_
    refine nm_r (e' := nI (f ||| 2 ^ (3 * bg_ui (bg_edge R C A B k 0) + bg_ui (bg_edge R C A B k 1)))) (by rw [bg_ix3, bg_sh9_all _ (by omega), bg_nor]) (nm_r (nI_1 k) (HY z z2 (bg_GL_G hv)))
  · intro m s u hs hu hw
    obtain ⟨fr, fc, fm, fo, ft, fl, fn, fp, fq, a1, a2, a3, a4, a5, a6, a7, a8, a9, a10⟩ := u
    have bd := bg_val_b hg hk hs
    have du := bg_duality hg hk hs
    refine pk_le 2 s (fun z => absurd z (by omega)) (fun _ => ?_)
    refine bg_getsTop hg hu hs hk (fun v hv => ?_)
    obtain ⟨frx, fcx, fmx, fox, ftx, flx, fnx, fpx, fqx, a1x, a2x, a3x, a4x, a5x, a6x, a7x, a8x, a9x, a10x⟩ := v
    refine bg_sureBottom hg (bg_GL_G hv) hs (fun v hv => ?_)
    obtain ⟨fry, fcy, fmy, foy, fty, fly, fny, fpy, fqy, a1y, a2y, a3y, a4y, a5y, a6y, a7y, a8y, a9y, a10y⟩ := v
    refine nm_r (bg_prod (by omega) (by omega) (by omega)) ?_
    refine bg_sureTop hg (bg_G0_G hv) hs (fun v hv => ?_)
    obtain ⟨frz, fcz, fmz, foz, ftz, flz, fnz, fpz, fqz, a1z, a2z, a3z, a4z, a5z, a6z, a7z, a8z, a9z, a10z⟩ := v
    refine bg_getsBottom hg (bg_G0_G hv) hs hk (fun v hv => ?_)
    obtain ⟨frw, fcw, fmw, fow, ftw, flw, fnw, fpw, fqw, a1w, a2w, a3w, a4w, a5w, a6w, a7w, a8w, a9w, a10w⟩ := v
    refine nm_r (bg_prod (by omega) (by omega) (by omega)) ?_
    have m1 := bg_mul_b (M := 136048896) (N := 15116544) bd.1.1 bd.1.2 bd.2.2.2
    have m2 := bg_mul_b (M := 136048896) (N := 15116544) bd.2.2.1.1 bd.2.2.1.2 bd.2.1
    refine br_t ((bg_L_le (by omega) (by omega) (by omega) (by omega)).mpr du) (nm_r (nI_1 s) (hw (frw, fcw, fmw, fow, ftw, flw, fnw, fpw, fqw, a1w, a2w, a3w, a4w, a5w, a6w, a7w, a8w, a9w, a10w) (bg_GL_G hv)))
theorem bg_l7_all : ∀ a, a < 8 → ∀ b, b < 8 → nI (a ||| (b <<< 3)) &&& 7 = nI a ∧ nI (a ||| (b <<< 3)) >>> ((3 : Int32) &&& 31) = nI b := by decide +kernel
theorem bg_not_all : ∀ a, a < 8 → ∀ b, b < 8 → (a &&& b = a) → (nI a &&& (nI b ^^^ (-1))) = 0 := by decide +kernel
theorem bg_sub_and {a b : Nat} (h : ∀ i, a.testBit i = true → b.testBit i = true) : a &&& b = a := by
  apply Nat.eq_of_testBit_eq
  intro i
  rw [Nat.testBit_and]
  cases e : a.testBit i with
  | false => simp
  | true => rw [h i e]; rfl
theorem bg_holds {R C : Nat} {A B : Nat → Nat → Int} (hg : bg_gm R C A B) {post : Int32 → St1 → Prop} {u : St1} (hu : bg_G R C A B u) (H : ∀ v, bg_G R C A B v → post 1 v) : wpL_holds post u := by
  obtain ⟨fr, fc, fm, fo, ft, fl, fn, fp, fq, a1, a2, a3, a4, a5, a6, a7, a8, a9, a10⟩ := u
  have n63 := bg_EE_len hg
  have n0 := bg_EE_pos hg
  have hl := bg_left_in hg
  have r := bg_m_all R (by have := hg.1; omega) (by have := hg.1; omega)
  have c := bg_m_all C (by have := hg.2.1; omega) (by have := hg.2.1; omega)
  have p0 := bg_rep_in hg.2.2 (side := 0) r.2.1 r.2.2.1 c.2.1 c.2.2.1
  have p1 := bg_rep_in hg.2.2 (side := 1) r.2.1 r.2.2.1 c.2.1 c.2.2.1
  have p0l : bg_rep A B (bg_m R) (bg_m C) 0 ≤ bg_m R := p0.2.1
  have p1l : bg_rep A B (bg_m R) (bg_m C) 1 ≤ bg_m C := p1.2.1
  have l7 := bg_l7_all (bg_left R C A B).1 hl.2.1 (bg_left R C A B).2 hl.2.2.2.1
  unfold wpL_holds
  refine bg_equilibria hg hu (fun v hv => ?_)
  obtain ⟨frx, fcx, fmx, fox, ftx, flx, fnx, fpx, fqx, a1x, a2x, a3x, a4x, a5x, a6x, a7x, a8x, a9x, a10x⟩ := v
  refine bg_pure hg (bg_GL_G hv) (fun t t512 ht => ?_)
  refine bg_leftW hg (bg_GL_G hv) (fun v hv => ?_)
  obtain ⟨fry, fcy, fmy, foy, fty, fly, fny, fpy, fqy, a1y, a2y, a3y, a4y, a5y, a6y, a7y, a8y, a9y, a10y⟩ := v
  refine br_f (nI_nlt (b := 1) (by omega) (by omega)) ?_
  refine bg_replies hg (bg_G0_G hv) (side := 0) (by omega) (fun v hv => ?_)
  obtain ⟨frz, fcz, fmz, foz, ftz, flz, fnz, fpz, fqz, a1z, a2z, a3z, a4z, a5z, a6z, a7z, a8z, a9z, a10z⟩ := v
  refine br_t ?_ ?_
  · rw [l7.1]
    exact bg_not_all _ hl.2.1 _ (by omega) (bg_sub_and hl.2.2.2.2.1)
  refine bg_replies hg (bg_G0_G hv) (side := 1) (by omega) (fun v hv => ?_)
  obtain ⟨frw, fcw, fmw, fow, ftw, flw, fnw, fpw, fqw, a1w, a2w, a3w, a4w, a5w, a6w, a7w, a8w, a9w, a10w⟩ := v
  refine br_t ?_ (br_f ?_ (br_f ?_ ?_))
  · rw [l7.2]
    exact bg_not_all _ hl.2.2.2.1 _ (by omega) (bg_sub_and hl.2.2.2.2.2)
  · rw [l7.1]
    exact nI_ne0 hl.1 (by omega)
  · rw [l7.2]
    exact nI_ne0 hl.2.2.1 (by omega)
  refine pk_loop (fun n k s => wL_holds_70 post (nI (bg_EE R C A B).length) (nI t) n s.1 (nI k) (s.2.1) (s.2.2.1) (s.2.2.2.1) (s.2.2.2.2.1) (s.2.2.2.2.2.1) (s.2.2.2.2.2.2.1) (s.2.2.2.2.2.2.2.1) (s.2.2.2.2.2.2.2.2.1) (s.2.2.2.2.2.2.2.2.2.1) (s.2.2.2.2.2.2.2.2.2.2.1) (s.2.2.2.2.2.2.2.2.2.2.2.1) (s.2.2.2.2.2.2.2.2.2.2.2.2.1) (s.2.2.2.2.2.2.2.2.2.2.2.2.2.1) (s.2.2.2.2.2.2.2.2.2.2.2.2.2.2.1) (s.2.2.2.2.2.2.2.2.2.2.2.2.2.2.2.1) (s.2.2.2.2.2.2.2.2.2.2.2.2.2.2.2.2.1) (s.2.2.2.2.2.2.2.2.2.2.2.2.2.2.2.2.2.1) (s.2.2.2.2.2.2.2.2.2.2.2.2.2.2.2.2.2.2.1) (s.2.2.2.2.2.2.2.2.2.2.2.2.2.2.2.2.2.2.2))
    (fun k s => bg_G R C A B s.2 ∧ ∃ f, s.1 = nI f ∧ f < 512 ∧ ∀ b, f.testBit b = true ↔ ∃ k', k' < k ∧ bg_un (bg_edge R C A B k' 0) ∧ bg_un (bg_edge R C A B k' 1) ∧ b = 3 * bg_ui (bg_edge R C A B k' 0) + bg_ui (bg_edge R C A B k' 1))
    (bg_EE R C A B).length 0 (0, (frw, fcw, fmw, fow, ftw, flw, fnw, fpw, fqw, a1w, a2w, a3w, a4w, a5w, a6w, a7w, a8w, a9w, a10w)) (by omega) ⟨bg_G0_G hv, 0, rfl, by omega, fun b => by rw [Nat.zero_testBit]; exact ⟨fun h => absurd h (by decide), fun ⟨k', h, _⟩ => absurd h (by omega)⟩⟩ ?_ ?_
  · intro n s hI
    obtain ⟨s1, ⟨fr, fc, fm, fo, ft, fl, fn, fp, fq, a1, a2, a3, a4, a5, a6, a7, a8, a9, a10⟩⟩ := s
    obtain ⟨hG, f, e, hf, hb⟩ := hI
    dsimp only at e
    subst e
    have e := bg_T4 hg hb ht
    subst e
    exact pk_le (bg_EE R C A B).length (bg_EE R C A B).length (fun _ => br_t rfl (H _ hG)) (fun z => absurd z (by omega))
  · intro n k s hk hI hw
    obtain ⟨s1, u⟩ := s
    obtain ⟨hG, f, e, hf, hb⟩ := hI
    dsimp only at e hG
    subst e
    refine pk_le (bg_EE R C A B).length k (fun z => absurd z (by omega)) (fun _ => ?_)
    refine bg_holds79 hg hk (fun hn => ?_) (fun h1 h2 => ?_) u hG
    · intro fr fc fm fo ft fl fn fp fq a1 a2 a3 a4 a5 a6 a7 a8 a9 a10 hG'
      refine hw (nI f, (fr, fc, fm, fo, ft, fl, fn, fp, fq, a1, a2, a3, a4, a5, a6, a7, a8, a9, a10)) ⟨hG', f, rfl, hf, fun b => (hb b).trans ⟨fun ⟨k', q1, q2⟩ => ⟨k', by omega, q2⟩, fun ⟨k', q1, q2, q3, q4⟩ => ?_⟩⟩
      by_cases e : k' = k
      · rw [e] at q2 q3
        exact absurd ⟨q2, q3⟩ hn
      · exact ⟨k', by omega, q2, q3, q4⟩
    · intro fr fc fm fo ft fl fn fp fq a1 a2 a3 a4 a5 a6 a7 a8 a9 a10 hG'
      obtain ⟨_, Sx, bx⟩ := bg_edge_V hg (side := 0) (by omega) hk
      obtain ⟨_, Sy, bb⟩ := bg_edge_V hg (side := 1) (by omega) hk
      have ux := bg_ui_lt Sx bx h1
      have uy := bg_ui_lt Sy bb h2
      refine hw (_, (fr, fc, fm, fo, ft, fl, fn, fp, fq, a1, a2, a3, a4, a5, a6, a7, a8, a9, a10)) ⟨hG', _, rfl, bg_or9 hf (by omega), fun b => ?_⟩
      rw [Nat.testBit_or, Bool.or_eq_true, hb b, Nat.testBit_two_pow, decide_eq_true_eq]
      constructor
      · rintro (⟨k', q1, q2⟩ | q)
        · exact ⟨k', by omega, q2⟩
        · exact ⟨k, by omega, h1, h2, q.symm⟩
      · rintro ⟨k', q1, q2, q3, q4⟩
        by_cases e : k' = k
        · right
          rw [q4, e]
        · left
          exact ⟨k', by omega, q2, q3, q4⟩
end
end
section
section
theorem bg_I_N (n : Nat) : nI n = bg_I (n : Int) := rfl
theorem bg_I_sub (a b : Int) : bg_I a - bg_I b = bg_I (a - b) := (Int32.ofInt_sub a b).symm
theorem bg_minus (m d : Nat) : nI m - nI d = bg_I ((m : Int) - (d : Int)) := by
  rw [bg_I_N, bg_I_N, bg_I_sub]
theorem bg_and255 (x : Int32) : ∃ j : Nat, j < 256 ∧ x &&& 255 = nI j := pk_andE x 8 (by decide)
theorem bg_and1 (x : Int32) : ∃ j : Nat, j < 2 ∧ x &&& 1 = nI j := pk_andE x 1 (by decide)
theorem bg_rem {x : Int32} {j d : Nat} (e : x = nI j) (hj : j < 2 ^ 31) (h0 : 0 < d) (hd : d < 2 ^ 31) : x - x / nI d * nI d = nI (j % d) := by
  rw [e]
  exact pk_rem hj h0 hd
theorem bg_law58 {L : Nat} {xs : Nat → Int32} {kc ks : Nat} (hL : L ≤ 260) {R C : Nat} {A B : Nat → Nat → Int} (hg : bg_gm R C A B) (u : St1) (hu : bg_G R C A B u) :
    ∃ fu, wL_law_58 (fun r => r = 1) L xs kc ks fu 1 (u.1) (u.2.1) (u.2.2.1) (u.2.2.2.1) (u.2.2.2.2.1) (u.2.2.2.2.2.1) (u.2.2.2.2.2.2.1) (u.2.2.2.2.2.2.2.1) (u.2.2.2.2.2.2.2.2.1) (u.2.2.2.2.2.2.2.2.2.1) (u.2.2.2.2.2.2.2.2.2.2.1) (u.2.2.2.2.2.2.2.2.2.2.2.1) (u.2.2.2.2.2.2.2.2.2.2.2.2.1) (u.2.2.2.2.2.2.2.2.2.2.2.2.2.1) (u.2.2.2.2.2.2.2.2.2.2.2.2.2.2.1) (u.2.2.2.2.2.2.2.2.2.2.2.2.2.2.2.1) (u.2.2.2.2.2.2.2.2.2.2.2.2.2.2.2.2.1) (u.2.2.2.2.2.2.2.2.2.2.2.2.2.2.2.2.2.1) (u.2.2.2.2.2.2.2.2.2.2.2.2.2.2.2.2.2.2) := by
  refine pk_loop (fun n c u => wL_law_58 (fun r => r = 1) L xs kc ks n (nI (2 * c + 1)) (u.1) (u.2.1) (u.2.2.1) (u.2.2.2.1) (u.2.2.2.2.1) (u.2.2.2.2.2.1) (u.2.2.2.2.2.2.1) (u.2.2.2.2.2.2.2.1) (u.2.2.2.2.2.2.2.2.1) (u.2.2.2.2.2.2.2.2.2.1) (u.2.2.2.2.2.2.2.2.2.2.1) (u.2.2.2.2.2.2.2.2.2.2.2.1) (u.2.2.2.2.2.2.2.2.2.2.2.2.1) (u.2.2.2.2.2.2.2.2.2.2.2.2.2.1) (u.2.2.2.2.2.2.2.2.2.2.2.2.2.2.1) (u.2.2.2.2.2.2.2.2.2.2.2.2.2.2.2.1) (u.2.2.2.2.2.2.2.2.2.2.2.2.2.2.2.2.1) (u.2.2.2.2.2.2.2.2.2.2.2.2.2.2.2.2.2.1) (u.2.2.2.2.2.2.2.2.2.2.2.2.2.2.2.2.2.2)) (fun _ u => ∃ A B, bg_gm R C A B ∧ bg_G R C A B u) ((L - 1) / 2) 0 u (by omega) ⟨A, B, hg, hu⟩ ?_ ?_
  · intro n u _
    refine br_t ?_ rfl
    show nI L - nI 2 < nI (2 * ((L - 1) / 2) + 1)
    rw [Int32.lt_iff_toInt_lt, pk_sub_toInt (by omega) (by omega), nI_toInt (by omega)]
    omega
  · intro n c u hc hI hw
    obtain ⟨A, B, hg, hu⟩ := hI
    obtain ⟨fr, fc, fm, fo, ft, fl, fn, fp, fq, a1, a2, a3, a4, a5, a6, a7, a8, a9, a10⟩ := u
    have x1 : nI (2 * c + 1) + 1 = nI (2 * c + 2) := nI_1 _
    have x2 : nI (2 * c + 1) + 2 = nI (2 * (c + 1) + 1) := nI_add (2 * c + 1) 2
    refine br_f ?_ ⟨pk_in _ L (by omega) x1, fun w _ => ⟨by decide, ?_⟩⟩
    · show ¬ nI L - nI 2 < nI (2 * c + 1)
      rw [Int32.lt_iff_toInt_lt, pk_sub_toInt (by omega) (by omega), nI_toInt (by omega)]
      omega
    obtain ⟨j1, h1, e1⟩ := bg_and255 w
    obtain ⟨j2, h2, e2⟩ := bg_and255 (w >>> ((8 : Int32) &&& 31))
    obtain ⟨j3, h3, e3⟩ := bg_and255 (w >>> ((16 : Int32) &&& 31))
    obtain ⟨s1, g1, f1⟩ := bg_and1 (xs (nI (2 * c + 1)).toNatClampNeg)
    obtain ⟨s2, g2, f2⟩ := bg_and1 (xs (nI (2 * c + 1)).toNatClampNeg >>> ((1 : Int32) &&& 31))
    have hx := pk_in (x := nI (2 * c + 1)) (2 * c + 1) L (by omega)
    refine nm_r (bg_rem (d := 9) e1 (by omega) (by omega) (by omega)) ⟨hx, by decide, ?_⟩
    have m9 : j1 % 9 < 9 := Nat.mod_lt _ (by omega)
    have v2 : ((w >>> ((8 : Int32) &&& 31)) &&& 255) - ((w >>> ((8 : Int32) &&& 31)) &&& 255) / 19 * 19 - 9 = bg_I (((j2 % 19 : Nat) : Int) - 9) := by
      rw [show ((w >>> ((8 : Int32) &&& 31)) &&& 255) - ((w >>> ((8 : Int32) &&& 31)) &&& 255) / 19 * 19 = nI (j2 % 19) from bg_rem (d := 19) e2 (by omega) (by omega) (by omega)]
      exact bg_minus (j2 % 19) 9
    have v3 : ((w >>> ((16 : Int32) &&& 31)) &&& 255) - ((w >>> ((16 : Int32) &&& 31)) &&& 255) / 5 * 5 - 2 = bg_I (((j3 % 5 : Nat) : Int) - 2) := by
      rw [show ((w >>> ((16 : Int32) &&& 31)) &&& 255) - ((w >>> ((16 : Int32) &&& 31)) &&& 255) / 5 * 5 = nI (j3 % 5) from bg_rem (d := 5) e3 (by omega) (by omega) (by omega)]
      exact bg_minus (j3 % 5) 2
    have v4 : (nI (j1 % 9) + 4) - (nI (j1 % 9) + 4) / 9 * 9 = nI ((j1 % 9 + 4) % 9) := bg_rem (d := 9) (nI_add (j1 % 9) 4) (by omega) (by omega) (by omega)
    rw [f1, v2]
    refine bg_pay hg hu g1 m9 (by omega) (by omega) (fun _ v A B hg hv => ?_)
    obtain ⟨frx, fcx, fmx, fox, ftx, flx, fnx, fpx, fqx, a1x, a2x, a3x, a4x, a5x, a6x, a7x, a8x, a9x, a10x⟩ := v
    refine ⟨hx, by decide, by decide, ?_⟩
    rw [f2, v3, v4]
    refine bg_pay hg hv g2 (Nat.mod_lt _ (by omega)) (by omega) (by omega) (fun _ v A B hg hv => ?_)
    obtain ⟨fry, fcy, fmy, foy, fty, fly, fny, fpy, fqy, a1y, a2y, a3y, a4y, a5y, a6y, a7y, a8y, a9y, a10y⟩ := v
    refine bg_holds hg hv (fun v hv => ?_)
    obtain ⟨frz, fcz, fmz, foz, ftz, flz, fnz, fpz, fqz, a1z, a2z, a3z, a4z, a5z, a6z, a7z, a8z, a9z, a10z⟩ := v
    refine br_f (by decide) ⟨hx, br_c (fun _ => ?_) (fun _ => nm_r x2 (hw (frz, fcz, fmz, foz, ftz, flz, fnz, fpz, fqz, a1z, a2z, a3z, a4z, a5z, a6z, a7z, a8z, a9z, a10z) ⟨A, B, hg, hv⟩))⟩
    have hl := bg_left_in hg
    have l7 := bg_l7_all (bg_left R C A B).1 hl.2.1 (bg_left R C A B).2 hl.2.2.2.1
    have l8 := bg_l7_all (bg_left R C A B).2 hl.2.2.2.1 (bg_left R C A B).1 hl.2.1
    refine bg_sumL hg hv (side := 0) (by omega) (fun v hv => ?_)
    obtain ⟨frb, fcb, fmb, fob, ftb, flb, fnb, fpb, fqb, a1b, a2b, a3b, a4b, a5b, a6b, a7b, a8b, a9b, a10b⟩ := v
    refine bg_sumL hg (bg_G0_G hv) (side := 1) (by omega) (fun v hv => ?_)
    obtain ⟨frc, fcc, fmc, foc, ftc, flc, fnc, fpc, fqc, a1c, a2c, a3c, a4c, a5c, a6c, a7c, a8c, a9c, a10c⟩ := v
    refine bg_equilibria hg (bg_G0_G hv) (fun v hv => ?_)
    obtain ⟨frd, fcd, fmd, fod, ftd, fld, fnd, fpd, fqd, a1d, a2d, a3d, a4d, a5d, a6d, a7d, a8d, a9d, a10d⟩ := v
    refine bg_leftW hg (bg_GL_G hv) (fun v hv => ?_)
    obtain ⟨fre, fce, fme, foe, fte, fle, fne, fpe, fqe, a1e, a2e, a3e, a4e, a5e, a6e, a7e, a8e, a9e, a10e⟩ := v
    refine bg_exchange hg (bg_G0_G hv) (fun v hv => ?_)
    obtain ⟨frf, fcf, fmf, fof, ftf, flf, fnf, fpf, fqf, a1f, a2f, a3f, a4f, a5f, a6f, a7f, a8f, a9f, a10f⟩ := v
    have hg2 := bg_gm_tr hg
    refine bg_leftW hg2 (bg_G0_G hv) (fun v hv => ?_)
    obtain ⟨frg, fcg, fmg, fog, ftg, flg, fng, fpg, fqg, a1g, a2g, a3g, a4g, a5g, a6g, a7g, a8g, a9g, a10g⟩ := v
    refine bg_equilibria hg2 (bg_G0_G hv) (fun v hv => ?_)
    obtain ⟨frh, fch, fmh, foh, fth, flh, fnh, fph, fqh, a1h, a2h, a3h, a4h, a5h, a6h, a7h, a8h, a9h, a10h⟩ := v
    refine br_t (by rw [bg_tr_len]) (br_t ?_ (br_t ?_ ?_))
    · rw [bg_tr_left, l8.2, l7.1]
    · rw [bg_tr_left, l8.1, l7.2]
    refine bg_exchange hg2 (bg_GL_G hv) (fun v hv => ?_)
    have hv2 : bg_G0 R C A B v := hv
    obtain ⟨fri, fci, fmi, foi, fti, fli, fni, fpi, fqi, a1i, a2i, a3i, a4i, a5i, a6i, a7i, a8i, a9i, a10i⟩ := v
    refine bg_sumL hg (bg_G0_G hv2) (side := 0) (by omega) (fun v hv => ?_)
    obtain ⟨frj, fcj, fmj, foj, ftj, flj, fnj, fpj, fqj, a1j, a2j, a3j, a4j, a5j, a6j, a7j, a8j, a9j, a10j⟩ := v
    refine br_t rfl ?_
    refine bg_sumL hg (bg_G0_G hv) (side := 1) (by omega) (fun v hv => ?_)
    obtain ⟨frk, fck, fmk, fok, ftk, flk, fnk, fpk, fqk, a1k, a2k, a3k, a4k, a5k, a6k, a7k, a8k, a9k, a10k⟩ := v
    exact br_t rfl (nm_r x2 (hw (frk, fck, fmk, fok, ftk, flk, fnk, fpk, fqk, a1k, a2k, a3k, a4k, a5k, a6k, a7k, a8k, a9k, a10k) ⟨A, B, hg, bg_G0_G hv⟩))
theorem bg_gm0 {R C : Nat} (hR : 1 ≤ R ∧ R ≤ 3) (hC : 1 ≤ C ∧ C ≤ 3) : bg_gm R C (fun _ _ => 0) (fun _ _ => 0) := by
  refine ⟨hR, hC, ?_⟩
  intro s i j _ _ _
  unfold bg_py
  dsimp only
  split <;> decide
theorem bg_law44 {L : Nat} {xs : Nat → Int32} (hL : L ≤ 260) {R C : Nat} (hR : 1 ≤ R ∧ R ≤ 3) (hC : 1 ≤ C ∧ C ≤ 3) : wL_law_44 (fun r => r = 1) L xs (nI R) (nI C) 0 0 := by
  unfold wL_law_44
  refine ⟨by omega, by omega, 10, 541, by omega, by omega, ?_⟩
  unfold wpX_init
  refine ⟨by omega, by omega, by omega, by omega, by omega, by omega, by omega, by omega, by omega, by omega, by omega, by omega, by omega, by omega, by omega, by omega, by omega, by omega, by omega, by omega, ?_⟩
  refine pk_le 1 R (fun _ => pk_le R 3 (fun _ => ?_) (fun z => absurd z (by omega))) (fun z => absurd z (by omega))
  unfold wX_init_104
  refine pk_le 1 C (fun _ => pk_le C 3 (fun _ => ?_) (fun z => absurd z (by omega))) (fun z => absurd z (by omega))
  exact bg_law58 hL (bg_gm0 hR hC) (nI R, nI C, 0, 0, 0, 0, 0, 0, 0, (fun _ => 0), (fun _ => 0), (fun _ => 0), (fun _ => 0), (fun _ => 0), (fun _ => 0), (fun _ => 0), (fun _ => 0), (fun _ => 0), (fun _ => 0))
    ⟨rfl, rfl, fun s i j _ _ _ => by unfold bg_py; split <;> rfl, Or.inl rfl⟩
theorem bg_one3 {x : Int32} : ∃ R : Nat, (1 ≤ R ∧ R ≤ 3) ∧ 1 + ((x &&& 255) - (x &&& 255) / 3 * 3) = nI R := by
  obtain ⟨j, hj, e⟩ := bg_and255 x
  have m : j % 3 < 3 := Nat.mod_lt _ (by omega)
  refine ⟨1 + j % 3, by omega, ?_⟩
  rw [show (x &&& 255) - (x &&& 255) / 3 * 3 = nI (j % 3) from bg_rem (d := 3) e (by omega) (by omega) (by omega)]
  exact nI_add 1 (j % 3)
end
theorem i_vc (xs : Nat → Int32) (L : Nat) (hL : L ≤ 260) : wpL_law (fun r => r = 1) L xs := by
  unfold wpL_law
  refine pk_le L 0 (fun z => ?_) (fun z => ⟨pk_in 0 L (by omega), by decide, ?_⟩)
  · unfold wL_law_20
    exact pk_le L 0 (fun _ => bg_law44 hL (R := 2) (C := 2) (by omega) (by omega)) (fun w => absurd z (by omega))
  · obtain ⟨R, hR, eR⟩ := bg_one3 (x := xs (0 : Int32).toNatClampNeg)
    obtain ⟨C, hC, eC⟩ := bg_one3 (x := xs (0 : Int32).toNatClampNeg >>> ((8 : Int32) &&& 31))
    rw [eR]
    unfold wL_law_20
    refine pk_le L 0 (fun w => absurd z (by omega)) (fun w => ⟨pk_in 0 L (by omega), by decide, ?_⟩)
    rw [eC]
    exact bg_law44 hL hR hC
end
